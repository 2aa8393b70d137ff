section
/-! rows of the kit's PURE-ROWS (a starting text), then own rows -/
theorem pk_us {f : Nat → Int32} {k : Nat} {x : Int32} : upd f k x k = x := if_pos rfl
theorem pk_un {f : Nat → Int32} {k j : Nat} {x : Int32} (h : j ≠ k) : upd f k x j = f j := if_neg h
theorem pk_uLs {f : Nat → Int64} {k : Nat} {x : Int64} : vp_updL f k x k = x := if_pos rfl
theorem pk_uLn {f : Nat → Int64} {k j : Nat} {x : Int64} (h : j ≠ k) : vp_updL f k x j = f j := if_neg h
theorem pk_sub {a b : Nat} (h : b ≤ a) : nI a - nI b = nI (a - b) := by
  obtain ⟨c, rfl⟩ : ∃ c, a = c + b := ⟨a - b, by omega⟩
  rw [← nI_add, Int32.add_sub_cancel, Nat.add_sub_cancel]
theorem pk_m1 (n : Nat) : nI (n + 1) + (-1) = nI n := by
  rw [← nI_1, Int32.add_assoc, show (1 : Int32) + (-1) = 0 from rfl, Int32.add_zero]
theorem pk_mul (a b : Nat) : nI a * nI b = nI (a * b) := (Int32.ofNat_mul a b).symm
theorem pk_sub_toInt {a b : Nat} (ha : a < 2 ^ 30) (hb : b < 2 ^ 30) : (nI a - nI b).toInt = (a : Int) - b := by
  rw [Int32.toInt_sub, nI_toInt (by omega), nI_toInt (by omega)]
  exact Int.bmod_eq_of_le (by omega) (by omega)
theorem pk_sneg {a b : Nat} (hb : b < 2 ^ 30) (h : a < b) : nI a - nI b < 0 := by
  rw [Int32.lt_iff_toInt_lt, pk_sub_toInt (by omega) hb, show (0 : Int32).toInt = 0 from by decide]
  omega
theorem pk_ix (x : Int32) {n : Nat} (hn : n < 2 ^ 31) : x < 0 ∨ nI n ≤ x ∨ ∃ j : Nat, j < n ∧ x = nI j := by
  by_cases h : x < 0
  · exact Or.inl h
  · obtain ⟨j, hj, rfl⟩ := nI_of h
    by_cases h2 : j < n
    · exact Or.inr (Or.inr ⟨j, h2, rfl⟩)
    · exact Or.inr (Or.inl (nI_le (by omega) hj))
theorem pk_le {x y : Int32} {A B : Prop} (a b : Nat) (f : a ≤ b → A) (g : b < a → B) (hx : x = nI a := by rfl) (hy : y = nI b := by rfl) (ha : a < 2 ^ 31 := by omega) (hb : b < 2 ^ 31 := by omega) : (x ≤ y → A) ∧ (¬ x ≤ y → B) := by
  subst hx hy
  rw [nI_leI ha hb]
  exact ⟨f, fun z => g (by omega)⟩
theorem pk_lt {x y : Int32} {A B : Prop} (a b : Nat) (f : a < b → A) (g : b ≤ a → B) (hx : x = nI a := by rfl) (hy : y = nI b := by rfl) (ha : a < 2 ^ 31 := by omega) (hb : b < 2 ^ 31 := by omega) : (x < y → A) ∧ (¬ x < y → B) := by
  subst hx hy
  rw [nI_ltI ha hb]
  exact ⟨f, fun z => g (by omega)⟩
theorem pk_eq {x y : Int32} {A B : Prop} (a b : Nat) (f : a = b → A) (g : a ≠ b → B) (hx : x = nI a := by rfl) (hy : y = nI b := by rfl) (ha : a < 2 ^ 31 := by omega) (hb : b < 2 ^ 31 := by omega) : (x = y → A) ∧ (¬ x = y → B) := by
  subst hx hy
  rw [nI_eq ha hb]
  exact ⟨f, g⟩
theorem pk_in {x : Int32} (n N : Nat) (h : n < N) (hx : x = nI n := by rfl) (hN : N < 2 ^ 31 := by omega) : vp_in x N := by
  subst hx
  exact vp_in_nI h hN
theorem pk_cl {x : Int32} (n : Nat) (hx : x = nI n := by rfl) (h : n < 2 ^ 31 := by omega) : x.toNatClampNeg = n := by
  subst hx
  exact nI_clamp h
theorem pk_tn {n : Nat} (h : n < 2 ^ 32) : (nI n).toBitVec.toNat = n := Nat.mod_eq_of_lt h
theorem pk_and (x : Int32) {m : Int32} (k : Nat) (hm : m.toBitVec.toNat = 2 ^ k - 1) : x &&& m = nI (x.toBitVec.toNat % 2 ^ k) := by
  apply Int32.toBitVec_inj.mp
  apply BitVec.eq_of_toNat_eq
  rw [Int32.toBitVec_and, BitVec.toNat_and, hm, Nat.and_two_pow_sub_one_eq_mod]
  show _ = (BitVec.ofNat 32 _).toNat
  rw [BitVec.toNat_ofNat]
  exact (Nat.mod_eq_of_lt (Nat.lt_of_le_of_lt (Nat.mod_le _ _) x.toBitVec.isLt)).symm
end
section
/-! tokens (kind, value) in preorder; forests; depths; erasing, shifting, substituting -/
abbrev dk_T : Type := Int32 × Int32
def dk_kd (k : Int32) : List Nat := if k = 4 then [0] else if k = 6 then [0, 1] else if k = 7 then [0, 1] else if k = 8 then [0, 0] else if k = 9 then [0, 1, 0, 0] else if k = 11 then [1] else []
def dk_ar (k : Int32) : Nat := (dk_kd k).length
theorem dk_ar4 (k : Int32) : dk_ar k ≤ 4 := by
  unfold dk_ar dk_kd
  repeat' split
  all_goals decide
/-- l is n terms, one behind another -/
def dk_fo : List dk_T → Nat → Prop
  | [], n => n = 0
  | t :: l, n => 0 < n ∧ dk_fo l (n - 1 + dk_ar t.1)
theorem dk_fo_nil : dk_fo [] 0 := rfl
theorem dk_fo0 {l : List dk_T} (h : dk_fo l 0) : l = [] := by
  cases l with
  | nil => rfl
  | cons t l => exact absurd h.1 (by omega)
theorem dk_fo_cons {t : dk_T} {l : List dk_T} {n : Nat} (h : dk_fo l (n + dk_ar t.1)) : dk_fo (t :: l) (n + 1) := ⟨by omega, h⟩
theorem dk_fo_app : ∀ {a b : List dk_T} {n m : Nat}, dk_fo a n → dk_fo b m → dk_fo (a ++ b) (n + m) := by
  intro a
  induction a with
  | nil => intro b n m h1 h2; cases h1; rw [Nat.zero_add]; exact h2
  | cons t a ih =>
    intro b n m h1 h2
    refine ⟨by have := h1.1; omega, ?_⟩
    have h := ih h1.2 h2
    have e : n + m - 1 + dk_ar t.1 = n - 1 + dk_ar t.1 + m := by have := h1.1; omega
    rw [e]; exact h
theorem dk_fo_split : ∀ {l : List dk_T} {n m : Nat}, dk_fo l (n + m) → ∃ a b, l = a ++ b ∧ dk_fo a n ∧ dk_fo b m := by
  intro l
  induction l with
  | nil => intro n m h; have h : n + m = 0 := h; exact ⟨[], [], rfl, by show n = 0; omega, by show m = 0; omega⟩
  | cons t l ih =>
    intro n m h
    by_cases hn : n = 0
    · subst hn; rw [Nat.zero_add] at h; exact ⟨[], t :: l, rfl, rfl, h⟩
    · have e : n + m - 1 + dk_ar t.1 = n - 1 + dk_ar t.1 + m := by omega
      have h2 := h.2
      rw [e] at h2
      obtain ⟨a, b, e1, ha, hb⟩ := ih h2
      exact ⟨t :: a, b, by rw [e1]; rfl, ⟨by omega, ha⟩, hb⟩
theorem dk_fo_pre : ∀ {a b r s : List dk_T} {n : Nat}, dk_fo a n → dk_fo b n → a ++ r = b ++ s → a = b ∧ r = s := by
  intro a
  induction a with
  | nil => intro b r s n h1 h2 e; cases h1; cases dk_fo0 h2; exact ⟨rfl, e⟩
  | cons t a ih =>
    intro b r s n h1 h2 e
    cases b with
    | nil => have h2 : n = 0 := h2; exact absurd h1.1 (by omega)
    | cons t' b =>
      have e : t :: (a ++ r) = t' :: (b ++ s) := e
      injection e with e1 e2
      subst e1
      obtain ⟨e3, e4⟩ := ih h1.2 h2.2 e2
      exact ⟨by rw [e3], e4⟩
theorem dk_fo_len : ∀ {l : List dk_T} {n : Nat}, dk_fo l n → n ≤ l.length := by
  intro l
  induction l with
  | nil => intro n h; have h : n = 0 := h; simp; omega
  | cons t l ih => intro n h; have := ih h.2; have := h.1; simp; omega
theorem dk_fo_pos {l : List dk_T} {n : Nat} (h : dk_fo l (n + 1)) : ∃ t l', l = t :: l' ∧ dk_fo l' (n + dk_ar t.1) := by
  cases l with
  | nil => exact absurd (show n + 1 = 0 from h) (by omega)
  | cons t l => exact ⟨t, l, rfl, h.2⟩
/-- a suffix of a forest is a forest -/
theorem dk_fo_suf : ∀ {a b : List dk_T} {n : Nat}, dk_fo (a ++ b) n → b ≠ [] → ∃ m, 0 < m ∧ dk_fo b m := by
  intro a
  induction a with
  | nil =>
    intro b n h hb
    refine ⟨n, ?_, h⟩
    cases b with
    | nil => exact absurd rfl hb
    | cons t b => exact h.1
  | cons t a ih => intro b n h hb; exact ih h.2 hb
theorem dk_fo_kids : ∀ {n : Nat} {l : List dk_T}, dk_fo l n → ∃ cs : List (List dk_T), cs.length = n ∧ cs.flatten = l ∧ ∀ c ∈ cs, dk_fo c 1 := by
  intro n
  induction n with
  | zero => intro l h; cases dk_fo0 h; exact ⟨[], rfl, rfl, by simp⟩
  | succ n ih =>
    intro l h
    rw [Nat.add_comm] at h
    obtain ⟨a, b, e, ha, hb⟩ := dk_fo_split h
    obtain ⟨cs, e1, e2, h3⟩ := ih hb
    refine ⟨a :: cs, by simp [e1], by simp [e2, e], ?_⟩
    intro c hc
    rcases List.mem_cons.mp hc with h | h
    · rw [h]; exact ha
    · exact h3 c h
theorem dk_fo_flat : ∀ {cs : List (List dk_T)}, (∀ c ∈ cs, dk_fo c 1) → dk_fo cs.flatten cs.length := by
  intro cs
  induction cs with
  | nil => intro _; rfl
  | cons c cs ih =>
    intro h
    have h2 := dk_fo_app (h c (by simp)) (ih (fun c hc => h c (by simp [hc])))
    rw [Nat.add_comm] at h2
    simpa using h2
theorem dk_kids_inj : ∀ {cs ds : List (List dk_T)} {r s : List dk_T}, (∀ c ∈ cs, dk_fo c 1) → (∀ c ∈ ds, dk_fo c 1) → cs.length = ds.length → cs.flatten ++ r = ds.flatten ++ s → cs = ds := by
  intro cs
  induction cs with
  | nil => intro ds r s _ _ h _; cases ds with
    | nil => rfl
    | cons d ds => simp at h
  | cons c cs ih =>
    intro ds r s h1 h2 h e
    cases ds with
    | nil => simp at h
    | cons d ds =>
      have e : c ++ (cs.flatten ++ r) = d ++ (ds.flatten ++ s) := by simpa using e
      obtain ⟨e1, e2⟩ := dk_fo_pre (h1 c (by simp)) (h2 d (by simp)) e
      rw [e1, ih (fun c hc => h1 c (by simp [hc])) (fun c hc => h2 c (by simp [hc])) (by simpa using h) e2]
/-- the length of the first n terms of l -/
def dk_sk : List dk_T → Nat → Nat
  | [], _ => 0
  | t :: l, n => if n = 0 then 0 else 1 + dk_sk l (n - 1 + dk_ar t.1)
theorem dk_sk_fo : ∀ {a b : List dk_T} {n : Nat}, dk_fo a n → dk_sk (a ++ b) n = a.length := by
  intro a
  induction a with
  | nil => intro b n h; cases h; cases b with
    | nil => rfl
    | cons t b => rfl
  | cons t a ih =>
    intro b n h
    show (if n = 0 then 0 else 1 + dk_sk (a ++ b) (n - 1 + dk_ar t.1)) = _
    rw [if_neg (by have := h.1; omega), ih h.2]
    simp; omega
/-- the binders above each token -/
def dk_dp : List dk_T → List Nat → List Nat
  | [], _ => []
  | _ :: _, [] => []
  | t :: l, d :: st => d :: dk_dp l ((dk_kd t.1).map (· + d) ++ st)
theorem dk_dp_len : ∀ {l : List dk_T} {st : List Nat}, dk_fo l st.length → (dk_dp l st).length = l.length := by
  intro l
  induction l with
  | nil => intro st _; rfl
  | cons t l ih =>
    intro st h
    cases st with
    | nil => exact absurd h.1 (by simp)
    | cons d st =>
      show (dk_dp l ((dk_kd t.1).map (· + d) ++ st)).length + 1 = l.length + 1
      rw [ih]
      have h2 := h.2
      have e : (d :: st).length - 1 + dk_ar t.1 = ((dk_kd t.1).map (· + d) ++ st).length := by
        simp [dk_ar]; omega
      rw [e] at h2; exact h2
theorem dk_dp_map (c : Nat) : ∀ {l : List dk_T} {st : List Nat}, dk_dp l (st.map (· + c)) = (dk_dp l st).map (· + c) := by
  intro l
  induction l with
  | nil => intro st; rfl
  | cons t l ih =>
    intro st
    cases st with
    | nil => rfl
    | cons d st =>
      show (d + c) :: dk_dp l ((dk_kd t.1).map (· + (d + c)) ++ st.map (· + c)) = (d + c) :: (dk_dp l ((dk_kd t.1).map (· + d) ++ st)).map (· + c)
      rw [← ih, List.map_append, List.map_map]
      congr 3
      apply List.map_congr_left
      intro x _
      show x + (d + c) = x + d + c
      omega
theorem dk_dp_app : ∀ {a b : List dk_T} {st st' : List Nat}, dk_fo a st.length → dk_dp (a ++ b) (st ++ st') = dk_dp a st ++ dk_dp b st' := by
  intro a
  induction a with
  | nil => intro b st st' h; cases st with
    | nil => rfl
    | cons d st => exact absurd (show st.length + 1 = 0 from h) (by omega)
  | cons t a ih =>
    intro b st st' h
    cases st with
    | nil => exact absurd h.1 (by simp)
    | cons d st =>
      show d :: dk_dp (a ++ b) ((dk_kd t.1).map (· + d) ++ (st ++ st')) = d :: (dk_dp a ((dk_kd t.1).map (· + d) ++ st) ++ dk_dp b st')
      rw [← ih, List.append_assoc]
      have h2 := h.2
      have e : (d :: st).length - 1 + dk_ar t.1 = ((dk_kd t.1).map (· + d) ++ st).length := by
        simp [dk_ar]; omega
      rw [e] at h2; exact h2
/-- the stack behind a prefix -/
theorem dk_dp_pre : ∀ {a b : List dk_T} {st : List Nat}, dk_fo (a ++ b) st.length → ∃ st', dk_fo b st'.length ∧ dk_dp (a ++ b) st = dk_dp a st ++ dk_dp b st' ∧ (dk_dp a st).length = a.length := by
  intro a
  induction a with
  | nil => intro b st h; exact ⟨st, h, rfl, rfl⟩
  | cons t a ih =>
    intro b st h
    cases st with
    | nil => exact absurd h.1 (by simp)
    | cons d st =>
      have h2 := h.2
      have e : (d :: st).length - 1 + dk_ar t.1 = ((dk_kd t.1).map (· + d) ++ st).length := by
        simp [dk_ar]; omega
      rw [e] at h2
      obtain ⟨st', h3, h4, h5⟩ := ih h2
      exact ⟨st', h3, congrArg (d :: ·) h4, by
        show (dk_dp a ((dk_kd t.1).map (· + d) ++ st)).length + 1 = a.length + 1
        rw [h5]⟩
theorem dk_dp_one {l : List dk_T} (d : Nat) : dk_dp l [d] = (dk_dp l [0]).map (· + d) := by
  rw [← dk_dp_map]; simp
/-- a subterm's depths within the whole -/
theorem dk_dp_sub {pre S suf : List dk_T} (h : dk_fo (pre ++ S ++ suf) 1) (hS : dk_fo S 1) : ∃ (d0 : Nat) (x y : List Nat), dk_dp (pre ++ S ++ suf) [0] = x ++ (dk_dp S [0]).map (· + d0) ++ y ∧ x.length = pre.length := by
  rw [List.append_assoc] at h
  obtain ⟨st, h1, h2, h3⟩ := dk_dp_pre (st := [0]) h
  cases st with
  | nil =>
    cases S with
    | nil => exact absurd (show (1 : Nat) = 0 from hS) (by omega)
    | cons t S => exact absurd h1.1 (by simp)
  | cons d st =>
    have h4 := dk_dp_app (a := S) (b := suf) (st := [d]) (st' := st) hS
    refine ⟨d, _, dk_dp suf st, ?_, h3⟩
    rw [← dk_dp_one, List.append_assoc, List.append_assoc, h2]
    exact congrArg _ h4
end
section
/-! the operations on tokens -/
def dk_z (S : List dk_T) : List (dk_T × Nat) := S.zip (dk_dp S [0])
/-- x[i ..] is l -/
def dk_sg {α : Type} (f : Nat → α) : Nat → List α → Prop
  | _, [] => True
  | i, x :: l => f i = x ∧ dk_sg f (i + 1) l
theorem dk_sg_app {α : Type} {f : Nat → α} : ∀ {a b : List α} {i : Nat}, dk_sg f i (a ++ b) ↔ dk_sg f i a ∧ dk_sg f (i + a.length) b := by
  intro a
  induction a with
  | nil => intro b i; simp [dk_sg]
  | cons x a ih =>
    intro b i
    show (f i = x ∧ dk_sg f (i + 1) (a ++ b)) ↔ (f i = x ∧ dk_sg f (i + 1) a) ∧ dk_sg f (i + (a.length + 1)) b
    rw [ih, and_assoc, show i + 1 + a.length = i + (a.length + 1) from by omega]
theorem dk_sg_get {α : Type} {f : Nat → α} : ∀ {l : List α} {i j : Nat}, dk_sg f i l → (h : j < l.length) → f (i + j) = l[j] := by
  intro l
  induction l with
  | nil => intro i j _ h; exact absurd h (by simp)
  | cons x l ih =>
    intro i j h hj
    cases j with
    | zero => exact h.1
    | succ j =>
      have := ih (i := i + 1) (j := j) h.2 (by simpa using hj)
      rw [show i + 1 + j = i + (j + 1) from by omega] at this
      simpa using this
theorem dk_sg_of {α : Type} {f : Nat → α} : ∀ {l : List α} {i : Nat}, (∀ j, (h : j < l.length) → f (i + j) = l[j]) → dk_sg f i l := by
  intro l
  induction l with
  | nil => intro i _; trivial
  | cons x l ih =>
    intro i h
    refine ⟨h 0 (by simp), ih (fun j hj => ?_)⟩
    have := h (j + 1) (by simpa using hj)
    rw [show i + 1 + j = i + (j + 1) from by omega]
    simpa using this
theorem dk_sg_congr {α : Type} {f g : Nat → α} : ∀ {l : List α} {i : Nat}, dk_sg f i l → (∀ j, i ≤ j → j < i + l.length → g j = f j) → dk_sg g i l := by
  intro l
  induction l with
  | nil => intro i _ _; trivial
  | cons x l ih =>
    intro i h e
    exact ⟨(e i (by omega) (by simp)).trans h.1, ih h.2 (fun j h1 h2 => e j (by omega) (by simp at h2 ⊢; omega))⟩
theorem dk_sg_map {α β : Type} {f : Nat → α} (g : α → β) : ∀ {l : List α} {i : Nat}, dk_sg f i l → dk_sg (fun j => g (f j)) i (l.map g) := by
  intro l
  induction l with
  | nil => intro i _; trivial
  | cons x l ih => intro i h; exact ⟨congrArg g h.1, ih h.2⟩
theorem dk_sg_inj {α : Type} {f : Nat → α} : ∀ {a b : List α} {i : Nat}, dk_sg f i a → dk_sg f i b → a.length = b.length → a = b := by
  intro a
  induction a with
  | nil => intro b i _ _ h; cases b with
    | nil => rfl
    | cons x b => simp at h
  | cons x a ih =>
    intro b i h1 h2 h
    cases b with
    | nil => simp at h
    | cons y b => rw [← h1.1, ← h2.1, ih h1.2 h2.2 (by simpa using h)]
/-! shift, substitution, the step's type, occurrence -/
def dk_sf (b : Int32) (p : dk_T × Nat) : dk_T := if p.1.1 = 5 ∧ ¬ p.1.2 < nI p.2 then (p.1.1, p.1.2 + b) else p.1
def dk_sh (b : Int32) (S : List dk_T) : List dk_T := (dk_z S).map (dk_sf b)
def dk_bf (Y : List dk_T) (p : dk_T × Nat) : List dk_T := if p.1.1 = 5 then (if p.1.2 = nI p.2 then dk_sh (nI p.2) Y else if p.1.2 < nI p.2 then [p.1] else [(5, p.1.2 - 1)]) else [p.1]
def dk_su (B Y : List dk_T) : List dk_T := (dk_z B).flatMap (dk_bf Y)
def dk_vf (p : dk_T × Nat) : List dk_T := if p.1.1 = 5 then (if p.1.2 = nI p.2 then [(4, 0), (5, nI p.2 + 1)] else if p.1.2 < nI p.2 then [p.1] else [(5, p.1.2 + 1)]) else [p.1]
def dk_vs (Q : List dk_T) : List dk_T := (dk_z Q).flatMap dk_vf
def dk_oc (S : List dk_T) (x : Int32) : Bool := (dk_z S).any (fun p => decide (p.1.1 = 5) && decide (p.1.2 - nI p.2 = x))
theorem dk_z_map {S : List dk_T} (h : dk_fo S 1) : (dk_z S).map (·.1) = S := by
  unfold dk_z
  rw [List.map_fst_zip]
  rw [dk_dp_len (st := [0]) h]; omega
theorem dk_z_len {S : List dk_T} (h : dk_fo S 1) : (dk_z S).length = S.length := by
  rw [← List.length_map (f := (·.1)), dk_z_map h]
theorem dk_fo_kind : ∀ {a b : List dk_T} {n : Nat}, a.map (·.1) = b.map (·.1) → dk_fo a n → dk_fo b n := by
  intro a
  induction a with
  | nil => intro b n e h; cases b with
    | nil => exact h
    | cons t b => simp at e
  | cons t a ih =>
    intro b n e h
    cases b with
    | nil => simp at e
    | cons t' b =>
      simp at e
      refine ⟨h.1, ih e.2 ?_⟩
      rw [← e.1]; exact h.2
/-- a piece that may stand for a token with k children -/
def dk_pc (p : List dk_T) (k : Nat) : Prop := ∀ (r : List dk_T) (m : Nat), dk_fo r (m + k) → dk_fo (p ++ r) (m + 1)
theorem dk_pc_one (t : dk_T) : dk_pc [t] (dk_ar t.1) := fun _ _ h => ⟨by omega, h⟩
theorem dk_pc_fo {S : List dk_T} (h : dk_fo S 1) : dk_pc S 0 := fun r m hr => by
  rw [Nat.add_comm]; exact dk_fo_app h hr
theorem dk_fo_fm {α : Type} (g : α → dk_T) (f : α → List dk_T) : ∀ {l : List α} {n : Nat}, dk_fo (l.map g) n → (∀ x ∈ l, dk_pc (f x) (dk_ar (g x).1)) → dk_fo (l.flatMap f) n := by
  intro l
  induction l with
  | nil => intro n h _; exact h
  | cons x l ih =>
    intro n h hp
    rw [List.flatMap_cons]
    have h1 := ih h.2 (fun y hy => hp y (by simp [hy]))
    have h2 := hp x (by simp) _ _ h1
    rw [show n - 1 + 1 = n from by have := h.1; omega] at h2
    exact h2
theorem dk_ar5 : dk_ar 5 = 0 := by decide
theorem dk_sh_fo {b : Int32} {S : List dk_T} (h : dk_fo S 1) : dk_fo (dk_sh b S) 1 := by
  refine dk_fo_kind ?_ h
  conv => lhs; rw [← dk_z_map h]
  unfold dk_sh
  rw [List.map_map, List.map_map]
  apply List.map_congr_left
  intro p _
  show p.1.1 = (dk_sf b p).1
  unfold dk_sf
  split <;> rfl
theorem dk_sh_len {b : Int32} {S : List dk_T} (h : dk_fo S 1) : (dk_sh b S).length = S.length := by
  unfold dk_sh; rw [List.length_map, dk_z_len h]
theorem dk_su_fo {B Y : List dk_T} (h : dk_fo B 1) (hY : dk_fo Y 1) : dk_fo (dk_su B Y) 1 := by
  have h1 := h
  rw [← dk_z_map h] at h1
  refine dk_fo_fm _ _ h1 ?_
  intro p _
  unfold dk_bf
  split
  · rename_i e
    show dk_pc _ (dk_ar p.1.1)
    rw [e, dk_ar5]
    split
    · exact dk_pc_fo (dk_sh_fo hY)
    · split
      · exact dk_pc_fo ⟨by omega, by show _ = 0; rw [e]; decide⟩
      · exact dk_pc_fo ⟨by omega, by show 1 - 1 + dk_ar 5 = 0; decide⟩
  · exact dk_pc_one _
theorem dk_vs_fo {Q : List dk_T} (h : dk_fo Q 1) : dk_fo (dk_vs Q) 1 := by
  have h1 := h
  rw [← dk_z_map h] at h1
  refine dk_fo_fm _ _ h1 ?_
  intro p _
  unfold dk_vf
  split
  · rename_i e
    show dk_pc _ (dk_ar p.1.1)
    rw [e, dk_ar5]
    split
    · exact dk_pc_fo ⟨by omega, by show 0 < _ ∧ _ = 0; simp only []; decide⟩
    · split
      · exact dk_pc_fo ⟨by omega, by show _ = 0; rw [e]; decide⟩
      · exact dk_pc_fo ⟨by omega, by show 1 - 1 + dk_ar 5 = 0; decide⟩
  · exact dk_pc_one _
/-! erasing -/
def dk_er : List dk_T → Nat → List dk_T
  | [], _ => []
  | _ :: l, s + 1 => dk_er l s
  | t :: l, 0 => if t.1 = 7 then (11, t.2) :: dk_er l (dk_sk l 1) else t :: dk_er l 0
theorem dk_er_skip : ∀ {a b : List dk_T}, dk_er (a ++ b) a.length = dk_er b 0 := by
  intro a
  induction a with
  | nil => intro b; rfl
  | cons t a ih => intro b; exact ih
theorem dk_ar7 : dk_ar 7 = 2 := by decide
theorem dk_er_app : ∀ (k : Nat) {a b : List dk_T} {n : Nat}, a.length ≤ k → dk_fo a n → dk_er (a ++ b) 0 = dk_er a 0 ++ dk_er b 0 := by
  intro k
  induction k with
  | zero => intro a b n hk h; cases a with
    | nil => rfl
    | cons t a => simp at hk
  | succ k ih =>
    intro a b n hk h
    cases a with
    | nil => rfl
    | cons t a =>
      show (if t.1 = 7 then (11, t.2) :: dk_er (a ++ b) (dk_sk (a ++ b) 1) else t :: dk_er (a ++ b) 0) = (if t.1 = 7 then (11, t.2) :: dk_er a (dk_sk a 1) else t :: dk_er a 0) ++ dk_er b 0
      by_cases e : t.1 = 7
      · rw [if_pos e, if_pos e]
        have h2 := h.2
        rw [e, dk_ar7, show n - 1 + 2 = 1 + n from by have := h.1; omega] at h2
        obtain ⟨a1, a2, e1, h3, h4⟩ := dk_fo_split h2
        subst e1
        have s1 := dk_sk_fo (b := a2) h3
        rw [s1, List.append_assoc, dk_sk_fo h3, dk_er_skip, dk_er_skip, ih (by simp at hk; omega) h4]
        rfl
      · rw [if_neg e, if_neg e, ih (by simpa using hk) h.2]
        rfl
theorem dk_er_app' {a b : List dk_T} {n : Nat} (h : dk_fo a n) : dk_er (a ++ b) 0 = dk_er a 0 ++ dk_er b 0 := dk_er_app _ (Nat.le_refl _) h
theorem dk_er_lam {t : dk_T} {a b : List dk_T} (e : t.1 = 7) (h : dk_fo a 1) : dk_er (t :: (a ++ b)) 0 = (11, t.2) :: dk_er b 0 := by
  show (if t.1 = 7 then (11, t.2) :: dk_er (a ++ b) (dk_sk (a ++ b) 1) else _) = _
  rw [if_pos e, dk_sk_fo h, dk_er_skip]
theorem dk_er_cons {t : dk_T} {a : List dk_T} (e : ¬ t.1 = 7) : dk_er (t :: a) 0 = t :: dk_er a 0 := by
  show (if t.1 = 7 then _ else _) = _
  rw [if_neg e]
theorem dk_er_fo : ∀ (k : Nat) {a : List dk_T} {n : Nat}, a.length ≤ k → dk_fo a n → dk_fo (dk_er a 0) n := by
  intro k
  induction k with
  | zero => intro a n hk h; cases a with
    | nil => exact h
    | cons t a => simp at hk
  | succ k ih =>
    intro a n hk h
    cases a with
    | nil => exact h
    | cons t a =>
      by_cases e : t.1 = 7
      · have h2 := h.2
        rw [e, dk_ar7, show n - 1 + 2 = 1 + n from by have := h.1; omega] at h2
        obtain ⟨a1, a2, e1, h3, h4⟩ := dk_fo_split h2
        subst e1
        rw [dk_er_lam e h3]
        refine ⟨h.1, ?_⟩
        rw [show n - 1 + dk_ar ((11 : Int32), t.2).1 = n from by have := h.1; show n - 1 + dk_ar 11 = n; rw [show dk_ar 11 = 1 from by decide]; omega]
        exact ih (by simp at hk; omega) h4
      · rw [dk_er_cons e]
        exact ⟨h.1, ih (by simpa using hk) h.2⟩
theorem dk_er_fo' {a : List dk_T} {n : Nat} (h : dk_fo a n) : dk_fo (dk_er a 0) n := dk_er_fo _ (Nat.le_refl _) h
theorem dk_er_len : ∀ {a : List dk_T} {s : Nat}, (dk_er a s).length ≤ a.length := by
  intro a
  induction a with
  | nil => intro s; simp [dk_er]
  | cons t a ih =>
    intro s
    cases s with
    | zero =>
      show (if t.1 = 7 then (11, t.2) :: dk_er a (dk_sk a 1) else t :: dk_er a 0).length ≤ a.length + 1
      split
      · have := ih (s := dk_sk a 1); simp; omega
      · have := ih (s := 0); simp; omega
    | succ s => have := ih (s := s); show (dk_er a s).length ≤ a.length + 1; omega
theorem dk_er_mem : ∀ {a : List dk_T} {s : Nat} {t : dk_T}, t ∈ dk_er a s → t ∈ a ∨ ∃ q ∈ a, q.1 = 7 ∧ t = (11, q.2) := by
  intro a
  induction a with
  | nil => intro s t h; simp [dk_er] at h
  | cons x a ih =>
    intro s t h
    have lift : ∀ {s}, t ∈ dk_er a s → t ∈ x :: a ∨ ∃ q ∈ x :: a, q.1 = 7 ∧ t = (11, q.2) := by
      intro s h
      rcases ih h with h | ⟨q, h1, h2⟩
      · exact Or.inl (by simp [h])
      · exact Or.inr ⟨q, by simp [h1], h2⟩
    cases s with
    | succ s => exact lift h
    | zero =>
      have h : t ∈ (if x.1 = 7 then (11, x.2) :: dk_er a (dk_sk a 1) else x :: dk_er a 0) := h
      split at h
      · rename_i e
        rcases List.mem_cons.mp h with h | h
        · exact Or.inr ⟨x, by simp, e, h⟩
        · exact lift h
      · rcases List.mem_cons.mp h with h | h
        · exact Or.inl (by simp [h])
        · exact lift h
end
section
def xg_pending (u : SX) : Int32 := u.1
def xg_nodeLimit (u : SX) : Int32 := u.2.1
def xg_weightLimit (u : SX) : Int32 := u.2.2.1
def xg_fuelLimit (u : SX) : Int32 := u.2.2.2.1
def xg_entryLimit (u : SX) : Int32 := u.2.2.2.2.1
def xg_count (u : SX) : Int32 := u.2.2.2.2.2.1
def xg_base (u : SX) : Int32 := u.2.2.2.2.2.2.1
def xg_entryCount (u : SX) : Int32 := u.2.2.2.2.2.2.2.1
def xg_tickCount (u : SX) : Int32 := u.2.2.2.2.2.2.2.2.1
def xg_blameNode (u : SX) : Int32 := u.2.2.2.2.2.2.2.2.2.1
def xg_curLen (u : SX) : Int32 := u.2.2.2.2.2.2.2.2.2.2.1
def xg_outLen (u : SX) : Int32 := u.2.2.2.2.2.2.2.2.2.2.2.1
def xg_outCap (u : SX) : Int32 := u.2.2.2.2.2.2.2.2.2.2.2.2.1
def xg_outOver (u : SX) : Int32 := u.2.2.2.2.2.2.2.2.2.2.2.2.2.1
def xg_frameTop (u : SX) : Int32 := u.2.2.2.2.2.2.2.2.2.2.2.2.2.2.1
def xg_answer (u : SX) : Int32 := u.2.2.2.2.2.2.2.2.2.2.2.2.2.2.2.1
def xg_contextLen (u : SX) : Int32 := u.2.2.2.2.2.2.2.2.2.2.2.2.2.2.2.2.1
def xg_kind (u : SX) : Nat → Int32 := u.2.2.2.2.2.2.2.2.2.2.2.2.2.2.2.2.2.1
def xg_part (u : SX) : Nat → Int32 := u.2.2.2.2.2.2.2.2.2.2.2.2.2.2.2.2.2.2.1
def xg_heavy (u : SX) : Nat → Int32 := u.2.2.2.2.2.2.2.2.2.2.2.2.2.2.2.2.2.2.2.1
def xg_entryBody (u : SX) : Nat → Int32 := u.2.2.2.2.2.2.2.2.2.2.2.2.2.2.2.2.2.2.2.2.1
def xg_entryClaim (u : SX) : Nat → Int32 := u.2.2.2.2.2.2.2.2.2.2.2.2.2.2.2.2.2.2.2.2.2.1
def xg_entryType (u : SX) : Nat → Int32 := u.2.2.2.2.2.2.2.2.2.2.2.2.2.2.2.2.2.2.2.2.2.2.1
def xg_curKind (u : SX) : Nat → Int32 := u.2.2.2.2.2.2.2.2.2.2.2.2.2.2.2.2.2.2.2.2.2.2.2.1
def xg_curVal (u : SX) : Nat → Int32 := u.2.2.2.2.2.2.2.2.2.2.2.2.2.2.2.2.2.2.2.2.2.2.2.2.1
def xg_curDepth (u : SX) : Nat → Int32 := u.2.2.2.2.2.2.2.2.2.2.2.2.2.2.2.2.2.2.2.2.2.2.2.2.2.1
def xg_outKind (u : SX) : Nat → Int32 := u.2.2.2.2.2.2.2.2.2.2.2.2.2.2.2.2.2.2.2.2.2.2.2.2.2.2.1
def xg_outVal (u : SX) : Nat → Int32 := u.2.2.2.2.2.2.2.2.2.2.2.2.2.2.2.2.2.2.2.2.2.2.2.2.2.2.2.1
def xg_pend (u : SX) : Nat → Int32 := u.2.2.2.2.2.2.2.2.2.2.2.2.2.2.2.2.2.2.2.2.2.2.2.2.2.2.2.2.1
def xg_openPos (u : SX) : Nat → Int32 := u.2.2.2.2.2.2.2.2.2.2.2.2.2.2.2.2.2.2.2.2.2.2.2.2.2.2.2.2.2.1
def xg_openLeft (u : SX) : Nat → Int32 := u.2.2.2.2.2.2.2.2.2.2.2.2.2.2.2.2.2.2.2.2.2.2.2.2.2.2.2.2.2.2.1
def xg_made (u : SX) : Nat → Int32 := u.2.2.2.2.2.2.2.2.2.2.2.2.2.2.2.2.2.2.2.2.2.2.2.2.2.2.2.2.2.2.2.1
def xg_frameNode (u : SX) : Nat → Int32 := u.2.2.2.2.2.2.2.2.2.2.2.2.2.2.2.2.2.2.2.2.2.2.2.2.2.2.2.2.2.2.2.2.1
def xg_frameStep (u : SX) : Nat → Int32 := u.2.2.2.2.2.2.2.2.2.2.2.2.2.2.2.2.2.2.2.2.2.2.2.2.2.2.2.2.2.2.2.2.2.1
def xg_frameKeep (u : SX) : Nat → Int32 := u.2.2.2.2.2.2.2.2.2.2.2.2.2.2.2.2.2.2.2.2.2.2.2.2.2.2.2.2.2.2.2.2.2.2.1
def xg_context (u : SX) : Nat → Int32 := u.2.2.2.2.2.2.2.2.2.2.2.2.2.2.2.2.2.2.2.2.2.2.2.2.2.2.2.2.2.2.2.2.2.2.2
def xs_pending (e : Int32) (u : SX) : SX := (e, u.2.1, u.2.2.1, u.2.2.2.1, u.2.2.2.2.1, u.2.2.2.2.2.1, u.2.2.2.2.2.2.1, u.2.2.2.2.2.2.2.1, u.2.2.2.2.2.2.2.2.1, u.2.2.2.2.2.2.2.2.2.1, u.2.2.2.2.2.2.2.2.2.2.1, u.2.2.2.2.2.2.2.2.2.2.2.1, u.2.2.2.2.2.2.2.2.2.2.2.2.1, u.2.2.2.2.2.2.2.2.2.2.2.2.2.1, u.2.2.2.2.2.2.2.2.2.2.2.2.2.2.1, u.2.2.2.2.2.2.2.2.2.2.2.2.2.2.2.1, u.2.2.2.2.2.2.2.2.2.2.2.2.2.2.2.2.1, u.2.2.2.2.2.2.2.2.2.2.2.2.2.2.2.2.2.1, u.2.2.2.2.2.2.2.2.2.2.2.2.2.2.2.2.2.2.1, u.2.2.2.2.2.2.2.2.2.2.2.2.2.2.2.2.2.2.2.1, u.2.2.2.2.2.2.2.2.2.2.2.2.2.2.2.2.2.2.2.2.1, u.2.2.2.2.2.2.2.2.2.2.2.2.2.2.2.2.2.2.2.2.2.1, u.2.2.2.2.2.2.2.2.2.2.2.2.2.2.2.2.2.2.2.2.2.2.1, u.2.2.2.2.2.2.2.2.2.2.2.2.2.2.2.2.2.2.2.2.2.2.2.1, u.2.2.2.2.2.2.2.2.2.2.2.2.2.2.2.2.2.2.2.2.2.2.2.2.1, u.2.2.2.2.2.2.2.2.2.2.2.2.2.2.2.2.2.2.2.2.2.2.2.2.2.1, u.2.2.2.2.2.2.2.2.2.2.2.2.2.2.2.2.2.2.2.2.2.2.2.2.2.2.1, u.2.2.2.2.2.2.2.2.2.2.2.2.2.2.2.2.2.2.2.2.2.2.2.2.2.2.2.1, u.2.2.2.2.2.2.2.2.2.2.2.2.2.2.2.2.2.2.2.2.2.2.2.2.2.2.2.2.1, u.2.2.2.2.2.2.2.2.2.2.2.2.2.2.2.2.2.2.2.2.2.2.2.2.2.2.2.2.2.1, u.2.2.2.2.2.2.2.2.2.2.2.2.2.2.2.2.2.2.2.2.2.2.2.2.2.2.2.2.2.2.1, u.2.2.2.2.2.2.2.2.2.2.2.2.2.2.2.2.2.2.2.2.2.2.2.2.2.2.2.2.2.2.2.1, u.2.2.2.2.2.2.2.2.2.2.2.2.2.2.2.2.2.2.2.2.2.2.2.2.2.2.2.2.2.2.2.2.1, u.2.2.2.2.2.2.2.2.2.2.2.2.2.2.2.2.2.2.2.2.2.2.2.2.2.2.2.2.2.2.2.2.2.1, u.2.2.2.2.2.2.2.2.2.2.2.2.2.2.2.2.2.2.2.2.2.2.2.2.2.2.2.2.2.2.2.2.2.2.1, u.2.2.2.2.2.2.2.2.2.2.2.2.2.2.2.2.2.2.2.2.2.2.2.2.2.2.2.2.2.2.2.2.2.2.2)
def xs_nodeLimit (e : Int32) (u : SX) : SX := (u.1, e, u.2.2.1, u.2.2.2.1, u.2.2.2.2.1, u.2.2.2.2.2.1, u.2.2.2.2.2.2.1, u.2.2.2.2.2.2.2.1, u.2.2.2.2.2.2.2.2.1, u.2.2.2.2.2.2.2.2.2.1, u.2.2.2.2.2.2.2.2.2.2.1, u.2.2.2.2.2.2.2.2.2.2.2.1, u.2.2.2.2.2.2.2.2.2.2.2.2.1, u.2.2.2.2.2.2.2.2.2.2.2.2.2.1, u.2.2.2.2.2.2.2.2.2.2.2.2.2.2.1, u.2.2.2.2.2.2.2.2.2.2.2.2.2.2.2.1, u.2.2.2.2.2.2.2.2.2.2.2.2.2.2.2.2.1, u.2.2.2.2.2.2.2.2.2.2.2.2.2.2.2.2.2.1, u.2.2.2.2.2.2.2.2.2.2.2.2.2.2.2.2.2.2.1, u.2.2.2.2.2.2.2.2.2.2.2.2.2.2.2.2.2.2.2.1, u.2.2.2.2.2.2.2.2.2.2.2.2.2.2.2.2.2.2.2.2.1, u.2.2.2.2.2.2.2.2.2.2.2.2.2.2.2.2.2.2.2.2.2.1, u.2.2.2.2.2.2.2.2.2.2.2.2.2.2.2.2.2.2.2.2.2.2.1, u.2.2.2.2.2.2.2.2.2.2.2.2.2.2.2.2.2.2.2.2.2.2.2.1, u.2.2.2.2.2.2.2.2.2.2.2.2.2.2.2.2.2.2.2.2.2.2.2.2.1, u.2.2.2.2.2.2.2.2.2.2.2.2.2.2.2.2.2.2.2.2.2.2.2.2.2.1, u.2.2.2.2.2.2.2.2.2.2.2.2.2.2.2.2.2.2.2.2.2.2.2.2.2.2.1, u.2.2.2.2.2.2.2.2.2.2.2.2.2.2.2.2.2.2.2.2.2.2.2.2.2.2.2.1, u.2.2.2.2.2.2.2.2.2.2.2.2.2.2.2.2.2.2.2.2.2.2.2.2.2.2.2.2.1, u.2.2.2.2.2.2.2.2.2.2.2.2.2.2.2.2.2.2.2.2.2.2.2.2.2.2.2.2.2.1, u.2.2.2.2.2.2.2.2.2.2.2.2.2.2.2.2.2.2.2.2.2.2.2.2.2.2.2.2.2.2.1, u.2.2.2.2.2.2.2.2.2.2.2.2.2.2.2.2.2.2.2.2.2.2.2.2.2.2.2.2.2.2.2.1, u.2.2.2.2.2.2.2.2.2.2.2.2.2.2.2.2.2.2.2.2.2.2.2.2.2.2.2.2.2.2.2.2.1, u.2.2.2.2.2.2.2.2.2.2.2.2.2.2.2.2.2.2.2.2.2.2.2.2.2.2.2.2.2.2.2.2.2.1, u.2.2.2.2.2.2.2.2.2.2.2.2.2.2.2.2.2.2.2.2.2.2.2.2.2.2.2.2.2.2.2.2.2.2.1, u.2.2.2.2.2.2.2.2.2.2.2.2.2.2.2.2.2.2.2.2.2.2.2.2.2.2.2.2.2.2.2.2.2.2.2)
def xs_weightLimit (e : Int32) (u : SX) : SX := (u.1, u.2.1, e, u.2.2.2.1, u.2.2.2.2.1, u.2.2.2.2.2.1, u.2.2.2.2.2.2.1, u.2.2.2.2.2.2.2.1, u.2.2.2.2.2.2.2.2.1, u.2.2.2.2.2.2.2.2.2.1, u.2.2.2.2.2.2.2.2.2.2.1, u.2.2.2.2.2.2.2.2.2.2.2.1, u.2.2.2.2.2.2.2.2.2.2.2.2.1, u.2.2.2.2.2.2.2.2.2.2.2.2.2.1, u.2.2.2.2.2.2.2.2.2.2.2.2.2.2.1, u.2.2.2.2.2.2.2.2.2.2.2.2.2.2.2.1, u.2.2.2.2.2.2.2.2.2.2.2.2.2.2.2.2.1, u.2.2.2.2.2.2.2.2.2.2.2.2.2.2.2.2.2.1, u.2.2.2.2.2.2.2.2.2.2.2.2.2.2.2.2.2.2.1, u.2.2.2.2.2.2.2.2.2.2.2.2.2.2.2.2.2.2.2.1, u.2.2.2.2.2.2.2.2.2.2.2.2.2.2.2.2.2.2.2.2.1, u.2.2.2.2.2.2.2.2.2.2.2.2.2.2.2.2.2.2.2.2.2.1, u.2.2.2.2.2.2.2.2.2.2.2.2.2.2.2.2.2.2.2.2.2.2.1, u.2.2.2.2.2.2.2.2.2.2.2.2.2.2.2.2.2.2.2.2.2.2.2.1, u.2.2.2.2.2.2.2.2.2.2.2.2.2.2.2.2.2.2.2.2.2.2.2.2.1, u.2.2.2.2.2.2.2.2.2.2.2.2.2.2.2.2.2.2.2.2.2.2.2.2.2.1, u.2.2.2.2.2.2.2.2.2.2.2.2.2.2.2.2.2.2.2.2.2.2.2.2.2.2.1, u.2.2.2.2.2.2.2.2.2.2.2.2.2.2.2.2.2.2.2.2.2.2.2.2.2.2.2.1, u.2.2.2.2.2.2.2.2.2.2.2.2.2.2.2.2.2.2.2.2.2.2.2.2.2.2.2.2.1, u.2.2.2.2.2.2.2.2.2.2.2.2.2.2.2.2.2.2.2.2.2.2.2.2.2.2.2.2.2.1, u.2.2.2.2.2.2.2.2.2.2.2.2.2.2.2.2.2.2.2.2.2.2.2.2.2.2.2.2.2.2.1, u.2.2.2.2.2.2.2.2.2.2.2.2.2.2.2.2.2.2.2.2.2.2.2.2.2.2.2.2.2.2.2.1, u.2.2.2.2.2.2.2.2.2.2.2.2.2.2.2.2.2.2.2.2.2.2.2.2.2.2.2.2.2.2.2.2.1, u.2.2.2.2.2.2.2.2.2.2.2.2.2.2.2.2.2.2.2.2.2.2.2.2.2.2.2.2.2.2.2.2.2.1, u.2.2.2.2.2.2.2.2.2.2.2.2.2.2.2.2.2.2.2.2.2.2.2.2.2.2.2.2.2.2.2.2.2.2.1, u.2.2.2.2.2.2.2.2.2.2.2.2.2.2.2.2.2.2.2.2.2.2.2.2.2.2.2.2.2.2.2.2.2.2.2)
def xs_fuelLimit (e : Int32) (u : SX) : SX := (u.1, u.2.1, u.2.2.1, e, u.2.2.2.2.1, u.2.2.2.2.2.1, u.2.2.2.2.2.2.1, u.2.2.2.2.2.2.2.1, u.2.2.2.2.2.2.2.2.1, u.2.2.2.2.2.2.2.2.2.1, u.2.2.2.2.2.2.2.2.2.2.1, u.2.2.2.2.2.2.2.2.2.2.2.1, u.2.2.2.2.2.2.2.2.2.2.2.2.1, u.2.2.2.2.2.2.2.2.2.2.2.2.2.1, u.2.2.2.2.2.2.2.2.2.2.2.2.2.2.1, u.2.2.2.2.2.2.2.2.2.2.2.2.2.2.2.1, u.2.2.2.2.2.2.2.2.2.2.2.2.2.2.2.2.1, u.2.2.2.2.2.2.2.2.2.2.2.2.2.2.2.2.2.1, u.2.2.2.2.2.2.2.2.2.2.2.2.2.2.2.2.2.2.1, u.2.2.2.2.2.2.2.2.2.2.2.2.2.2.2.2.2.2.2.1, u.2.2.2.2.2.2.2.2.2.2.2.2.2.2.2.2.2.2.2.2.1, u.2.2.2.2.2.2.2.2.2.2.2.2.2.2.2.2.2.2.2.2.2.1, u.2.2.2.2.2.2.2.2.2.2.2.2.2.2.2.2.2.2.2.2.2.2.1, u.2.2.2.2.2.2.2.2.2.2.2.2.2.2.2.2.2.2.2.2.2.2.2.1, u.2.2.2.2.2.2.2.2.2.2.2.2.2.2.2.2.2.2.2.2.2.2.2.2.1, u.2.2.2.2.2.2.2.2.2.2.2.2.2.2.2.2.2.2.2.2.2.2.2.2.2.1, u.2.2.2.2.2.2.2.2.2.2.2.2.2.2.2.2.2.2.2.2.2.2.2.2.2.2.1, u.2.2.2.2.2.2.2.2.2.2.2.2.2.2.2.2.2.2.2.2.2.2.2.2.2.2.2.1, u.2.2.2.2.2.2.2.2.2.2.2.2.2.2.2.2.2.2.2.2.2.2.2.2.2.2.2.2.1, u.2.2.2.2.2.2.2.2.2.2.2.2.2.2.2.2.2.2.2.2.2.2.2.2.2.2.2.2.2.1, u.2.2.2.2.2.2.2.2.2.2.2.2.2.2.2.2.2.2.2.2.2.2.2.2.2.2.2.2.2.2.1, u.2.2.2.2.2.2.2.2.2.2.2.2.2.2.2.2.2.2.2.2.2.2.2.2.2.2.2.2.2.2.2.1, u.2.2.2.2.2.2.2.2.2.2.2.2.2.2.2.2.2.2.2.2.2.2.2.2.2.2.2.2.2.2.2.2.1, u.2.2.2.2.2.2.2.2.2.2.2.2.2.2.2.2.2.2.2.2.2.2.2.2.2.2.2.2.2.2.2.2.2.1, u.2.2.2.2.2.2.2.2.2.2.2.2.2.2.2.2.2.2.2.2.2.2.2.2.2.2.2.2.2.2.2.2.2.2.1, u.2.2.2.2.2.2.2.2.2.2.2.2.2.2.2.2.2.2.2.2.2.2.2.2.2.2.2.2.2.2.2.2.2.2.2)
def xs_entryLimit (e : Int32) (u : SX) : SX := (u.1, u.2.1, u.2.2.1, u.2.2.2.1, e, u.2.2.2.2.2.1, u.2.2.2.2.2.2.1, u.2.2.2.2.2.2.2.1, u.2.2.2.2.2.2.2.2.1, u.2.2.2.2.2.2.2.2.2.1, u.2.2.2.2.2.2.2.2.2.2.1, u.2.2.2.2.2.2.2.2.2.2.2.1, u.2.2.2.2.2.2.2.2.2.2.2.2.1, u.2.2.2.2.2.2.2.2.2.2.2.2.2.1, u.2.2.2.2.2.2.2.2.2.2.2.2.2.2.1, u.2.2.2.2.2.2.2.2.2.2.2.2.2.2.2.1, u.2.2.2.2.2.2.2.2.2.2.2.2.2.2.2.2.1, u.2.2.2.2.2.2.2.2.2.2.2.2.2.2.2.2.2.1, u.2.2.2.2.2.2.2.2.2.2.2.2.2.2.2.2.2.2.1, u.2.2.2.2.2.2.2.2.2.2.2.2.2.2.2.2.2.2.2.1, u.2.2.2.2.2.2.2.2.2.2.2.2.2.2.2.2.2.2.2.2.1, u.2.2.2.2.2.2.2.2.2.2.2.2.2.2.2.2.2.2.2.2.2.1, u.2.2.2.2.2.2.2.2.2.2.2.2.2.2.2.2.2.2.2.2.2.2.1, u.2.2.2.2.2.2.2.2.2.2.2.2.2.2.2.2.2.2.2.2.2.2.2.1, u.2.2.2.2.2.2.2.2.2.2.2.2.2.2.2.2.2.2.2.2.2.2.2.2.1, u.2.2.2.2.2.2.2.2.2.2.2.2.2.2.2.2.2.2.2.2.2.2.2.2.2.1, u.2.2.2.2.2.2.2.2.2.2.2.2.2.2.2.2.2.2.2.2.2.2.2.2.2.2.1, u.2.2.2.2.2.2.2.2.2.2.2.2.2.2.2.2.2.2.2.2.2.2.2.2.2.2.2.1, u.2.2.2.2.2.2.2.2.2.2.2.2.2.2.2.2.2.2.2.2.2.2.2.2.2.2.2.2.1, u.2.2.2.2.2.2.2.2.2.2.2.2.2.2.2.2.2.2.2.2.2.2.2.2.2.2.2.2.2.1, u.2.2.2.2.2.2.2.2.2.2.2.2.2.2.2.2.2.2.2.2.2.2.2.2.2.2.2.2.2.2.1, u.2.2.2.2.2.2.2.2.2.2.2.2.2.2.2.2.2.2.2.2.2.2.2.2.2.2.2.2.2.2.2.1, u.2.2.2.2.2.2.2.2.2.2.2.2.2.2.2.2.2.2.2.2.2.2.2.2.2.2.2.2.2.2.2.2.1, u.2.2.2.2.2.2.2.2.2.2.2.2.2.2.2.2.2.2.2.2.2.2.2.2.2.2.2.2.2.2.2.2.2.1, u.2.2.2.2.2.2.2.2.2.2.2.2.2.2.2.2.2.2.2.2.2.2.2.2.2.2.2.2.2.2.2.2.2.2.1, u.2.2.2.2.2.2.2.2.2.2.2.2.2.2.2.2.2.2.2.2.2.2.2.2.2.2.2.2.2.2.2.2.2.2.2)
def xs_count (e : Int32) (u : SX) : SX := (u.1, u.2.1, u.2.2.1, u.2.2.2.1, u.2.2.2.2.1, e, u.2.2.2.2.2.2.1, u.2.2.2.2.2.2.2.1, u.2.2.2.2.2.2.2.2.1, u.2.2.2.2.2.2.2.2.2.1, u.2.2.2.2.2.2.2.2.2.2.1, u.2.2.2.2.2.2.2.2.2.2.2.1, u.2.2.2.2.2.2.2.2.2.2.2.2.1, u.2.2.2.2.2.2.2.2.2.2.2.2.2.1, u.2.2.2.2.2.2.2.2.2.2.2.2.2.2.1, u.2.2.2.2.2.2.2.2.2.2.2.2.2.2.2.1, u.2.2.2.2.2.2.2.2.2.2.2.2.2.2.2.2.1, u.2.2.2.2.2.2.2.2.2.2.2.2.2.2.2.2.2.1, u.2.2.2.2.2.2.2.2.2.2.2.2.2.2.2.2.2.2.1, u.2.2.2.2.2.2.2.2.2.2.2.2.2.2.2.2.2.2.2.1, u.2.2.2.2.2.2.2.2.2.2.2.2.2.2.2.2.2.2.2.2.1, u.2.2.2.2.2.2.2.2.2.2.2.2.2.2.2.2.2.2.2.2.2.1, u.2.2.2.2.2.2.2.2.2.2.2.2.2.2.2.2.2.2.2.2.2.2.1, u.2.2.2.2.2.2.2.2.2.2.2.2.2.2.2.2.2.2.2.2.2.2.2.1, u.2.2.2.2.2.2.2.2.2.2.2.2.2.2.2.2.2.2.2.2.2.2.2.2.1, u.2.2.2.2.2.2.2.2.2.2.2.2.2.2.2.2.2.2.2.2.2.2.2.2.2.1, u.2.2.2.2.2.2.2.2.2.2.2.2.2.2.2.2.2.2.2.2.2.2.2.2.2.2.1, u.2.2.2.2.2.2.2.2.2.2.2.2.2.2.2.2.2.2.2.2.2.2.2.2.2.2.2.1, u.2.2.2.2.2.2.2.2.2.2.2.2.2.2.2.2.2.2.2.2.2.2.2.2.2.2.2.2.1, u.2.2.2.2.2.2.2.2.2.2.2.2.2.2.2.2.2.2.2.2.2.2.2.2.2.2.2.2.2.1, u.2.2.2.2.2.2.2.2.2.2.2.2.2.2.2.2.2.2.2.2.2.2.2.2.2.2.2.2.2.2.1, u.2.2.2.2.2.2.2.2.2.2.2.2.2.2.2.2.2.2.2.2.2.2.2.2.2.2.2.2.2.2.2.1, u.2.2.2.2.2.2.2.2.2.2.2.2.2.2.2.2.2.2.2.2.2.2.2.2.2.2.2.2.2.2.2.2.1, u.2.2.2.2.2.2.2.2.2.2.2.2.2.2.2.2.2.2.2.2.2.2.2.2.2.2.2.2.2.2.2.2.2.1, u.2.2.2.2.2.2.2.2.2.2.2.2.2.2.2.2.2.2.2.2.2.2.2.2.2.2.2.2.2.2.2.2.2.2.1, u.2.2.2.2.2.2.2.2.2.2.2.2.2.2.2.2.2.2.2.2.2.2.2.2.2.2.2.2.2.2.2.2.2.2.2)
def xs_base (e : Int32) (u : SX) : SX := (u.1, u.2.1, u.2.2.1, u.2.2.2.1, u.2.2.2.2.1, u.2.2.2.2.2.1, e, u.2.2.2.2.2.2.2.1, u.2.2.2.2.2.2.2.2.1, u.2.2.2.2.2.2.2.2.2.1, u.2.2.2.2.2.2.2.2.2.2.1, u.2.2.2.2.2.2.2.2.2.2.2.1, u.2.2.2.2.2.2.2.2.2.2.2.2.1, u.2.2.2.2.2.2.2.2.2.2.2.2.2.1, u.2.2.2.2.2.2.2.2.2.2.2.2.2.2.1, u.2.2.2.2.2.2.2.2.2.2.2.2.2.2.2.1, u.2.2.2.2.2.2.2.2.2.2.2.2.2.2.2.2.1, u.2.2.2.2.2.2.2.2.2.2.2.2.2.2.2.2.2.1, u.2.2.2.2.2.2.2.2.2.2.2.2.2.2.2.2.2.2.1, u.2.2.2.2.2.2.2.2.2.2.2.2.2.2.2.2.2.2.2.1, u.2.2.2.2.2.2.2.2.2.2.2.2.2.2.2.2.2.2.2.2.1, u.2.2.2.2.2.2.2.2.2.2.2.2.2.2.2.2.2.2.2.2.2.1, u.2.2.2.2.2.2.2.2.2.2.2.2.2.2.2.2.2.2.2.2.2.2.1, u.2.2.2.2.2.2.2.2.2.2.2.2.2.2.2.2.2.2.2.2.2.2.2.1, u.2.2.2.2.2.2.2.2.2.2.2.2.2.2.2.2.2.2.2.2.2.2.2.2.1, u.2.2.2.2.2.2.2.2.2.2.2.2.2.2.2.2.2.2.2.2.2.2.2.2.2.1, u.2.2.2.2.2.2.2.2.2.2.2.2.2.2.2.2.2.2.2.2.2.2.2.2.2.2.1, u.2.2.2.2.2.2.2.2.2.2.2.2.2.2.2.2.2.2.2.2.2.2.2.2.2.2.2.1, u.2.2.2.2.2.2.2.2.2.2.2.2.2.2.2.2.2.2.2.2.2.2.2.2.2.2.2.2.1, u.2.2.2.2.2.2.2.2.2.2.2.2.2.2.2.2.2.2.2.2.2.2.2.2.2.2.2.2.2.1, u.2.2.2.2.2.2.2.2.2.2.2.2.2.2.2.2.2.2.2.2.2.2.2.2.2.2.2.2.2.2.1, u.2.2.2.2.2.2.2.2.2.2.2.2.2.2.2.2.2.2.2.2.2.2.2.2.2.2.2.2.2.2.2.1, u.2.2.2.2.2.2.2.2.2.2.2.2.2.2.2.2.2.2.2.2.2.2.2.2.2.2.2.2.2.2.2.2.1, u.2.2.2.2.2.2.2.2.2.2.2.2.2.2.2.2.2.2.2.2.2.2.2.2.2.2.2.2.2.2.2.2.2.1, u.2.2.2.2.2.2.2.2.2.2.2.2.2.2.2.2.2.2.2.2.2.2.2.2.2.2.2.2.2.2.2.2.2.2.1, u.2.2.2.2.2.2.2.2.2.2.2.2.2.2.2.2.2.2.2.2.2.2.2.2.2.2.2.2.2.2.2.2.2.2.2)
def xs_entryCount (e : Int32) (u : SX) : SX := (u.1, u.2.1, u.2.2.1, u.2.2.2.1, u.2.2.2.2.1, u.2.2.2.2.2.1, u.2.2.2.2.2.2.1, e, u.2.2.2.2.2.2.2.2.1, u.2.2.2.2.2.2.2.2.2.1, u.2.2.2.2.2.2.2.2.2.2.1, u.2.2.2.2.2.2.2.2.2.2.2.1, u.2.2.2.2.2.2.2.2.2.2.2.2.1, u.2.2.2.2.2.2.2.2.2.2.2.2.2.1, u.2.2.2.2.2.2.2.2.2.2.2.2.2.2.1, u.2.2.2.2.2.2.2.2.2.2.2.2.2.2.2.1, u.2.2.2.2.2.2.2.2.2.2.2.2.2.2.2.2.1, u.2.2.2.2.2.2.2.2.2.2.2.2.2.2.2.2.2.1, u.2.2.2.2.2.2.2.2.2.2.2.2.2.2.2.2.2.2.1, u.2.2.2.2.2.2.2.2.2.2.2.2.2.2.2.2.2.2.2.1, u.2.2.2.2.2.2.2.2.2.2.2.2.2.2.2.2.2.2.2.2.1, u.2.2.2.2.2.2.2.2.2.2.2.2.2.2.2.2.2.2.2.2.2.1, u.2.2.2.2.2.2.2.2.2.2.2.2.2.2.2.2.2.2.2.2.2.2.1, u.2.2.2.2.2.2.2.2.2.2.2.2.2.2.2.2.2.2.2.2.2.2.2.1, u.2.2.2.2.2.2.2.2.2.2.2.2.2.2.2.2.2.2.2.2.2.2.2.2.1, u.2.2.2.2.2.2.2.2.2.2.2.2.2.2.2.2.2.2.2.2.2.2.2.2.2.1, u.2.2.2.2.2.2.2.2.2.2.2.2.2.2.2.2.2.2.2.2.2.2.2.2.2.2.1, u.2.2.2.2.2.2.2.2.2.2.2.2.2.2.2.2.2.2.2.2.2.2.2.2.2.2.2.1, u.2.2.2.2.2.2.2.2.2.2.2.2.2.2.2.2.2.2.2.2.2.2.2.2.2.2.2.2.1, u.2.2.2.2.2.2.2.2.2.2.2.2.2.2.2.2.2.2.2.2.2.2.2.2.2.2.2.2.2.1, u.2.2.2.2.2.2.2.2.2.2.2.2.2.2.2.2.2.2.2.2.2.2.2.2.2.2.2.2.2.2.1, u.2.2.2.2.2.2.2.2.2.2.2.2.2.2.2.2.2.2.2.2.2.2.2.2.2.2.2.2.2.2.2.1, u.2.2.2.2.2.2.2.2.2.2.2.2.2.2.2.2.2.2.2.2.2.2.2.2.2.2.2.2.2.2.2.2.1, u.2.2.2.2.2.2.2.2.2.2.2.2.2.2.2.2.2.2.2.2.2.2.2.2.2.2.2.2.2.2.2.2.2.1, u.2.2.2.2.2.2.2.2.2.2.2.2.2.2.2.2.2.2.2.2.2.2.2.2.2.2.2.2.2.2.2.2.2.2.1, u.2.2.2.2.2.2.2.2.2.2.2.2.2.2.2.2.2.2.2.2.2.2.2.2.2.2.2.2.2.2.2.2.2.2.2)
def xs_tickCount (e : Int32) (u : SX) : SX := (u.1, u.2.1, u.2.2.1, u.2.2.2.1, u.2.2.2.2.1, u.2.2.2.2.2.1, u.2.2.2.2.2.2.1, u.2.2.2.2.2.2.2.1, e, u.2.2.2.2.2.2.2.2.2.1, u.2.2.2.2.2.2.2.2.2.2.1, u.2.2.2.2.2.2.2.2.2.2.2.1, u.2.2.2.2.2.2.2.2.2.2.2.2.1, u.2.2.2.2.2.2.2.2.2.2.2.2.2.1, u.2.2.2.2.2.2.2.2.2.2.2.2.2.2.1, u.2.2.2.2.2.2.2.2.2.2.2.2.2.2.2.1, u.2.2.2.2.2.2.2.2.2.2.2.2.2.2.2.2.1, u.2.2.2.2.2.2.2.2.2.2.2.2.2.2.2.2.2.1, u.2.2.2.2.2.2.2.2.2.2.2.2.2.2.2.2.2.2.1, u.2.2.2.2.2.2.2.2.2.2.2.2.2.2.2.2.2.2.2.1, u.2.2.2.2.2.2.2.2.2.2.2.2.2.2.2.2.2.2.2.2.1, u.2.2.2.2.2.2.2.2.2.2.2.2.2.2.2.2.2.2.2.2.2.1, u.2.2.2.2.2.2.2.2.2.2.2.2.2.2.2.2.2.2.2.2.2.2.1, u.2.2.2.2.2.2.2.2.2.2.2.2.2.2.2.2.2.2.2.2.2.2.2.1, u.2.2.2.2.2.2.2.2.2.2.2.2.2.2.2.2.2.2.2.2.2.2.2.2.1, u.2.2.2.2.2.2.2.2.2.2.2.2.2.2.2.2.2.2.2.2.2.2.2.2.2.1, u.2.2.2.2.2.2.2.2.2.2.2.2.2.2.2.2.2.2.2.2.2.2.2.2.2.2.1, u.2.2.2.2.2.2.2.2.2.2.2.2.2.2.2.2.2.2.2.2.2.2.2.2.2.2.2.1, u.2.2.2.2.2.2.2.2.2.2.2.2.2.2.2.2.2.2.2.2.2.2.2.2.2.2.2.2.1, u.2.2.2.2.2.2.2.2.2.2.2.2.2.2.2.2.2.2.2.2.2.2.2.2.2.2.2.2.2.1, u.2.2.2.2.2.2.2.2.2.2.2.2.2.2.2.2.2.2.2.2.2.2.2.2.2.2.2.2.2.2.1, u.2.2.2.2.2.2.2.2.2.2.2.2.2.2.2.2.2.2.2.2.2.2.2.2.2.2.2.2.2.2.2.1, u.2.2.2.2.2.2.2.2.2.2.2.2.2.2.2.2.2.2.2.2.2.2.2.2.2.2.2.2.2.2.2.2.1, u.2.2.2.2.2.2.2.2.2.2.2.2.2.2.2.2.2.2.2.2.2.2.2.2.2.2.2.2.2.2.2.2.2.1, u.2.2.2.2.2.2.2.2.2.2.2.2.2.2.2.2.2.2.2.2.2.2.2.2.2.2.2.2.2.2.2.2.2.2.1, u.2.2.2.2.2.2.2.2.2.2.2.2.2.2.2.2.2.2.2.2.2.2.2.2.2.2.2.2.2.2.2.2.2.2.2)
def xs_blameNode (e : Int32) (u : SX) : SX := (u.1, u.2.1, u.2.2.1, u.2.2.2.1, u.2.2.2.2.1, u.2.2.2.2.2.1, u.2.2.2.2.2.2.1, u.2.2.2.2.2.2.2.1, u.2.2.2.2.2.2.2.2.1, e, u.2.2.2.2.2.2.2.2.2.2.1, u.2.2.2.2.2.2.2.2.2.2.2.1, u.2.2.2.2.2.2.2.2.2.2.2.2.1, u.2.2.2.2.2.2.2.2.2.2.2.2.2.1, u.2.2.2.2.2.2.2.2.2.2.2.2.2.2.1, u.2.2.2.2.2.2.2.2.2.2.2.2.2.2.2.1, u.2.2.2.2.2.2.2.2.2.2.2.2.2.2.2.2.1, u.2.2.2.2.2.2.2.2.2.2.2.2.2.2.2.2.2.1, u.2.2.2.2.2.2.2.2.2.2.2.2.2.2.2.2.2.2.1, u.2.2.2.2.2.2.2.2.2.2.2.2.2.2.2.2.2.2.2.1, u.2.2.2.2.2.2.2.2.2.2.2.2.2.2.2.2.2.2.2.2.1, u.2.2.2.2.2.2.2.2.2.2.2.2.2.2.2.2.2.2.2.2.2.1, u.2.2.2.2.2.2.2.2.2.2.2.2.2.2.2.2.2.2.2.2.2.2.1, u.2.2.2.2.2.2.2.2.2.2.2.2.2.2.2.2.2.2.2.2.2.2.2.1, u.2.2.2.2.2.2.2.2.2.2.2.2.2.2.2.2.2.2.2.2.2.2.2.2.1, u.2.2.2.2.2.2.2.2.2.2.2.2.2.2.2.2.2.2.2.2.2.2.2.2.2.1, u.2.2.2.2.2.2.2.2.2.2.2.2.2.2.2.2.2.2.2.2.2.2.2.2.2.2.1, u.2.2.2.2.2.2.2.2.2.2.2.2.2.2.2.2.2.2.2.2.2.2.2.2.2.2.2.1, u.2.2.2.2.2.2.2.2.2.2.2.2.2.2.2.2.2.2.2.2.2.2.2.2.2.2.2.2.1, u.2.2.2.2.2.2.2.2.2.2.2.2.2.2.2.2.2.2.2.2.2.2.2.2.2.2.2.2.2.1, u.2.2.2.2.2.2.2.2.2.2.2.2.2.2.2.2.2.2.2.2.2.2.2.2.2.2.2.2.2.2.1, u.2.2.2.2.2.2.2.2.2.2.2.2.2.2.2.2.2.2.2.2.2.2.2.2.2.2.2.2.2.2.2.1, u.2.2.2.2.2.2.2.2.2.2.2.2.2.2.2.2.2.2.2.2.2.2.2.2.2.2.2.2.2.2.2.2.1, u.2.2.2.2.2.2.2.2.2.2.2.2.2.2.2.2.2.2.2.2.2.2.2.2.2.2.2.2.2.2.2.2.2.1, u.2.2.2.2.2.2.2.2.2.2.2.2.2.2.2.2.2.2.2.2.2.2.2.2.2.2.2.2.2.2.2.2.2.2.1, u.2.2.2.2.2.2.2.2.2.2.2.2.2.2.2.2.2.2.2.2.2.2.2.2.2.2.2.2.2.2.2.2.2.2.2)
def xs_curLen (e : Int32) (u : SX) : SX := (u.1, u.2.1, u.2.2.1, u.2.2.2.1, u.2.2.2.2.1, u.2.2.2.2.2.1, u.2.2.2.2.2.2.1, u.2.2.2.2.2.2.2.1, u.2.2.2.2.2.2.2.2.1, u.2.2.2.2.2.2.2.2.2.1, e, u.2.2.2.2.2.2.2.2.2.2.2.1, u.2.2.2.2.2.2.2.2.2.2.2.2.1, u.2.2.2.2.2.2.2.2.2.2.2.2.2.1, u.2.2.2.2.2.2.2.2.2.2.2.2.2.2.1, u.2.2.2.2.2.2.2.2.2.2.2.2.2.2.2.1, u.2.2.2.2.2.2.2.2.2.2.2.2.2.2.2.2.1, u.2.2.2.2.2.2.2.2.2.2.2.2.2.2.2.2.2.1, u.2.2.2.2.2.2.2.2.2.2.2.2.2.2.2.2.2.2.1, u.2.2.2.2.2.2.2.2.2.2.2.2.2.2.2.2.2.2.2.1, u.2.2.2.2.2.2.2.2.2.2.2.2.2.2.2.2.2.2.2.2.1, u.2.2.2.2.2.2.2.2.2.2.2.2.2.2.2.2.2.2.2.2.2.1, u.2.2.2.2.2.2.2.2.2.2.2.2.2.2.2.2.2.2.2.2.2.2.1, u.2.2.2.2.2.2.2.2.2.2.2.2.2.2.2.2.2.2.2.2.2.2.2.1, u.2.2.2.2.2.2.2.2.2.2.2.2.2.2.2.2.2.2.2.2.2.2.2.2.1, u.2.2.2.2.2.2.2.2.2.2.2.2.2.2.2.2.2.2.2.2.2.2.2.2.2.1, u.2.2.2.2.2.2.2.2.2.2.2.2.2.2.2.2.2.2.2.2.2.2.2.2.2.2.1, u.2.2.2.2.2.2.2.2.2.2.2.2.2.2.2.2.2.2.2.2.2.2.2.2.2.2.2.1, u.2.2.2.2.2.2.2.2.2.2.2.2.2.2.2.2.2.2.2.2.2.2.2.2.2.2.2.2.1, u.2.2.2.2.2.2.2.2.2.2.2.2.2.2.2.2.2.2.2.2.2.2.2.2.2.2.2.2.2.1, u.2.2.2.2.2.2.2.2.2.2.2.2.2.2.2.2.2.2.2.2.2.2.2.2.2.2.2.2.2.2.1, u.2.2.2.2.2.2.2.2.2.2.2.2.2.2.2.2.2.2.2.2.2.2.2.2.2.2.2.2.2.2.2.1, u.2.2.2.2.2.2.2.2.2.2.2.2.2.2.2.2.2.2.2.2.2.2.2.2.2.2.2.2.2.2.2.2.1, u.2.2.2.2.2.2.2.2.2.2.2.2.2.2.2.2.2.2.2.2.2.2.2.2.2.2.2.2.2.2.2.2.2.1, u.2.2.2.2.2.2.2.2.2.2.2.2.2.2.2.2.2.2.2.2.2.2.2.2.2.2.2.2.2.2.2.2.2.2.1, u.2.2.2.2.2.2.2.2.2.2.2.2.2.2.2.2.2.2.2.2.2.2.2.2.2.2.2.2.2.2.2.2.2.2.2)
def xs_outLen (e : Int32) (u : SX) : SX := (u.1, u.2.1, u.2.2.1, u.2.2.2.1, u.2.2.2.2.1, u.2.2.2.2.2.1, u.2.2.2.2.2.2.1, u.2.2.2.2.2.2.2.1, u.2.2.2.2.2.2.2.2.1, u.2.2.2.2.2.2.2.2.2.1, u.2.2.2.2.2.2.2.2.2.2.1, e, u.2.2.2.2.2.2.2.2.2.2.2.2.1, u.2.2.2.2.2.2.2.2.2.2.2.2.2.1, u.2.2.2.2.2.2.2.2.2.2.2.2.2.2.1, u.2.2.2.2.2.2.2.2.2.2.2.2.2.2.2.1, u.2.2.2.2.2.2.2.2.2.2.2.2.2.2.2.2.1, u.2.2.2.2.2.2.2.2.2.2.2.2.2.2.2.2.2.1, u.2.2.2.2.2.2.2.2.2.2.2.2.2.2.2.2.2.2.1, u.2.2.2.2.2.2.2.2.2.2.2.2.2.2.2.2.2.2.2.1, u.2.2.2.2.2.2.2.2.2.2.2.2.2.2.2.2.2.2.2.2.1, u.2.2.2.2.2.2.2.2.2.2.2.2.2.2.2.2.2.2.2.2.2.1, u.2.2.2.2.2.2.2.2.2.2.2.2.2.2.2.2.2.2.2.2.2.2.1, u.2.2.2.2.2.2.2.2.2.2.2.2.2.2.2.2.2.2.2.2.2.2.2.1, u.2.2.2.2.2.2.2.2.2.2.2.2.2.2.2.2.2.2.2.2.2.2.2.2.1, u.2.2.2.2.2.2.2.2.2.2.2.2.2.2.2.2.2.2.2.2.2.2.2.2.2.1, u.2.2.2.2.2.2.2.2.2.2.2.2.2.2.2.2.2.2.2.2.2.2.2.2.2.2.1, u.2.2.2.2.2.2.2.2.2.2.2.2.2.2.2.2.2.2.2.2.2.2.2.2.2.2.2.1, u.2.2.2.2.2.2.2.2.2.2.2.2.2.2.2.2.2.2.2.2.2.2.2.2.2.2.2.2.1, u.2.2.2.2.2.2.2.2.2.2.2.2.2.2.2.2.2.2.2.2.2.2.2.2.2.2.2.2.2.1, u.2.2.2.2.2.2.2.2.2.2.2.2.2.2.2.2.2.2.2.2.2.2.2.2.2.2.2.2.2.2.1, u.2.2.2.2.2.2.2.2.2.2.2.2.2.2.2.2.2.2.2.2.2.2.2.2.2.2.2.2.2.2.2.1, u.2.2.2.2.2.2.2.2.2.2.2.2.2.2.2.2.2.2.2.2.2.2.2.2.2.2.2.2.2.2.2.2.1, u.2.2.2.2.2.2.2.2.2.2.2.2.2.2.2.2.2.2.2.2.2.2.2.2.2.2.2.2.2.2.2.2.2.1, u.2.2.2.2.2.2.2.2.2.2.2.2.2.2.2.2.2.2.2.2.2.2.2.2.2.2.2.2.2.2.2.2.2.2.1, u.2.2.2.2.2.2.2.2.2.2.2.2.2.2.2.2.2.2.2.2.2.2.2.2.2.2.2.2.2.2.2.2.2.2.2)
def xs_outCap (e : Int32) (u : SX) : SX := (u.1, u.2.1, u.2.2.1, u.2.2.2.1, u.2.2.2.2.1, u.2.2.2.2.2.1, u.2.2.2.2.2.2.1, u.2.2.2.2.2.2.2.1, u.2.2.2.2.2.2.2.2.1, u.2.2.2.2.2.2.2.2.2.1, u.2.2.2.2.2.2.2.2.2.2.1, u.2.2.2.2.2.2.2.2.2.2.2.1, e, u.2.2.2.2.2.2.2.2.2.2.2.2.2.1, u.2.2.2.2.2.2.2.2.2.2.2.2.2.2.1, u.2.2.2.2.2.2.2.2.2.2.2.2.2.2.2.1, u.2.2.2.2.2.2.2.2.2.2.2.2.2.2.2.2.1, u.2.2.2.2.2.2.2.2.2.2.2.2.2.2.2.2.2.1, u.2.2.2.2.2.2.2.2.2.2.2.2.2.2.2.2.2.2.1, u.2.2.2.2.2.2.2.2.2.2.2.2.2.2.2.2.2.2.2.1, u.2.2.2.2.2.2.2.2.2.2.2.2.2.2.2.2.2.2.2.2.1, u.2.2.2.2.2.2.2.2.2.2.2.2.2.2.2.2.2.2.2.2.2.1, u.2.2.2.2.2.2.2.2.2.2.2.2.2.2.2.2.2.2.2.2.2.2.1, u.2.2.2.2.2.2.2.2.2.2.2.2.2.2.2.2.2.2.2.2.2.2.2.1, u.2.2.2.2.2.2.2.2.2.2.2.2.2.2.2.2.2.2.2.2.2.2.2.2.1, u.2.2.2.2.2.2.2.2.2.2.2.2.2.2.2.2.2.2.2.2.2.2.2.2.2.1, u.2.2.2.2.2.2.2.2.2.2.2.2.2.2.2.2.2.2.2.2.2.2.2.2.2.2.1, u.2.2.2.2.2.2.2.2.2.2.2.2.2.2.2.2.2.2.2.2.2.2.2.2.2.2.2.1, u.2.2.2.2.2.2.2.2.2.2.2.2.2.2.2.2.2.2.2.2.2.2.2.2.2.2.2.2.1, u.2.2.2.2.2.2.2.2.2.2.2.2.2.2.2.2.2.2.2.2.2.2.2.2.2.2.2.2.2.1, u.2.2.2.2.2.2.2.2.2.2.2.2.2.2.2.2.2.2.2.2.2.2.2.2.2.2.2.2.2.2.1, u.2.2.2.2.2.2.2.2.2.2.2.2.2.2.2.2.2.2.2.2.2.2.2.2.2.2.2.2.2.2.2.1, u.2.2.2.2.2.2.2.2.2.2.2.2.2.2.2.2.2.2.2.2.2.2.2.2.2.2.2.2.2.2.2.2.1, u.2.2.2.2.2.2.2.2.2.2.2.2.2.2.2.2.2.2.2.2.2.2.2.2.2.2.2.2.2.2.2.2.2.1, u.2.2.2.2.2.2.2.2.2.2.2.2.2.2.2.2.2.2.2.2.2.2.2.2.2.2.2.2.2.2.2.2.2.2.1, u.2.2.2.2.2.2.2.2.2.2.2.2.2.2.2.2.2.2.2.2.2.2.2.2.2.2.2.2.2.2.2.2.2.2.2)
def xs_outOver (e : Int32) (u : SX) : SX := (u.1, u.2.1, u.2.2.1, u.2.2.2.1, u.2.2.2.2.1, u.2.2.2.2.2.1, u.2.2.2.2.2.2.1, u.2.2.2.2.2.2.2.1, u.2.2.2.2.2.2.2.2.1, u.2.2.2.2.2.2.2.2.2.1, u.2.2.2.2.2.2.2.2.2.2.1, u.2.2.2.2.2.2.2.2.2.2.2.1, u.2.2.2.2.2.2.2.2.2.2.2.2.1, e, u.2.2.2.2.2.2.2.2.2.2.2.2.2.2.1, u.2.2.2.2.2.2.2.2.2.2.2.2.2.2.2.1, u.2.2.2.2.2.2.2.2.2.2.2.2.2.2.2.2.1, u.2.2.2.2.2.2.2.2.2.2.2.2.2.2.2.2.2.1, u.2.2.2.2.2.2.2.2.2.2.2.2.2.2.2.2.2.2.1, u.2.2.2.2.2.2.2.2.2.2.2.2.2.2.2.2.2.2.2.1, u.2.2.2.2.2.2.2.2.2.2.2.2.2.2.2.2.2.2.2.2.1, u.2.2.2.2.2.2.2.2.2.2.2.2.2.2.2.2.2.2.2.2.2.1, u.2.2.2.2.2.2.2.2.2.2.2.2.2.2.2.2.2.2.2.2.2.2.1, u.2.2.2.2.2.2.2.2.2.2.2.2.2.2.2.2.2.2.2.2.2.2.2.1, u.2.2.2.2.2.2.2.2.2.2.2.2.2.2.2.2.2.2.2.2.2.2.2.2.1, u.2.2.2.2.2.2.2.2.2.2.2.2.2.2.2.2.2.2.2.2.2.2.2.2.2.1, u.2.2.2.2.2.2.2.2.2.2.2.2.2.2.2.2.2.2.2.2.2.2.2.2.2.2.1, u.2.2.2.2.2.2.2.2.2.2.2.2.2.2.2.2.2.2.2.2.2.2.2.2.2.2.2.1, u.2.2.2.2.2.2.2.2.2.2.2.2.2.2.2.2.2.2.2.2.2.2.2.2.2.2.2.2.1, u.2.2.2.2.2.2.2.2.2.2.2.2.2.2.2.2.2.2.2.2.2.2.2.2.2.2.2.2.2.1, u.2.2.2.2.2.2.2.2.2.2.2.2.2.2.2.2.2.2.2.2.2.2.2.2.2.2.2.2.2.2.1, u.2.2.2.2.2.2.2.2.2.2.2.2.2.2.2.2.2.2.2.2.2.2.2.2.2.2.2.2.2.2.2.1, u.2.2.2.2.2.2.2.2.2.2.2.2.2.2.2.2.2.2.2.2.2.2.2.2.2.2.2.2.2.2.2.2.1, u.2.2.2.2.2.2.2.2.2.2.2.2.2.2.2.2.2.2.2.2.2.2.2.2.2.2.2.2.2.2.2.2.2.1, u.2.2.2.2.2.2.2.2.2.2.2.2.2.2.2.2.2.2.2.2.2.2.2.2.2.2.2.2.2.2.2.2.2.2.1, u.2.2.2.2.2.2.2.2.2.2.2.2.2.2.2.2.2.2.2.2.2.2.2.2.2.2.2.2.2.2.2.2.2.2.2)
def xs_frameTop (e : Int32) (u : SX) : SX := (u.1, u.2.1, u.2.2.1, u.2.2.2.1, u.2.2.2.2.1, u.2.2.2.2.2.1, u.2.2.2.2.2.2.1, u.2.2.2.2.2.2.2.1, u.2.2.2.2.2.2.2.2.1, u.2.2.2.2.2.2.2.2.2.1, u.2.2.2.2.2.2.2.2.2.2.1, u.2.2.2.2.2.2.2.2.2.2.2.1, u.2.2.2.2.2.2.2.2.2.2.2.2.1, u.2.2.2.2.2.2.2.2.2.2.2.2.2.1, e, u.2.2.2.2.2.2.2.2.2.2.2.2.2.2.2.1, u.2.2.2.2.2.2.2.2.2.2.2.2.2.2.2.2.1, u.2.2.2.2.2.2.2.2.2.2.2.2.2.2.2.2.2.1, u.2.2.2.2.2.2.2.2.2.2.2.2.2.2.2.2.2.2.1, u.2.2.2.2.2.2.2.2.2.2.2.2.2.2.2.2.2.2.2.1, u.2.2.2.2.2.2.2.2.2.2.2.2.2.2.2.2.2.2.2.2.1, u.2.2.2.2.2.2.2.2.2.2.2.2.2.2.2.2.2.2.2.2.2.1, u.2.2.2.2.2.2.2.2.2.2.2.2.2.2.2.2.2.2.2.2.2.2.1, u.2.2.2.2.2.2.2.2.2.2.2.2.2.2.2.2.2.2.2.2.2.2.2.1, u.2.2.2.2.2.2.2.2.2.2.2.2.2.2.2.2.2.2.2.2.2.2.2.2.1, u.2.2.2.2.2.2.2.2.2.2.2.2.2.2.2.2.2.2.2.2.2.2.2.2.2.1, u.2.2.2.2.2.2.2.2.2.2.2.2.2.2.2.2.2.2.2.2.2.2.2.2.2.2.1, u.2.2.2.2.2.2.2.2.2.2.2.2.2.2.2.2.2.2.2.2.2.2.2.2.2.2.2.1, u.2.2.2.2.2.2.2.2.2.2.2.2.2.2.2.2.2.2.2.2.2.2.2.2.2.2.2.2.1, u.2.2.2.2.2.2.2.2.2.2.2.2.2.2.2.2.2.2.2.2.2.2.2.2.2.2.2.2.2.1, u.2.2.2.2.2.2.2.2.2.2.2.2.2.2.2.2.2.2.2.2.2.2.2.2.2.2.2.2.2.2.1, u.2.2.2.2.2.2.2.2.2.2.2.2.2.2.2.2.2.2.2.2.2.2.2.2.2.2.2.2.2.2.2.1, u.2.2.2.2.2.2.2.2.2.2.2.2.2.2.2.2.2.2.2.2.2.2.2.2.2.2.2.2.2.2.2.2.1, u.2.2.2.2.2.2.2.2.2.2.2.2.2.2.2.2.2.2.2.2.2.2.2.2.2.2.2.2.2.2.2.2.2.1, u.2.2.2.2.2.2.2.2.2.2.2.2.2.2.2.2.2.2.2.2.2.2.2.2.2.2.2.2.2.2.2.2.2.2.1, u.2.2.2.2.2.2.2.2.2.2.2.2.2.2.2.2.2.2.2.2.2.2.2.2.2.2.2.2.2.2.2.2.2.2.2)
def xs_answer (e : Int32) (u : SX) : SX := (u.1, u.2.1, u.2.2.1, u.2.2.2.1, u.2.2.2.2.1, u.2.2.2.2.2.1, u.2.2.2.2.2.2.1, u.2.2.2.2.2.2.2.1, u.2.2.2.2.2.2.2.2.1, u.2.2.2.2.2.2.2.2.2.1, u.2.2.2.2.2.2.2.2.2.2.1, u.2.2.2.2.2.2.2.2.2.2.2.1, u.2.2.2.2.2.2.2.2.2.2.2.2.1, u.2.2.2.2.2.2.2.2.2.2.2.2.2.1, u.2.2.2.2.2.2.2.2.2.2.2.2.2.2.1, e, u.2.2.2.2.2.2.2.2.2.2.2.2.2.2.2.2.1, u.2.2.2.2.2.2.2.2.2.2.2.2.2.2.2.2.2.1, u.2.2.2.2.2.2.2.2.2.2.2.2.2.2.2.2.2.2.1, u.2.2.2.2.2.2.2.2.2.2.2.2.2.2.2.2.2.2.2.1, u.2.2.2.2.2.2.2.2.2.2.2.2.2.2.2.2.2.2.2.2.1, u.2.2.2.2.2.2.2.2.2.2.2.2.2.2.2.2.2.2.2.2.2.1, u.2.2.2.2.2.2.2.2.2.2.2.2.2.2.2.2.2.2.2.2.2.2.1, u.2.2.2.2.2.2.2.2.2.2.2.2.2.2.2.2.2.2.2.2.2.2.2.1, u.2.2.2.2.2.2.2.2.2.2.2.2.2.2.2.2.2.2.2.2.2.2.2.2.1, u.2.2.2.2.2.2.2.2.2.2.2.2.2.2.2.2.2.2.2.2.2.2.2.2.2.1, u.2.2.2.2.2.2.2.2.2.2.2.2.2.2.2.2.2.2.2.2.2.2.2.2.2.2.1, u.2.2.2.2.2.2.2.2.2.2.2.2.2.2.2.2.2.2.2.2.2.2.2.2.2.2.2.1, u.2.2.2.2.2.2.2.2.2.2.2.2.2.2.2.2.2.2.2.2.2.2.2.2.2.2.2.2.1, u.2.2.2.2.2.2.2.2.2.2.2.2.2.2.2.2.2.2.2.2.2.2.2.2.2.2.2.2.2.1, u.2.2.2.2.2.2.2.2.2.2.2.2.2.2.2.2.2.2.2.2.2.2.2.2.2.2.2.2.2.2.1, u.2.2.2.2.2.2.2.2.2.2.2.2.2.2.2.2.2.2.2.2.2.2.2.2.2.2.2.2.2.2.2.1, u.2.2.2.2.2.2.2.2.2.2.2.2.2.2.2.2.2.2.2.2.2.2.2.2.2.2.2.2.2.2.2.2.1, u.2.2.2.2.2.2.2.2.2.2.2.2.2.2.2.2.2.2.2.2.2.2.2.2.2.2.2.2.2.2.2.2.2.1, u.2.2.2.2.2.2.2.2.2.2.2.2.2.2.2.2.2.2.2.2.2.2.2.2.2.2.2.2.2.2.2.2.2.2.1, u.2.2.2.2.2.2.2.2.2.2.2.2.2.2.2.2.2.2.2.2.2.2.2.2.2.2.2.2.2.2.2.2.2.2.2)
def xs_contextLen (e : Int32) (u : SX) : SX := (u.1, u.2.1, u.2.2.1, u.2.2.2.1, u.2.2.2.2.1, u.2.2.2.2.2.1, u.2.2.2.2.2.2.1, u.2.2.2.2.2.2.2.1, u.2.2.2.2.2.2.2.2.1, u.2.2.2.2.2.2.2.2.2.1, u.2.2.2.2.2.2.2.2.2.2.1, u.2.2.2.2.2.2.2.2.2.2.2.1, u.2.2.2.2.2.2.2.2.2.2.2.2.1, u.2.2.2.2.2.2.2.2.2.2.2.2.2.1, u.2.2.2.2.2.2.2.2.2.2.2.2.2.2.1, u.2.2.2.2.2.2.2.2.2.2.2.2.2.2.2.1, e, u.2.2.2.2.2.2.2.2.2.2.2.2.2.2.2.2.2.1, u.2.2.2.2.2.2.2.2.2.2.2.2.2.2.2.2.2.2.1, u.2.2.2.2.2.2.2.2.2.2.2.2.2.2.2.2.2.2.2.1, u.2.2.2.2.2.2.2.2.2.2.2.2.2.2.2.2.2.2.2.2.1, u.2.2.2.2.2.2.2.2.2.2.2.2.2.2.2.2.2.2.2.2.2.1, u.2.2.2.2.2.2.2.2.2.2.2.2.2.2.2.2.2.2.2.2.2.2.1, u.2.2.2.2.2.2.2.2.2.2.2.2.2.2.2.2.2.2.2.2.2.2.2.1, u.2.2.2.2.2.2.2.2.2.2.2.2.2.2.2.2.2.2.2.2.2.2.2.2.1, u.2.2.2.2.2.2.2.2.2.2.2.2.2.2.2.2.2.2.2.2.2.2.2.2.2.1, u.2.2.2.2.2.2.2.2.2.2.2.2.2.2.2.2.2.2.2.2.2.2.2.2.2.2.1, u.2.2.2.2.2.2.2.2.2.2.2.2.2.2.2.2.2.2.2.2.2.2.2.2.2.2.2.1, u.2.2.2.2.2.2.2.2.2.2.2.2.2.2.2.2.2.2.2.2.2.2.2.2.2.2.2.2.1, u.2.2.2.2.2.2.2.2.2.2.2.2.2.2.2.2.2.2.2.2.2.2.2.2.2.2.2.2.2.1, u.2.2.2.2.2.2.2.2.2.2.2.2.2.2.2.2.2.2.2.2.2.2.2.2.2.2.2.2.2.2.1, u.2.2.2.2.2.2.2.2.2.2.2.2.2.2.2.2.2.2.2.2.2.2.2.2.2.2.2.2.2.2.2.1, u.2.2.2.2.2.2.2.2.2.2.2.2.2.2.2.2.2.2.2.2.2.2.2.2.2.2.2.2.2.2.2.2.1, u.2.2.2.2.2.2.2.2.2.2.2.2.2.2.2.2.2.2.2.2.2.2.2.2.2.2.2.2.2.2.2.2.2.1, u.2.2.2.2.2.2.2.2.2.2.2.2.2.2.2.2.2.2.2.2.2.2.2.2.2.2.2.2.2.2.2.2.2.2.1, u.2.2.2.2.2.2.2.2.2.2.2.2.2.2.2.2.2.2.2.2.2.2.2.2.2.2.2.2.2.2.2.2.2.2.2)
def xs_kind (e : Nat → Int32) (u : SX) : SX := (u.1, u.2.1, u.2.2.1, u.2.2.2.1, u.2.2.2.2.1, u.2.2.2.2.2.1, u.2.2.2.2.2.2.1, u.2.2.2.2.2.2.2.1, u.2.2.2.2.2.2.2.2.1, u.2.2.2.2.2.2.2.2.2.1, u.2.2.2.2.2.2.2.2.2.2.1, u.2.2.2.2.2.2.2.2.2.2.2.1, u.2.2.2.2.2.2.2.2.2.2.2.2.1, u.2.2.2.2.2.2.2.2.2.2.2.2.2.1, u.2.2.2.2.2.2.2.2.2.2.2.2.2.2.1, u.2.2.2.2.2.2.2.2.2.2.2.2.2.2.2.1, u.2.2.2.2.2.2.2.2.2.2.2.2.2.2.2.2.1, e, u.2.2.2.2.2.2.2.2.2.2.2.2.2.2.2.2.2.2.1, u.2.2.2.2.2.2.2.2.2.2.2.2.2.2.2.2.2.2.2.1, u.2.2.2.2.2.2.2.2.2.2.2.2.2.2.2.2.2.2.2.2.1, u.2.2.2.2.2.2.2.2.2.2.2.2.2.2.2.2.2.2.2.2.2.1, u.2.2.2.2.2.2.2.2.2.2.2.2.2.2.2.2.2.2.2.2.2.2.1, u.2.2.2.2.2.2.2.2.2.2.2.2.2.2.2.2.2.2.2.2.2.2.2.1, u.2.2.2.2.2.2.2.2.2.2.2.2.2.2.2.2.2.2.2.2.2.2.2.2.1, u.2.2.2.2.2.2.2.2.2.2.2.2.2.2.2.2.2.2.2.2.2.2.2.2.2.1, u.2.2.2.2.2.2.2.2.2.2.2.2.2.2.2.2.2.2.2.2.2.2.2.2.2.2.1, u.2.2.2.2.2.2.2.2.2.2.2.2.2.2.2.2.2.2.2.2.2.2.2.2.2.2.2.1, u.2.2.2.2.2.2.2.2.2.2.2.2.2.2.2.2.2.2.2.2.2.2.2.2.2.2.2.2.1, u.2.2.2.2.2.2.2.2.2.2.2.2.2.2.2.2.2.2.2.2.2.2.2.2.2.2.2.2.2.1, u.2.2.2.2.2.2.2.2.2.2.2.2.2.2.2.2.2.2.2.2.2.2.2.2.2.2.2.2.2.2.1, u.2.2.2.2.2.2.2.2.2.2.2.2.2.2.2.2.2.2.2.2.2.2.2.2.2.2.2.2.2.2.2.1, u.2.2.2.2.2.2.2.2.2.2.2.2.2.2.2.2.2.2.2.2.2.2.2.2.2.2.2.2.2.2.2.2.1, u.2.2.2.2.2.2.2.2.2.2.2.2.2.2.2.2.2.2.2.2.2.2.2.2.2.2.2.2.2.2.2.2.2.1, u.2.2.2.2.2.2.2.2.2.2.2.2.2.2.2.2.2.2.2.2.2.2.2.2.2.2.2.2.2.2.2.2.2.2.1, u.2.2.2.2.2.2.2.2.2.2.2.2.2.2.2.2.2.2.2.2.2.2.2.2.2.2.2.2.2.2.2.2.2.2.2)
def xs_part (e : Nat → Int32) (u : SX) : SX := (u.1, u.2.1, u.2.2.1, u.2.2.2.1, u.2.2.2.2.1, u.2.2.2.2.2.1, u.2.2.2.2.2.2.1, u.2.2.2.2.2.2.2.1, u.2.2.2.2.2.2.2.2.1, u.2.2.2.2.2.2.2.2.2.1, u.2.2.2.2.2.2.2.2.2.2.1, u.2.2.2.2.2.2.2.2.2.2.2.1, u.2.2.2.2.2.2.2.2.2.2.2.2.1, u.2.2.2.2.2.2.2.2.2.2.2.2.2.1, u.2.2.2.2.2.2.2.2.2.2.2.2.2.2.1, u.2.2.2.2.2.2.2.2.2.2.2.2.2.2.2.1, u.2.2.2.2.2.2.2.2.2.2.2.2.2.2.2.2.1, u.2.2.2.2.2.2.2.2.2.2.2.2.2.2.2.2.2.1, e, u.2.2.2.2.2.2.2.2.2.2.2.2.2.2.2.2.2.2.2.1, u.2.2.2.2.2.2.2.2.2.2.2.2.2.2.2.2.2.2.2.2.1, u.2.2.2.2.2.2.2.2.2.2.2.2.2.2.2.2.2.2.2.2.2.1, u.2.2.2.2.2.2.2.2.2.2.2.2.2.2.2.2.2.2.2.2.2.2.1, u.2.2.2.2.2.2.2.2.2.2.2.2.2.2.2.2.2.2.2.2.2.2.2.1, u.2.2.2.2.2.2.2.2.2.2.2.2.2.2.2.2.2.2.2.2.2.2.2.2.1, u.2.2.2.2.2.2.2.2.2.2.2.2.2.2.2.2.2.2.2.2.2.2.2.2.2.1, u.2.2.2.2.2.2.2.2.2.2.2.2.2.2.2.2.2.2.2.2.2.2.2.2.2.2.1, u.2.2.2.2.2.2.2.2.2.2.2.2.2.2.2.2.2.2.2.2.2.2.2.2.2.2.2.1, u.2.2.2.2.2.2.2.2.2.2.2.2.2.2.2.2.2.2.2.2.2.2.2.2.2.2.2.2.1, u.2.2.2.2.2.2.2.2.2.2.2.2.2.2.2.2.2.2.2.2.2.2.2.2.2.2.2.2.2.1, u.2.2.2.2.2.2.2.2.2.2.2.2.2.2.2.2.2.2.2.2.2.2.2.2.2.2.2.2.2.2.1, u.2.2.2.2.2.2.2.2.2.2.2.2.2.2.2.2.2.2.2.2.2.2.2.2.2.2.2.2.2.2.2.1, u.2.2.2.2.2.2.2.2.2.2.2.2.2.2.2.2.2.2.2.2.2.2.2.2.2.2.2.2.2.2.2.2.1, u.2.2.2.2.2.2.2.2.2.2.2.2.2.2.2.2.2.2.2.2.2.2.2.2.2.2.2.2.2.2.2.2.2.1, u.2.2.2.2.2.2.2.2.2.2.2.2.2.2.2.2.2.2.2.2.2.2.2.2.2.2.2.2.2.2.2.2.2.2.1, u.2.2.2.2.2.2.2.2.2.2.2.2.2.2.2.2.2.2.2.2.2.2.2.2.2.2.2.2.2.2.2.2.2.2.2)
def xs_heavy (e : Nat → Int32) (u : SX) : SX := (u.1, u.2.1, u.2.2.1, u.2.2.2.1, u.2.2.2.2.1, u.2.2.2.2.2.1, u.2.2.2.2.2.2.1, u.2.2.2.2.2.2.2.1, u.2.2.2.2.2.2.2.2.1, u.2.2.2.2.2.2.2.2.2.1, u.2.2.2.2.2.2.2.2.2.2.1, u.2.2.2.2.2.2.2.2.2.2.2.1, u.2.2.2.2.2.2.2.2.2.2.2.2.1, u.2.2.2.2.2.2.2.2.2.2.2.2.2.1, u.2.2.2.2.2.2.2.2.2.2.2.2.2.2.1, u.2.2.2.2.2.2.2.2.2.2.2.2.2.2.2.1, u.2.2.2.2.2.2.2.2.2.2.2.2.2.2.2.2.1, u.2.2.2.2.2.2.2.2.2.2.2.2.2.2.2.2.2.1, u.2.2.2.2.2.2.2.2.2.2.2.2.2.2.2.2.2.2.1, e, u.2.2.2.2.2.2.2.2.2.2.2.2.2.2.2.2.2.2.2.2.1, u.2.2.2.2.2.2.2.2.2.2.2.2.2.2.2.2.2.2.2.2.2.1, u.2.2.2.2.2.2.2.2.2.2.2.2.2.2.2.2.2.2.2.2.2.2.1, u.2.2.2.2.2.2.2.2.2.2.2.2.2.2.2.2.2.2.2.2.2.2.2.1, u.2.2.2.2.2.2.2.2.2.2.2.2.2.2.2.2.2.2.2.2.2.2.2.2.1, u.2.2.2.2.2.2.2.2.2.2.2.2.2.2.2.2.2.2.2.2.2.2.2.2.2.1, u.2.2.2.2.2.2.2.2.2.2.2.2.2.2.2.2.2.2.2.2.2.2.2.2.2.2.1, u.2.2.2.2.2.2.2.2.2.2.2.2.2.2.2.2.2.2.2.2.2.2.2.2.2.2.2.1, u.2.2.2.2.2.2.2.2.2.2.2.2.2.2.2.2.2.2.2.2.2.2.2.2.2.2.2.2.1, u.2.2.2.2.2.2.2.2.2.2.2.2.2.2.2.2.2.2.2.2.2.2.2.2.2.2.2.2.2.1, u.2.2.2.2.2.2.2.2.2.2.2.2.2.2.2.2.2.2.2.2.2.2.2.2.2.2.2.2.2.2.1, u.2.2.2.2.2.2.2.2.2.2.2.2.2.2.2.2.2.2.2.2.2.2.2.2.2.2.2.2.2.2.2.1, u.2.2.2.2.2.2.2.2.2.2.2.2.2.2.2.2.2.2.2.2.2.2.2.2.2.2.2.2.2.2.2.2.1, u.2.2.2.2.2.2.2.2.2.2.2.2.2.2.2.2.2.2.2.2.2.2.2.2.2.2.2.2.2.2.2.2.2.1, u.2.2.2.2.2.2.2.2.2.2.2.2.2.2.2.2.2.2.2.2.2.2.2.2.2.2.2.2.2.2.2.2.2.2.1, u.2.2.2.2.2.2.2.2.2.2.2.2.2.2.2.2.2.2.2.2.2.2.2.2.2.2.2.2.2.2.2.2.2.2.2)
def xs_entryBody (e : Nat → Int32) (u : SX) : SX := (u.1, u.2.1, u.2.2.1, u.2.2.2.1, u.2.2.2.2.1, u.2.2.2.2.2.1, u.2.2.2.2.2.2.1, u.2.2.2.2.2.2.2.1, u.2.2.2.2.2.2.2.2.1, u.2.2.2.2.2.2.2.2.2.1, u.2.2.2.2.2.2.2.2.2.2.1, u.2.2.2.2.2.2.2.2.2.2.2.1, u.2.2.2.2.2.2.2.2.2.2.2.2.1, u.2.2.2.2.2.2.2.2.2.2.2.2.2.1, u.2.2.2.2.2.2.2.2.2.2.2.2.2.2.1, u.2.2.2.2.2.2.2.2.2.2.2.2.2.2.2.1, u.2.2.2.2.2.2.2.2.2.2.2.2.2.2.2.2.1, u.2.2.2.2.2.2.2.2.2.2.2.2.2.2.2.2.2.1, u.2.2.2.2.2.2.2.2.2.2.2.2.2.2.2.2.2.2.1, u.2.2.2.2.2.2.2.2.2.2.2.2.2.2.2.2.2.2.2.1, e, u.2.2.2.2.2.2.2.2.2.2.2.2.2.2.2.2.2.2.2.2.2.1, u.2.2.2.2.2.2.2.2.2.2.2.2.2.2.2.2.2.2.2.2.2.2.1, u.2.2.2.2.2.2.2.2.2.2.2.2.2.2.2.2.2.2.2.2.2.2.2.1, u.2.2.2.2.2.2.2.2.2.2.2.2.2.2.2.2.2.2.2.2.2.2.2.2.1, u.2.2.2.2.2.2.2.2.2.2.2.2.2.2.2.2.2.2.2.2.2.2.2.2.2.1, u.2.2.2.2.2.2.2.2.2.2.2.2.2.2.2.2.2.2.2.2.2.2.2.2.2.2.1, u.2.2.2.2.2.2.2.2.2.2.2.2.2.2.2.2.2.2.2.2.2.2.2.2.2.2.2.1, u.2.2.2.2.2.2.2.2.2.2.2.2.2.2.2.2.2.2.2.2.2.2.2.2.2.2.2.2.1, u.2.2.2.2.2.2.2.2.2.2.2.2.2.2.2.2.2.2.2.2.2.2.2.2.2.2.2.2.2.1, u.2.2.2.2.2.2.2.2.2.2.2.2.2.2.2.2.2.2.2.2.2.2.2.2.2.2.2.2.2.2.1, u.2.2.2.2.2.2.2.2.2.2.2.2.2.2.2.2.2.2.2.2.2.2.2.2.2.2.2.2.2.2.2.1, u.2.2.2.2.2.2.2.2.2.2.2.2.2.2.2.2.2.2.2.2.2.2.2.2.2.2.2.2.2.2.2.2.1, u.2.2.2.2.2.2.2.2.2.2.2.2.2.2.2.2.2.2.2.2.2.2.2.2.2.2.2.2.2.2.2.2.2.1, u.2.2.2.2.2.2.2.2.2.2.2.2.2.2.2.2.2.2.2.2.2.2.2.2.2.2.2.2.2.2.2.2.2.2.1, u.2.2.2.2.2.2.2.2.2.2.2.2.2.2.2.2.2.2.2.2.2.2.2.2.2.2.2.2.2.2.2.2.2.2.2)
def xs_entryClaim (e : Nat → Int32) (u : SX) : SX := (u.1, u.2.1, u.2.2.1, u.2.2.2.1, u.2.2.2.2.1, u.2.2.2.2.2.1, u.2.2.2.2.2.2.1, u.2.2.2.2.2.2.2.1, u.2.2.2.2.2.2.2.2.1, u.2.2.2.2.2.2.2.2.2.1, u.2.2.2.2.2.2.2.2.2.2.1, u.2.2.2.2.2.2.2.2.2.2.2.1, u.2.2.2.2.2.2.2.2.2.2.2.2.1, u.2.2.2.2.2.2.2.2.2.2.2.2.2.1, u.2.2.2.2.2.2.2.2.2.2.2.2.2.2.1, u.2.2.2.2.2.2.2.2.2.2.2.2.2.2.2.1, u.2.2.2.2.2.2.2.2.2.2.2.2.2.2.2.2.1, u.2.2.2.2.2.2.2.2.2.2.2.2.2.2.2.2.2.1, u.2.2.2.2.2.2.2.2.2.2.2.2.2.2.2.2.2.2.1, u.2.2.2.2.2.2.2.2.2.2.2.2.2.2.2.2.2.2.2.1, u.2.2.2.2.2.2.2.2.2.2.2.2.2.2.2.2.2.2.2.2.1, e, u.2.2.2.2.2.2.2.2.2.2.2.2.2.2.2.2.2.2.2.2.2.2.1, u.2.2.2.2.2.2.2.2.2.2.2.2.2.2.2.2.2.2.2.2.2.2.2.1, u.2.2.2.2.2.2.2.2.2.2.2.2.2.2.2.2.2.2.2.2.2.2.2.2.1, u.2.2.2.2.2.2.2.2.2.2.2.2.2.2.2.2.2.2.2.2.2.2.2.2.2.1, u.2.2.2.2.2.2.2.2.2.2.2.2.2.2.2.2.2.2.2.2.2.2.2.2.2.2.1, u.2.2.2.2.2.2.2.2.2.2.2.2.2.2.2.2.2.2.2.2.2.2.2.2.2.2.2.1, u.2.2.2.2.2.2.2.2.2.2.2.2.2.2.2.2.2.2.2.2.2.2.2.2.2.2.2.2.1, u.2.2.2.2.2.2.2.2.2.2.2.2.2.2.2.2.2.2.2.2.2.2.2.2.2.2.2.2.2.1, u.2.2.2.2.2.2.2.2.2.2.2.2.2.2.2.2.2.2.2.2.2.2.2.2.2.2.2.2.2.2.1, u.2.2.2.2.2.2.2.2.2.2.2.2.2.2.2.2.2.2.2.2.2.2.2.2.2.2.2.2.2.2.2.1, u.2.2.2.2.2.2.2.2.2.2.2.2.2.2.2.2.2.2.2.2.2.2.2.2.2.2.2.2.2.2.2.2.1, u.2.2.2.2.2.2.2.2.2.2.2.2.2.2.2.2.2.2.2.2.2.2.2.2.2.2.2.2.2.2.2.2.2.1, u.2.2.2.2.2.2.2.2.2.2.2.2.2.2.2.2.2.2.2.2.2.2.2.2.2.2.2.2.2.2.2.2.2.2.1, u.2.2.2.2.2.2.2.2.2.2.2.2.2.2.2.2.2.2.2.2.2.2.2.2.2.2.2.2.2.2.2.2.2.2.2)
def xs_entryType (e : Nat → Int32) (u : SX) : SX := (u.1, u.2.1, u.2.2.1, u.2.2.2.1, u.2.2.2.2.1, u.2.2.2.2.2.1, u.2.2.2.2.2.2.1, u.2.2.2.2.2.2.2.1, u.2.2.2.2.2.2.2.2.1, u.2.2.2.2.2.2.2.2.2.1, u.2.2.2.2.2.2.2.2.2.2.1, u.2.2.2.2.2.2.2.2.2.2.2.1, u.2.2.2.2.2.2.2.2.2.2.2.2.1, u.2.2.2.2.2.2.2.2.2.2.2.2.2.1, u.2.2.2.2.2.2.2.2.2.2.2.2.2.2.1, u.2.2.2.2.2.2.2.2.2.2.2.2.2.2.2.1, u.2.2.2.2.2.2.2.2.2.2.2.2.2.2.2.2.1, u.2.2.2.2.2.2.2.2.2.2.2.2.2.2.2.2.2.1, u.2.2.2.2.2.2.2.2.2.2.2.2.2.2.2.2.2.2.1, u.2.2.2.2.2.2.2.2.2.2.2.2.2.2.2.2.2.2.2.1, u.2.2.2.2.2.2.2.2.2.2.2.2.2.2.2.2.2.2.2.2.1, u.2.2.2.2.2.2.2.2.2.2.2.2.2.2.2.2.2.2.2.2.2.1, e, u.2.2.2.2.2.2.2.2.2.2.2.2.2.2.2.2.2.2.2.2.2.2.2.1, u.2.2.2.2.2.2.2.2.2.2.2.2.2.2.2.2.2.2.2.2.2.2.2.2.1, u.2.2.2.2.2.2.2.2.2.2.2.2.2.2.2.2.2.2.2.2.2.2.2.2.2.1, u.2.2.2.2.2.2.2.2.2.2.2.2.2.2.2.2.2.2.2.2.2.2.2.2.2.2.1, u.2.2.2.2.2.2.2.2.2.2.2.2.2.2.2.2.2.2.2.2.2.2.2.2.2.2.2.1, u.2.2.2.2.2.2.2.2.2.2.2.2.2.2.2.2.2.2.2.2.2.2.2.2.2.2.2.2.1, u.2.2.2.2.2.2.2.2.2.2.2.2.2.2.2.2.2.2.2.2.2.2.2.2.2.2.2.2.2.1, u.2.2.2.2.2.2.2.2.2.2.2.2.2.2.2.2.2.2.2.2.2.2.2.2.2.2.2.2.2.2.1, u.2.2.2.2.2.2.2.2.2.2.2.2.2.2.2.2.2.2.2.2.2.2.2.2.2.2.2.2.2.2.2.1, u.2.2.2.2.2.2.2.2.2.2.2.2.2.2.2.2.2.2.2.2.2.2.2.2.2.2.2.2.2.2.2.2.1, u.2.2.2.2.2.2.2.2.2.2.2.2.2.2.2.2.2.2.2.2.2.2.2.2.2.2.2.2.2.2.2.2.2.1, u.2.2.2.2.2.2.2.2.2.2.2.2.2.2.2.2.2.2.2.2.2.2.2.2.2.2.2.2.2.2.2.2.2.2.1, u.2.2.2.2.2.2.2.2.2.2.2.2.2.2.2.2.2.2.2.2.2.2.2.2.2.2.2.2.2.2.2.2.2.2.2)
def xs_curKind (e : Nat → Int32) (u : SX) : SX := (u.1, u.2.1, u.2.2.1, u.2.2.2.1, u.2.2.2.2.1, u.2.2.2.2.2.1, u.2.2.2.2.2.2.1, u.2.2.2.2.2.2.2.1, u.2.2.2.2.2.2.2.2.1, u.2.2.2.2.2.2.2.2.2.1, u.2.2.2.2.2.2.2.2.2.2.1, u.2.2.2.2.2.2.2.2.2.2.2.1, u.2.2.2.2.2.2.2.2.2.2.2.2.1, u.2.2.2.2.2.2.2.2.2.2.2.2.2.1, u.2.2.2.2.2.2.2.2.2.2.2.2.2.2.1, u.2.2.2.2.2.2.2.2.2.2.2.2.2.2.2.1, u.2.2.2.2.2.2.2.2.2.2.2.2.2.2.2.2.1, u.2.2.2.2.2.2.2.2.2.2.2.2.2.2.2.2.2.1, u.2.2.2.2.2.2.2.2.2.2.2.2.2.2.2.2.2.2.1, u.2.2.2.2.2.2.2.2.2.2.2.2.2.2.2.2.2.2.2.1, u.2.2.2.2.2.2.2.2.2.2.2.2.2.2.2.2.2.2.2.2.1, u.2.2.2.2.2.2.2.2.2.2.2.2.2.2.2.2.2.2.2.2.2.1, u.2.2.2.2.2.2.2.2.2.2.2.2.2.2.2.2.2.2.2.2.2.2.1, e, u.2.2.2.2.2.2.2.2.2.2.2.2.2.2.2.2.2.2.2.2.2.2.2.2.1, u.2.2.2.2.2.2.2.2.2.2.2.2.2.2.2.2.2.2.2.2.2.2.2.2.2.1, u.2.2.2.2.2.2.2.2.2.2.2.2.2.2.2.2.2.2.2.2.2.2.2.2.2.2.1, u.2.2.2.2.2.2.2.2.2.2.2.2.2.2.2.2.2.2.2.2.2.2.2.2.2.2.2.1, u.2.2.2.2.2.2.2.2.2.2.2.2.2.2.2.2.2.2.2.2.2.2.2.2.2.2.2.2.1, u.2.2.2.2.2.2.2.2.2.2.2.2.2.2.2.2.2.2.2.2.2.2.2.2.2.2.2.2.2.1, u.2.2.2.2.2.2.2.2.2.2.2.2.2.2.2.2.2.2.2.2.2.2.2.2.2.2.2.2.2.2.1, u.2.2.2.2.2.2.2.2.2.2.2.2.2.2.2.2.2.2.2.2.2.2.2.2.2.2.2.2.2.2.2.1, u.2.2.2.2.2.2.2.2.2.2.2.2.2.2.2.2.2.2.2.2.2.2.2.2.2.2.2.2.2.2.2.2.1, u.2.2.2.2.2.2.2.2.2.2.2.2.2.2.2.2.2.2.2.2.2.2.2.2.2.2.2.2.2.2.2.2.2.1, u.2.2.2.2.2.2.2.2.2.2.2.2.2.2.2.2.2.2.2.2.2.2.2.2.2.2.2.2.2.2.2.2.2.2.1, u.2.2.2.2.2.2.2.2.2.2.2.2.2.2.2.2.2.2.2.2.2.2.2.2.2.2.2.2.2.2.2.2.2.2.2)
def xs_curVal (e : Nat → Int32) (u : SX) : SX := (u.1, u.2.1, u.2.2.1, u.2.2.2.1, u.2.2.2.2.1, u.2.2.2.2.2.1, u.2.2.2.2.2.2.1, u.2.2.2.2.2.2.2.1, u.2.2.2.2.2.2.2.2.1, u.2.2.2.2.2.2.2.2.2.1, u.2.2.2.2.2.2.2.2.2.2.1, u.2.2.2.2.2.2.2.2.2.2.2.1, u.2.2.2.2.2.2.2.2.2.2.2.2.1, u.2.2.2.2.2.2.2.2.2.2.2.2.2.1, u.2.2.2.2.2.2.2.2.2.2.2.2.2.2.1, u.2.2.2.2.2.2.2.2.2.2.2.2.2.2.2.1, u.2.2.2.2.2.2.2.2.2.2.2.2.2.2.2.2.1, u.2.2.2.2.2.2.2.2.2.2.2.2.2.2.2.2.2.1, u.2.2.2.2.2.2.2.2.2.2.2.2.2.2.2.2.2.2.1, u.2.2.2.2.2.2.2.2.2.2.2.2.2.2.2.2.2.2.2.1, u.2.2.2.2.2.2.2.2.2.2.2.2.2.2.2.2.2.2.2.2.1, u.2.2.2.2.2.2.2.2.2.2.2.2.2.2.2.2.2.2.2.2.2.1, u.2.2.2.2.2.2.2.2.2.2.2.2.2.2.2.2.2.2.2.2.2.2.1, u.2.2.2.2.2.2.2.2.2.2.2.2.2.2.2.2.2.2.2.2.2.2.2.1, e, u.2.2.2.2.2.2.2.2.2.2.2.2.2.2.2.2.2.2.2.2.2.2.2.2.2.1, u.2.2.2.2.2.2.2.2.2.2.2.2.2.2.2.2.2.2.2.2.2.2.2.2.2.2.1, u.2.2.2.2.2.2.2.2.2.2.2.2.2.2.2.2.2.2.2.2.2.2.2.2.2.2.2.1, u.2.2.2.2.2.2.2.2.2.2.2.2.2.2.2.2.2.2.2.2.2.2.2.2.2.2.2.2.1, u.2.2.2.2.2.2.2.2.2.2.2.2.2.2.2.2.2.2.2.2.2.2.2.2.2.2.2.2.2.1, u.2.2.2.2.2.2.2.2.2.2.2.2.2.2.2.2.2.2.2.2.2.2.2.2.2.2.2.2.2.2.1, u.2.2.2.2.2.2.2.2.2.2.2.2.2.2.2.2.2.2.2.2.2.2.2.2.2.2.2.2.2.2.2.1, u.2.2.2.2.2.2.2.2.2.2.2.2.2.2.2.2.2.2.2.2.2.2.2.2.2.2.2.2.2.2.2.2.1, u.2.2.2.2.2.2.2.2.2.2.2.2.2.2.2.2.2.2.2.2.2.2.2.2.2.2.2.2.2.2.2.2.2.1, u.2.2.2.2.2.2.2.2.2.2.2.2.2.2.2.2.2.2.2.2.2.2.2.2.2.2.2.2.2.2.2.2.2.2.1, u.2.2.2.2.2.2.2.2.2.2.2.2.2.2.2.2.2.2.2.2.2.2.2.2.2.2.2.2.2.2.2.2.2.2.2)
def xs_curDepth (e : Nat → Int32) (u : SX) : SX := (u.1, u.2.1, u.2.2.1, u.2.2.2.1, u.2.2.2.2.1, u.2.2.2.2.2.1, u.2.2.2.2.2.2.1, u.2.2.2.2.2.2.2.1, u.2.2.2.2.2.2.2.2.1, u.2.2.2.2.2.2.2.2.2.1, u.2.2.2.2.2.2.2.2.2.2.1, u.2.2.2.2.2.2.2.2.2.2.2.1, u.2.2.2.2.2.2.2.2.2.2.2.2.1, u.2.2.2.2.2.2.2.2.2.2.2.2.2.1, u.2.2.2.2.2.2.2.2.2.2.2.2.2.2.1, u.2.2.2.2.2.2.2.2.2.2.2.2.2.2.2.1, u.2.2.2.2.2.2.2.2.2.2.2.2.2.2.2.2.1, u.2.2.2.2.2.2.2.2.2.2.2.2.2.2.2.2.2.1, u.2.2.2.2.2.2.2.2.2.2.2.2.2.2.2.2.2.2.1, u.2.2.2.2.2.2.2.2.2.2.2.2.2.2.2.2.2.2.2.1, u.2.2.2.2.2.2.2.2.2.2.2.2.2.2.2.2.2.2.2.2.1, u.2.2.2.2.2.2.2.2.2.2.2.2.2.2.2.2.2.2.2.2.2.1, u.2.2.2.2.2.2.2.2.2.2.2.2.2.2.2.2.2.2.2.2.2.2.1, u.2.2.2.2.2.2.2.2.2.2.2.2.2.2.2.2.2.2.2.2.2.2.2.1, u.2.2.2.2.2.2.2.2.2.2.2.2.2.2.2.2.2.2.2.2.2.2.2.2.1, e, u.2.2.2.2.2.2.2.2.2.2.2.2.2.2.2.2.2.2.2.2.2.2.2.2.2.2.1, u.2.2.2.2.2.2.2.2.2.2.2.2.2.2.2.2.2.2.2.2.2.2.2.2.2.2.2.1, u.2.2.2.2.2.2.2.2.2.2.2.2.2.2.2.2.2.2.2.2.2.2.2.2.2.2.2.2.1, u.2.2.2.2.2.2.2.2.2.2.2.2.2.2.2.2.2.2.2.2.2.2.2.2.2.2.2.2.2.1, u.2.2.2.2.2.2.2.2.2.2.2.2.2.2.2.2.2.2.2.2.2.2.2.2.2.2.2.2.2.2.1, u.2.2.2.2.2.2.2.2.2.2.2.2.2.2.2.2.2.2.2.2.2.2.2.2.2.2.2.2.2.2.2.1, u.2.2.2.2.2.2.2.2.2.2.2.2.2.2.2.2.2.2.2.2.2.2.2.2.2.2.2.2.2.2.2.2.1, u.2.2.2.2.2.2.2.2.2.2.2.2.2.2.2.2.2.2.2.2.2.2.2.2.2.2.2.2.2.2.2.2.2.1, u.2.2.2.2.2.2.2.2.2.2.2.2.2.2.2.2.2.2.2.2.2.2.2.2.2.2.2.2.2.2.2.2.2.2.1, u.2.2.2.2.2.2.2.2.2.2.2.2.2.2.2.2.2.2.2.2.2.2.2.2.2.2.2.2.2.2.2.2.2.2.2)
def xs_outKind (e : Nat → Int32) (u : SX) : SX := (u.1, u.2.1, u.2.2.1, u.2.2.2.1, u.2.2.2.2.1, u.2.2.2.2.2.1, u.2.2.2.2.2.2.1, u.2.2.2.2.2.2.2.1, u.2.2.2.2.2.2.2.2.1, u.2.2.2.2.2.2.2.2.2.1, u.2.2.2.2.2.2.2.2.2.2.1, u.2.2.2.2.2.2.2.2.2.2.2.1, u.2.2.2.2.2.2.2.2.2.2.2.2.1, u.2.2.2.2.2.2.2.2.2.2.2.2.2.1, u.2.2.2.2.2.2.2.2.2.2.2.2.2.2.1, u.2.2.2.2.2.2.2.2.2.2.2.2.2.2.2.1, u.2.2.2.2.2.2.2.2.2.2.2.2.2.2.2.2.1, u.2.2.2.2.2.2.2.2.2.2.2.2.2.2.2.2.2.1, u.2.2.2.2.2.2.2.2.2.2.2.2.2.2.2.2.2.2.1, u.2.2.2.2.2.2.2.2.2.2.2.2.2.2.2.2.2.2.2.1, u.2.2.2.2.2.2.2.2.2.2.2.2.2.2.2.2.2.2.2.2.1, u.2.2.2.2.2.2.2.2.2.2.2.2.2.2.2.2.2.2.2.2.2.1, u.2.2.2.2.2.2.2.2.2.2.2.2.2.2.2.2.2.2.2.2.2.2.1, u.2.2.2.2.2.2.2.2.2.2.2.2.2.2.2.2.2.2.2.2.2.2.2.1, u.2.2.2.2.2.2.2.2.2.2.2.2.2.2.2.2.2.2.2.2.2.2.2.2.1, u.2.2.2.2.2.2.2.2.2.2.2.2.2.2.2.2.2.2.2.2.2.2.2.2.2.1, e, u.2.2.2.2.2.2.2.2.2.2.2.2.2.2.2.2.2.2.2.2.2.2.2.2.2.2.2.1, u.2.2.2.2.2.2.2.2.2.2.2.2.2.2.2.2.2.2.2.2.2.2.2.2.2.2.2.2.1, u.2.2.2.2.2.2.2.2.2.2.2.2.2.2.2.2.2.2.2.2.2.2.2.2.2.2.2.2.2.1, u.2.2.2.2.2.2.2.2.2.2.2.2.2.2.2.2.2.2.2.2.2.2.2.2.2.2.2.2.2.2.1, u.2.2.2.2.2.2.2.2.2.2.2.2.2.2.2.2.2.2.2.2.2.2.2.2.2.2.2.2.2.2.2.1, u.2.2.2.2.2.2.2.2.2.2.2.2.2.2.2.2.2.2.2.2.2.2.2.2.2.2.2.2.2.2.2.2.1, u.2.2.2.2.2.2.2.2.2.2.2.2.2.2.2.2.2.2.2.2.2.2.2.2.2.2.2.2.2.2.2.2.2.1, u.2.2.2.2.2.2.2.2.2.2.2.2.2.2.2.2.2.2.2.2.2.2.2.2.2.2.2.2.2.2.2.2.2.2.1, u.2.2.2.2.2.2.2.2.2.2.2.2.2.2.2.2.2.2.2.2.2.2.2.2.2.2.2.2.2.2.2.2.2.2.2)
def xs_outVal (e : Nat → Int32) (u : SX) : SX := (u.1, u.2.1, u.2.2.1, u.2.2.2.1, u.2.2.2.2.1, u.2.2.2.2.2.1, u.2.2.2.2.2.2.1, u.2.2.2.2.2.2.2.1, u.2.2.2.2.2.2.2.2.1, u.2.2.2.2.2.2.2.2.2.1, u.2.2.2.2.2.2.2.2.2.2.1, u.2.2.2.2.2.2.2.2.2.2.2.1, u.2.2.2.2.2.2.2.2.2.2.2.2.1, u.2.2.2.2.2.2.2.2.2.2.2.2.2.1, u.2.2.2.2.2.2.2.2.2.2.2.2.2.2.1, u.2.2.2.2.2.2.2.2.2.2.2.2.2.2.2.1, u.2.2.2.2.2.2.2.2.2.2.2.2.2.2.2.2.1, u.2.2.2.2.2.2.2.2.2.2.2.2.2.2.2.2.2.1, u.2.2.2.2.2.2.2.2.2.2.2.2.2.2.2.2.2.2.1, u.2.2.2.2.2.2.2.2.2.2.2.2.2.2.2.2.2.2.2.1, u.2.2.2.2.2.2.2.2.2.2.2.2.2.2.2.2.2.2.2.2.1, u.2.2.2.2.2.2.2.2.2.2.2.2.2.2.2.2.2.2.2.2.2.1, u.2.2.2.2.2.2.2.2.2.2.2.2.2.2.2.2.2.2.2.2.2.2.1, u.2.2.2.2.2.2.2.2.2.2.2.2.2.2.2.2.2.2.2.2.2.2.2.1, u.2.2.2.2.2.2.2.2.2.2.2.2.2.2.2.2.2.2.2.2.2.2.2.2.1, u.2.2.2.2.2.2.2.2.2.2.2.2.2.2.2.2.2.2.2.2.2.2.2.2.2.1, u.2.2.2.2.2.2.2.2.2.2.2.2.2.2.2.2.2.2.2.2.2.2.2.2.2.2.1, e, u.2.2.2.2.2.2.2.2.2.2.2.2.2.2.2.2.2.2.2.2.2.2.2.2.2.2.2.2.1, u.2.2.2.2.2.2.2.2.2.2.2.2.2.2.2.2.2.2.2.2.2.2.2.2.2.2.2.2.2.1, u.2.2.2.2.2.2.2.2.2.2.2.2.2.2.2.2.2.2.2.2.2.2.2.2.2.2.2.2.2.2.1, u.2.2.2.2.2.2.2.2.2.2.2.2.2.2.2.2.2.2.2.2.2.2.2.2.2.2.2.2.2.2.2.1, u.2.2.2.2.2.2.2.2.2.2.2.2.2.2.2.2.2.2.2.2.2.2.2.2.2.2.2.2.2.2.2.2.1, u.2.2.2.2.2.2.2.2.2.2.2.2.2.2.2.2.2.2.2.2.2.2.2.2.2.2.2.2.2.2.2.2.2.1, u.2.2.2.2.2.2.2.2.2.2.2.2.2.2.2.2.2.2.2.2.2.2.2.2.2.2.2.2.2.2.2.2.2.2.1, u.2.2.2.2.2.2.2.2.2.2.2.2.2.2.2.2.2.2.2.2.2.2.2.2.2.2.2.2.2.2.2.2.2.2.2)
def xs_pend (e : Nat → Int32) (u : SX) : SX := (u.1, u.2.1, u.2.2.1, u.2.2.2.1, u.2.2.2.2.1, u.2.2.2.2.2.1, u.2.2.2.2.2.2.1, u.2.2.2.2.2.2.2.1, u.2.2.2.2.2.2.2.2.1, u.2.2.2.2.2.2.2.2.2.1, u.2.2.2.2.2.2.2.2.2.2.1, u.2.2.2.2.2.2.2.2.2.2.2.1, u.2.2.2.2.2.2.2.2.2.2.2.2.1, u.2.2.2.2.2.2.2.2.2.2.2.2.2.1, u.2.2.2.2.2.2.2.2.2.2.2.2.2.2.1, u.2.2.2.2.2.2.2.2.2.2.2.2.2.2.2.1, u.2.2.2.2.2.2.2.2.2.2.2.2.2.2.2.2.1, u.2.2.2.2.2.2.2.2.2.2.2.2.2.2.2.2.2.1, u.2.2.2.2.2.2.2.2.2.2.2.2.2.2.2.2.2.2.1, u.2.2.2.2.2.2.2.2.2.2.2.2.2.2.2.2.2.2.2.1, u.2.2.2.2.2.2.2.2.2.2.2.2.2.2.2.2.2.2.2.2.1, u.2.2.2.2.2.2.2.2.2.2.2.2.2.2.2.2.2.2.2.2.2.1, u.2.2.2.2.2.2.2.2.2.2.2.2.2.2.2.2.2.2.2.2.2.2.1, u.2.2.2.2.2.2.2.2.2.2.2.2.2.2.2.2.2.2.2.2.2.2.2.1, u.2.2.2.2.2.2.2.2.2.2.2.2.2.2.2.2.2.2.2.2.2.2.2.2.1, u.2.2.2.2.2.2.2.2.2.2.2.2.2.2.2.2.2.2.2.2.2.2.2.2.2.1, u.2.2.2.2.2.2.2.2.2.2.2.2.2.2.2.2.2.2.2.2.2.2.2.2.2.2.1, u.2.2.2.2.2.2.2.2.2.2.2.2.2.2.2.2.2.2.2.2.2.2.2.2.2.2.2.1, e, u.2.2.2.2.2.2.2.2.2.2.2.2.2.2.2.2.2.2.2.2.2.2.2.2.2.2.2.2.2.1, u.2.2.2.2.2.2.2.2.2.2.2.2.2.2.2.2.2.2.2.2.2.2.2.2.2.2.2.2.2.2.1, u.2.2.2.2.2.2.2.2.2.2.2.2.2.2.2.2.2.2.2.2.2.2.2.2.2.2.2.2.2.2.2.1, u.2.2.2.2.2.2.2.2.2.2.2.2.2.2.2.2.2.2.2.2.2.2.2.2.2.2.2.2.2.2.2.2.1, u.2.2.2.2.2.2.2.2.2.2.2.2.2.2.2.2.2.2.2.2.2.2.2.2.2.2.2.2.2.2.2.2.2.1, u.2.2.2.2.2.2.2.2.2.2.2.2.2.2.2.2.2.2.2.2.2.2.2.2.2.2.2.2.2.2.2.2.2.2.1, u.2.2.2.2.2.2.2.2.2.2.2.2.2.2.2.2.2.2.2.2.2.2.2.2.2.2.2.2.2.2.2.2.2.2.2)
def xs_openPos (e : Nat → Int32) (u : SX) : SX := (u.1, u.2.1, u.2.2.1, u.2.2.2.1, u.2.2.2.2.1, u.2.2.2.2.2.1, u.2.2.2.2.2.2.1, u.2.2.2.2.2.2.2.1, u.2.2.2.2.2.2.2.2.1, u.2.2.2.2.2.2.2.2.2.1, u.2.2.2.2.2.2.2.2.2.2.1, u.2.2.2.2.2.2.2.2.2.2.2.1, u.2.2.2.2.2.2.2.2.2.2.2.2.1, u.2.2.2.2.2.2.2.2.2.2.2.2.2.1, u.2.2.2.2.2.2.2.2.2.2.2.2.2.2.1, u.2.2.2.2.2.2.2.2.2.2.2.2.2.2.2.1, u.2.2.2.2.2.2.2.2.2.2.2.2.2.2.2.2.1, u.2.2.2.2.2.2.2.2.2.2.2.2.2.2.2.2.2.1, u.2.2.2.2.2.2.2.2.2.2.2.2.2.2.2.2.2.2.1, u.2.2.2.2.2.2.2.2.2.2.2.2.2.2.2.2.2.2.2.1, u.2.2.2.2.2.2.2.2.2.2.2.2.2.2.2.2.2.2.2.2.1, u.2.2.2.2.2.2.2.2.2.2.2.2.2.2.2.2.2.2.2.2.2.1, u.2.2.2.2.2.2.2.2.2.2.2.2.2.2.2.2.2.2.2.2.2.2.1, u.2.2.2.2.2.2.2.2.2.2.2.2.2.2.2.2.2.2.2.2.2.2.2.1, u.2.2.2.2.2.2.2.2.2.2.2.2.2.2.2.2.2.2.2.2.2.2.2.2.1, u.2.2.2.2.2.2.2.2.2.2.2.2.2.2.2.2.2.2.2.2.2.2.2.2.2.1, u.2.2.2.2.2.2.2.2.2.2.2.2.2.2.2.2.2.2.2.2.2.2.2.2.2.2.1, u.2.2.2.2.2.2.2.2.2.2.2.2.2.2.2.2.2.2.2.2.2.2.2.2.2.2.2.1, u.2.2.2.2.2.2.2.2.2.2.2.2.2.2.2.2.2.2.2.2.2.2.2.2.2.2.2.2.1, e, u.2.2.2.2.2.2.2.2.2.2.2.2.2.2.2.2.2.2.2.2.2.2.2.2.2.2.2.2.2.2.1, u.2.2.2.2.2.2.2.2.2.2.2.2.2.2.2.2.2.2.2.2.2.2.2.2.2.2.2.2.2.2.2.1, u.2.2.2.2.2.2.2.2.2.2.2.2.2.2.2.2.2.2.2.2.2.2.2.2.2.2.2.2.2.2.2.2.1, u.2.2.2.2.2.2.2.2.2.2.2.2.2.2.2.2.2.2.2.2.2.2.2.2.2.2.2.2.2.2.2.2.2.1, u.2.2.2.2.2.2.2.2.2.2.2.2.2.2.2.2.2.2.2.2.2.2.2.2.2.2.2.2.2.2.2.2.2.2.1, u.2.2.2.2.2.2.2.2.2.2.2.2.2.2.2.2.2.2.2.2.2.2.2.2.2.2.2.2.2.2.2.2.2.2.2)
def xs_openLeft (e : Nat → Int32) (u : SX) : SX := (u.1, u.2.1, u.2.2.1, u.2.2.2.1, u.2.2.2.2.1, u.2.2.2.2.2.1, u.2.2.2.2.2.2.1, u.2.2.2.2.2.2.2.1, u.2.2.2.2.2.2.2.2.1, u.2.2.2.2.2.2.2.2.2.1, u.2.2.2.2.2.2.2.2.2.2.1, u.2.2.2.2.2.2.2.2.2.2.2.1, u.2.2.2.2.2.2.2.2.2.2.2.2.1, u.2.2.2.2.2.2.2.2.2.2.2.2.2.1, u.2.2.2.2.2.2.2.2.2.2.2.2.2.2.1, u.2.2.2.2.2.2.2.2.2.2.2.2.2.2.2.1, u.2.2.2.2.2.2.2.2.2.2.2.2.2.2.2.2.1, u.2.2.2.2.2.2.2.2.2.2.2.2.2.2.2.2.2.1, u.2.2.2.2.2.2.2.2.2.2.2.2.2.2.2.2.2.2.1, u.2.2.2.2.2.2.2.2.2.2.2.2.2.2.2.2.2.2.2.1, u.2.2.2.2.2.2.2.2.2.2.2.2.2.2.2.2.2.2.2.2.1, u.2.2.2.2.2.2.2.2.2.2.2.2.2.2.2.2.2.2.2.2.2.1, u.2.2.2.2.2.2.2.2.2.2.2.2.2.2.2.2.2.2.2.2.2.2.1, u.2.2.2.2.2.2.2.2.2.2.2.2.2.2.2.2.2.2.2.2.2.2.2.1, u.2.2.2.2.2.2.2.2.2.2.2.2.2.2.2.2.2.2.2.2.2.2.2.2.1, u.2.2.2.2.2.2.2.2.2.2.2.2.2.2.2.2.2.2.2.2.2.2.2.2.2.1, u.2.2.2.2.2.2.2.2.2.2.2.2.2.2.2.2.2.2.2.2.2.2.2.2.2.2.1, u.2.2.2.2.2.2.2.2.2.2.2.2.2.2.2.2.2.2.2.2.2.2.2.2.2.2.2.1, u.2.2.2.2.2.2.2.2.2.2.2.2.2.2.2.2.2.2.2.2.2.2.2.2.2.2.2.2.1, u.2.2.2.2.2.2.2.2.2.2.2.2.2.2.2.2.2.2.2.2.2.2.2.2.2.2.2.2.2.1, e, u.2.2.2.2.2.2.2.2.2.2.2.2.2.2.2.2.2.2.2.2.2.2.2.2.2.2.2.2.2.2.2.1, u.2.2.2.2.2.2.2.2.2.2.2.2.2.2.2.2.2.2.2.2.2.2.2.2.2.2.2.2.2.2.2.2.1, u.2.2.2.2.2.2.2.2.2.2.2.2.2.2.2.2.2.2.2.2.2.2.2.2.2.2.2.2.2.2.2.2.2.1, u.2.2.2.2.2.2.2.2.2.2.2.2.2.2.2.2.2.2.2.2.2.2.2.2.2.2.2.2.2.2.2.2.2.2.1, u.2.2.2.2.2.2.2.2.2.2.2.2.2.2.2.2.2.2.2.2.2.2.2.2.2.2.2.2.2.2.2.2.2.2.2)
def xs_made (e : Nat → Int32) (u : SX) : SX := (u.1, u.2.1, u.2.2.1, u.2.2.2.1, u.2.2.2.2.1, u.2.2.2.2.2.1, u.2.2.2.2.2.2.1, u.2.2.2.2.2.2.2.1, u.2.2.2.2.2.2.2.2.1, u.2.2.2.2.2.2.2.2.2.1, u.2.2.2.2.2.2.2.2.2.2.1, u.2.2.2.2.2.2.2.2.2.2.2.1, u.2.2.2.2.2.2.2.2.2.2.2.2.1, u.2.2.2.2.2.2.2.2.2.2.2.2.2.1, u.2.2.2.2.2.2.2.2.2.2.2.2.2.2.1, u.2.2.2.2.2.2.2.2.2.2.2.2.2.2.2.1, u.2.2.2.2.2.2.2.2.2.2.2.2.2.2.2.2.1, u.2.2.2.2.2.2.2.2.2.2.2.2.2.2.2.2.2.1, u.2.2.2.2.2.2.2.2.2.2.2.2.2.2.2.2.2.2.1, u.2.2.2.2.2.2.2.2.2.2.2.2.2.2.2.2.2.2.2.1, u.2.2.2.2.2.2.2.2.2.2.2.2.2.2.2.2.2.2.2.2.1, u.2.2.2.2.2.2.2.2.2.2.2.2.2.2.2.2.2.2.2.2.2.1, u.2.2.2.2.2.2.2.2.2.2.2.2.2.2.2.2.2.2.2.2.2.2.1, u.2.2.2.2.2.2.2.2.2.2.2.2.2.2.2.2.2.2.2.2.2.2.2.1, u.2.2.2.2.2.2.2.2.2.2.2.2.2.2.2.2.2.2.2.2.2.2.2.2.1, u.2.2.2.2.2.2.2.2.2.2.2.2.2.2.2.2.2.2.2.2.2.2.2.2.2.1, u.2.2.2.2.2.2.2.2.2.2.2.2.2.2.2.2.2.2.2.2.2.2.2.2.2.2.1, u.2.2.2.2.2.2.2.2.2.2.2.2.2.2.2.2.2.2.2.2.2.2.2.2.2.2.2.1, u.2.2.2.2.2.2.2.2.2.2.2.2.2.2.2.2.2.2.2.2.2.2.2.2.2.2.2.2.1, u.2.2.2.2.2.2.2.2.2.2.2.2.2.2.2.2.2.2.2.2.2.2.2.2.2.2.2.2.2.1, u.2.2.2.2.2.2.2.2.2.2.2.2.2.2.2.2.2.2.2.2.2.2.2.2.2.2.2.2.2.2.1, e, u.2.2.2.2.2.2.2.2.2.2.2.2.2.2.2.2.2.2.2.2.2.2.2.2.2.2.2.2.2.2.2.2.1, u.2.2.2.2.2.2.2.2.2.2.2.2.2.2.2.2.2.2.2.2.2.2.2.2.2.2.2.2.2.2.2.2.2.1, u.2.2.2.2.2.2.2.2.2.2.2.2.2.2.2.2.2.2.2.2.2.2.2.2.2.2.2.2.2.2.2.2.2.2.1, u.2.2.2.2.2.2.2.2.2.2.2.2.2.2.2.2.2.2.2.2.2.2.2.2.2.2.2.2.2.2.2.2.2.2.2)
def xs_frameNode (e : Nat → Int32) (u : SX) : SX := (u.1, u.2.1, u.2.2.1, u.2.2.2.1, u.2.2.2.2.1, u.2.2.2.2.2.1, u.2.2.2.2.2.2.1, u.2.2.2.2.2.2.2.1, u.2.2.2.2.2.2.2.2.1, u.2.2.2.2.2.2.2.2.2.1, u.2.2.2.2.2.2.2.2.2.2.1, u.2.2.2.2.2.2.2.2.2.2.2.1, u.2.2.2.2.2.2.2.2.2.2.2.2.1, u.2.2.2.2.2.2.2.2.2.2.2.2.2.1, u.2.2.2.2.2.2.2.2.2.2.2.2.2.2.1, u.2.2.2.2.2.2.2.2.2.2.2.2.2.2.2.1, u.2.2.2.2.2.2.2.2.2.2.2.2.2.2.2.2.1, u.2.2.2.2.2.2.2.2.2.2.2.2.2.2.2.2.2.1, u.2.2.2.2.2.2.2.2.2.2.2.2.2.2.2.2.2.2.1, u.2.2.2.2.2.2.2.2.2.2.2.2.2.2.2.2.2.2.2.1, u.2.2.2.2.2.2.2.2.2.2.2.2.2.2.2.2.2.2.2.2.1, u.2.2.2.2.2.2.2.2.2.2.2.2.2.2.2.2.2.2.2.2.2.1, u.2.2.2.2.2.2.2.2.2.2.2.2.2.2.2.2.2.2.2.2.2.2.1, u.2.2.2.2.2.2.2.2.2.2.2.2.2.2.2.2.2.2.2.2.2.2.2.1, u.2.2.2.2.2.2.2.2.2.2.2.2.2.2.2.2.2.2.2.2.2.2.2.2.1, u.2.2.2.2.2.2.2.2.2.2.2.2.2.2.2.2.2.2.2.2.2.2.2.2.2.1, u.2.2.2.2.2.2.2.2.2.2.2.2.2.2.2.2.2.2.2.2.2.2.2.2.2.2.1, u.2.2.2.2.2.2.2.2.2.2.2.2.2.2.2.2.2.2.2.2.2.2.2.2.2.2.2.1, u.2.2.2.2.2.2.2.2.2.2.2.2.2.2.2.2.2.2.2.2.2.2.2.2.2.2.2.2.1, u.2.2.2.2.2.2.2.2.2.2.2.2.2.2.2.2.2.2.2.2.2.2.2.2.2.2.2.2.2.1, u.2.2.2.2.2.2.2.2.2.2.2.2.2.2.2.2.2.2.2.2.2.2.2.2.2.2.2.2.2.2.1, u.2.2.2.2.2.2.2.2.2.2.2.2.2.2.2.2.2.2.2.2.2.2.2.2.2.2.2.2.2.2.2.1, e, u.2.2.2.2.2.2.2.2.2.2.2.2.2.2.2.2.2.2.2.2.2.2.2.2.2.2.2.2.2.2.2.2.2.1, u.2.2.2.2.2.2.2.2.2.2.2.2.2.2.2.2.2.2.2.2.2.2.2.2.2.2.2.2.2.2.2.2.2.2.1, u.2.2.2.2.2.2.2.2.2.2.2.2.2.2.2.2.2.2.2.2.2.2.2.2.2.2.2.2.2.2.2.2.2.2.2)
def xs_frameStep (e : Nat → Int32) (u : SX) : SX := (u.1, u.2.1, u.2.2.1, u.2.2.2.1, u.2.2.2.2.1, u.2.2.2.2.2.1, u.2.2.2.2.2.2.1, u.2.2.2.2.2.2.2.1, u.2.2.2.2.2.2.2.2.1, u.2.2.2.2.2.2.2.2.2.1, u.2.2.2.2.2.2.2.2.2.2.1, u.2.2.2.2.2.2.2.2.2.2.2.1, u.2.2.2.2.2.2.2.2.2.2.2.2.1, u.2.2.2.2.2.2.2.2.2.2.2.2.2.1, u.2.2.2.2.2.2.2.2.2.2.2.2.2.2.1, u.2.2.2.2.2.2.2.2.2.2.2.2.2.2.2.1, u.2.2.2.2.2.2.2.2.2.2.2.2.2.2.2.2.1, u.2.2.2.2.2.2.2.2.2.2.2.2.2.2.2.2.2.1, u.2.2.2.2.2.2.2.2.2.2.2.2.2.2.2.2.2.2.1, u.2.2.2.2.2.2.2.2.2.2.2.2.2.2.2.2.2.2.2.1, u.2.2.2.2.2.2.2.2.2.2.2.2.2.2.2.2.2.2.2.2.1, u.2.2.2.2.2.2.2.2.2.2.2.2.2.2.2.2.2.2.2.2.2.1, u.2.2.2.2.2.2.2.2.2.2.2.2.2.2.2.2.2.2.2.2.2.2.1, u.2.2.2.2.2.2.2.2.2.2.2.2.2.2.2.2.2.2.2.2.2.2.2.1, u.2.2.2.2.2.2.2.2.2.2.2.2.2.2.2.2.2.2.2.2.2.2.2.2.1, u.2.2.2.2.2.2.2.2.2.2.2.2.2.2.2.2.2.2.2.2.2.2.2.2.2.1, u.2.2.2.2.2.2.2.2.2.2.2.2.2.2.2.2.2.2.2.2.2.2.2.2.2.2.1, u.2.2.2.2.2.2.2.2.2.2.2.2.2.2.2.2.2.2.2.2.2.2.2.2.2.2.2.1, u.2.2.2.2.2.2.2.2.2.2.2.2.2.2.2.2.2.2.2.2.2.2.2.2.2.2.2.2.1, u.2.2.2.2.2.2.2.2.2.2.2.2.2.2.2.2.2.2.2.2.2.2.2.2.2.2.2.2.2.1, u.2.2.2.2.2.2.2.2.2.2.2.2.2.2.2.2.2.2.2.2.2.2.2.2.2.2.2.2.2.2.1, u.2.2.2.2.2.2.2.2.2.2.2.2.2.2.2.2.2.2.2.2.2.2.2.2.2.2.2.2.2.2.2.1, u.2.2.2.2.2.2.2.2.2.2.2.2.2.2.2.2.2.2.2.2.2.2.2.2.2.2.2.2.2.2.2.2.1, e, u.2.2.2.2.2.2.2.2.2.2.2.2.2.2.2.2.2.2.2.2.2.2.2.2.2.2.2.2.2.2.2.2.2.2.1, u.2.2.2.2.2.2.2.2.2.2.2.2.2.2.2.2.2.2.2.2.2.2.2.2.2.2.2.2.2.2.2.2.2.2.2)
def xs_frameKeep (e : Nat → Int32) (u : SX) : SX := (u.1, u.2.1, u.2.2.1, u.2.2.2.1, u.2.2.2.2.1, u.2.2.2.2.2.1, u.2.2.2.2.2.2.1, u.2.2.2.2.2.2.2.1, u.2.2.2.2.2.2.2.2.1, u.2.2.2.2.2.2.2.2.2.1, u.2.2.2.2.2.2.2.2.2.2.1, u.2.2.2.2.2.2.2.2.2.2.2.1, u.2.2.2.2.2.2.2.2.2.2.2.2.1, u.2.2.2.2.2.2.2.2.2.2.2.2.2.1, u.2.2.2.2.2.2.2.2.2.2.2.2.2.2.1, u.2.2.2.2.2.2.2.2.2.2.2.2.2.2.2.1, u.2.2.2.2.2.2.2.2.2.2.2.2.2.2.2.2.1, u.2.2.2.2.2.2.2.2.2.2.2.2.2.2.2.2.2.1, u.2.2.2.2.2.2.2.2.2.2.2.2.2.2.2.2.2.2.1, u.2.2.2.2.2.2.2.2.2.2.2.2.2.2.2.2.2.2.2.1, u.2.2.2.2.2.2.2.2.2.2.2.2.2.2.2.2.2.2.2.2.1, u.2.2.2.2.2.2.2.2.2.2.2.2.2.2.2.2.2.2.2.2.2.1, u.2.2.2.2.2.2.2.2.2.2.2.2.2.2.2.2.2.2.2.2.2.2.1, u.2.2.2.2.2.2.2.2.2.2.2.2.2.2.2.2.2.2.2.2.2.2.2.1, u.2.2.2.2.2.2.2.2.2.2.2.2.2.2.2.2.2.2.2.2.2.2.2.2.1, u.2.2.2.2.2.2.2.2.2.2.2.2.2.2.2.2.2.2.2.2.2.2.2.2.2.1, u.2.2.2.2.2.2.2.2.2.2.2.2.2.2.2.2.2.2.2.2.2.2.2.2.2.2.1, u.2.2.2.2.2.2.2.2.2.2.2.2.2.2.2.2.2.2.2.2.2.2.2.2.2.2.2.1, u.2.2.2.2.2.2.2.2.2.2.2.2.2.2.2.2.2.2.2.2.2.2.2.2.2.2.2.2.1, u.2.2.2.2.2.2.2.2.2.2.2.2.2.2.2.2.2.2.2.2.2.2.2.2.2.2.2.2.2.1, u.2.2.2.2.2.2.2.2.2.2.2.2.2.2.2.2.2.2.2.2.2.2.2.2.2.2.2.2.2.2.1, u.2.2.2.2.2.2.2.2.2.2.2.2.2.2.2.2.2.2.2.2.2.2.2.2.2.2.2.2.2.2.2.1, u.2.2.2.2.2.2.2.2.2.2.2.2.2.2.2.2.2.2.2.2.2.2.2.2.2.2.2.2.2.2.2.2.1, u.2.2.2.2.2.2.2.2.2.2.2.2.2.2.2.2.2.2.2.2.2.2.2.2.2.2.2.2.2.2.2.2.2.1, e, u.2.2.2.2.2.2.2.2.2.2.2.2.2.2.2.2.2.2.2.2.2.2.2.2.2.2.2.2.2.2.2.2.2.2.2)
def xs_context (e : Nat → Int32) (u : SX) : SX := (u.1, u.2.1, u.2.2.1, u.2.2.2.1, u.2.2.2.2.1, u.2.2.2.2.2.1, u.2.2.2.2.2.2.1, u.2.2.2.2.2.2.2.1, u.2.2.2.2.2.2.2.2.1, u.2.2.2.2.2.2.2.2.2.1, u.2.2.2.2.2.2.2.2.2.2.1, u.2.2.2.2.2.2.2.2.2.2.2.1, u.2.2.2.2.2.2.2.2.2.2.2.2.1, u.2.2.2.2.2.2.2.2.2.2.2.2.2.1, u.2.2.2.2.2.2.2.2.2.2.2.2.2.2.1, u.2.2.2.2.2.2.2.2.2.2.2.2.2.2.2.1, u.2.2.2.2.2.2.2.2.2.2.2.2.2.2.2.2.1, u.2.2.2.2.2.2.2.2.2.2.2.2.2.2.2.2.2.1, u.2.2.2.2.2.2.2.2.2.2.2.2.2.2.2.2.2.2.1, u.2.2.2.2.2.2.2.2.2.2.2.2.2.2.2.2.2.2.2.1, u.2.2.2.2.2.2.2.2.2.2.2.2.2.2.2.2.2.2.2.2.1, u.2.2.2.2.2.2.2.2.2.2.2.2.2.2.2.2.2.2.2.2.2.1, u.2.2.2.2.2.2.2.2.2.2.2.2.2.2.2.2.2.2.2.2.2.2.1, u.2.2.2.2.2.2.2.2.2.2.2.2.2.2.2.2.2.2.2.2.2.2.2.1, u.2.2.2.2.2.2.2.2.2.2.2.2.2.2.2.2.2.2.2.2.2.2.2.2.1, u.2.2.2.2.2.2.2.2.2.2.2.2.2.2.2.2.2.2.2.2.2.2.2.2.2.1, u.2.2.2.2.2.2.2.2.2.2.2.2.2.2.2.2.2.2.2.2.2.2.2.2.2.2.1, u.2.2.2.2.2.2.2.2.2.2.2.2.2.2.2.2.2.2.2.2.2.2.2.2.2.2.2.1, u.2.2.2.2.2.2.2.2.2.2.2.2.2.2.2.2.2.2.2.2.2.2.2.2.2.2.2.2.1, u.2.2.2.2.2.2.2.2.2.2.2.2.2.2.2.2.2.2.2.2.2.2.2.2.2.2.2.2.2.1, u.2.2.2.2.2.2.2.2.2.2.2.2.2.2.2.2.2.2.2.2.2.2.2.2.2.2.2.2.2.2.1, u.2.2.2.2.2.2.2.2.2.2.2.2.2.2.2.2.2.2.2.2.2.2.2.2.2.2.2.2.2.2.2.1, u.2.2.2.2.2.2.2.2.2.2.2.2.2.2.2.2.2.2.2.2.2.2.2.2.2.2.2.2.2.2.2.2.1, u.2.2.2.2.2.2.2.2.2.2.2.2.2.2.2.2.2.2.2.2.2.2.2.2.2.2.2.2.2.2.2.2.2.1, u.2.2.2.2.2.2.2.2.2.2.2.2.2.2.2.2.2.2.2.2.2.2.2.2.2.2.2.2.2.2.2.2.2.2.1, e)
def xs_count_kind_part_heavy (e_count : Int32) (e_kind : Nat → Int32) (e_part : Nat → Int32) (e_heavy : Nat → Int32) (u : SX) : SX := (u.1, u.2.1, u.2.2.1, u.2.2.2.1, u.2.2.2.2.1, e_count, u.2.2.2.2.2.2.1, u.2.2.2.2.2.2.2.1, u.2.2.2.2.2.2.2.2.1, u.2.2.2.2.2.2.2.2.2.1, u.2.2.2.2.2.2.2.2.2.2.1, u.2.2.2.2.2.2.2.2.2.2.2.1, u.2.2.2.2.2.2.2.2.2.2.2.2.1, u.2.2.2.2.2.2.2.2.2.2.2.2.2.1, u.2.2.2.2.2.2.2.2.2.2.2.2.2.2.1, u.2.2.2.2.2.2.2.2.2.2.2.2.2.2.2.1, u.2.2.2.2.2.2.2.2.2.2.2.2.2.2.2.2.1, e_kind, e_part, e_heavy, u.2.2.2.2.2.2.2.2.2.2.2.2.2.2.2.2.2.2.2.2.1, u.2.2.2.2.2.2.2.2.2.2.2.2.2.2.2.2.2.2.2.2.2.1, u.2.2.2.2.2.2.2.2.2.2.2.2.2.2.2.2.2.2.2.2.2.2.1, u.2.2.2.2.2.2.2.2.2.2.2.2.2.2.2.2.2.2.2.2.2.2.2.1, u.2.2.2.2.2.2.2.2.2.2.2.2.2.2.2.2.2.2.2.2.2.2.2.2.1, u.2.2.2.2.2.2.2.2.2.2.2.2.2.2.2.2.2.2.2.2.2.2.2.2.2.1, u.2.2.2.2.2.2.2.2.2.2.2.2.2.2.2.2.2.2.2.2.2.2.2.2.2.2.1, u.2.2.2.2.2.2.2.2.2.2.2.2.2.2.2.2.2.2.2.2.2.2.2.2.2.2.2.1, u.2.2.2.2.2.2.2.2.2.2.2.2.2.2.2.2.2.2.2.2.2.2.2.2.2.2.2.2.1, u.2.2.2.2.2.2.2.2.2.2.2.2.2.2.2.2.2.2.2.2.2.2.2.2.2.2.2.2.2.1, u.2.2.2.2.2.2.2.2.2.2.2.2.2.2.2.2.2.2.2.2.2.2.2.2.2.2.2.2.2.2.1, u.2.2.2.2.2.2.2.2.2.2.2.2.2.2.2.2.2.2.2.2.2.2.2.2.2.2.2.2.2.2.2.1, u.2.2.2.2.2.2.2.2.2.2.2.2.2.2.2.2.2.2.2.2.2.2.2.2.2.2.2.2.2.2.2.2.1, u.2.2.2.2.2.2.2.2.2.2.2.2.2.2.2.2.2.2.2.2.2.2.2.2.2.2.2.2.2.2.2.2.2.1, u.2.2.2.2.2.2.2.2.2.2.2.2.2.2.2.2.2.2.2.2.2.2.2.2.2.2.2.2.2.2.2.2.2.2.1, u.2.2.2.2.2.2.2.2.2.2.2.2.2.2.2.2.2.2.2.2.2.2.2.2.2.2.2.2.2.2.2.2.2.2.2)
def xs_base_tickCount_blameNode (e_base : Int32) (e_tickCount : Int32) (e_blameNode : Int32) (u : SX) : SX := (u.1, u.2.1, u.2.2.1, u.2.2.2.1, u.2.2.2.2.1, u.2.2.2.2.2.1, e_base, u.2.2.2.2.2.2.2.1, e_tickCount, e_blameNode, u.2.2.2.2.2.2.2.2.2.2.1, u.2.2.2.2.2.2.2.2.2.2.2.1, u.2.2.2.2.2.2.2.2.2.2.2.2.1, u.2.2.2.2.2.2.2.2.2.2.2.2.2.1, u.2.2.2.2.2.2.2.2.2.2.2.2.2.2.1, u.2.2.2.2.2.2.2.2.2.2.2.2.2.2.2.1, u.2.2.2.2.2.2.2.2.2.2.2.2.2.2.2.2.1, u.2.2.2.2.2.2.2.2.2.2.2.2.2.2.2.2.2.1, u.2.2.2.2.2.2.2.2.2.2.2.2.2.2.2.2.2.2.1, u.2.2.2.2.2.2.2.2.2.2.2.2.2.2.2.2.2.2.2.1, u.2.2.2.2.2.2.2.2.2.2.2.2.2.2.2.2.2.2.2.2.1, u.2.2.2.2.2.2.2.2.2.2.2.2.2.2.2.2.2.2.2.2.2.1, u.2.2.2.2.2.2.2.2.2.2.2.2.2.2.2.2.2.2.2.2.2.2.1, u.2.2.2.2.2.2.2.2.2.2.2.2.2.2.2.2.2.2.2.2.2.2.2.1, u.2.2.2.2.2.2.2.2.2.2.2.2.2.2.2.2.2.2.2.2.2.2.2.2.1, u.2.2.2.2.2.2.2.2.2.2.2.2.2.2.2.2.2.2.2.2.2.2.2.2.2.1, u.2.2.2.2.2.2.2.2.2.2.2.2.2.2.2.2.2.2.2.2.2.2.2.2.2.2.1, u.2.2.2.2.2.2.2.2.2.2.2.2.2.2.2.2.2.2.2.2.2.2.2.2.2.2.2.1, u.2.2.2.2.2.2.2.2.2.2.2.2.2.2.2.2.2.2.2.2.2.2.2.2.2.2.2.2.1, u.2.2.2.2.2.2.2.2.2.2.2.2.2.2.2.2.2.2.2.2.2.2.2.2.2.2.2.2.2.1, u.2.2.2.2.2.2.2.2.2.2.2.2.2.2.2.2.2.2.2.2.2.2.2.2.2.2.2.2.2.2.1, u.2.2.2.2.2.2.2.2.2.2.2.2.2.2.2.2.2.2.2.2.2.2.2.2.2.2.2.2.2.2.2.1, u.2.2.2.2.2.2.2.2.2.2.2.2.2.2.2.2.2.2.2.2.2.2.2.2.2.2.2.2.2.2.2.2.1, u.2.2.2.2.2.2.2.2.2.2.2.2.2.2.2.2.2.2.2.2.2.2.2.2.2.2.2.2.2.2.2.2.2.1, u.2.2.2.2.2.2.2.2.2.2.2.2.2.2.2.2.2.2.2.2.2.2.2.2.2.2.2.2.2.2.2.2.2.2.1, u.2.2.2.2.2.2.2.2.2.2.2.2.2.2.2.2.2.2.2.2.2.2.2.2.2.2.2.2.2.2.2.2.2.2.2)
def xs_frameTop_frameNode_frameStep_frameKeep (e_frameTop : Int32) (e_frameNode : Nat → Int32) (e_frameStep : Nat → Int32) (e_frameKeep : Nat → Int32) (u : SX) : SX := (u.1, u.2.1, u.2.2.1, u.2.2.2.1, u.2.2.2.2.1, u.2.2.2.2.2.1, u.2.2.2.2.2.2.1, u.2.2.2.2.2.2.2.1, u.2.2.2.2.2.2.2.2.1, u.2.2.2.2.2.2.2.2.2.1, u.2.2.2.2.2.2.2.2.2.2.1, u.2.2.2.2.2.2.2.2.2.2.2.1, u.2.2.2.2.2.2.2.2.2.2.2.2.1, u.2.2.2.2.2.2.2.2.2.2.2.2.2.1, e_frameTop, u.2.2.2.2.2.2.2.2.2.2.2.2.2.2.2.1, u.2.2.2.2.2.2.2.2.2.2.2.2.2.2.2.2.1, u.2.2.2.2.2.2.2.2.2.2.2.2.2.2.2.2.2.1, u.2.2.2.2.2.2.2.2.2.2.2.2.2.2.2.2.2.2.1, u.2.2.2.2.2.2.2.2.2.2.2.2.2.2.2.2.2.2.2.1, u.2.2.2.2.2.2.2.2.2.2.2.2.2.2.2.2.2.2.2.2.1, u.2.2.2.2.2.2.2.2.2.2.2.2.2.2.2.2.2.2.2.2.2.1, u.2.2.2.2.2.2.2.2.2.2.2.2.2.2.2.2.2.2.2.2.2.2.1, u.2.2.2.2.2.2.2.2.2.2.2.2.2.2.2.2.2.2.2.2.2.2.2.1, u.2.2.2.2.2.2.2.2.2.2.2.2.2.2.2.2.2.2.2.2.2.2.2.2.1, u.2.2.2.2.2.2.2.2.2.2.2.2.2.2.2.2.2.2.2.2.2.2.2.2.2.1, u.2.2.2.2.2.2.2.2.2.2.2.2.2.2.2.2.2.2.2.2.2.2.2.2.2.2.1, u.2.2.2.2.2.2.2.2.2.2.2.2.2.2.2.2.2.2.2.2.2.2.2.2.2.2.2.1, u.2.2.2.2.2.2.2.2.2.2.2.2.2.2.2.2.2.2.2.2.2.2.2.2.2.2.2.2.1, u.2.2.2.2.2.2.2.2.2.2.2.2.2.2.2.2.2.2.2.2.2.2.2.2.2.2.2.2.2.1, u.2.2.2.2.2.2.2.2.2.2.2.2.2.2.2.2.2.2.2.2.2.2.2.2.2.2.2.2.2.2.1, u.2.2.2.2.2.2.2.2.2.2.2.2.2.2.2.2.2.2.2.2.2.2.2.2.2.2.2.2.2.2.2.1, e_frameNode, e_frameStep, e_frameKeep, u.2.2.2.2.2.2.2.2.2.2.2.2.2.2.2.2.2.2.2.2.2.2.2.2.2.2.2.2.2.2.2.2.2.2.2)
def xs_outLen_outCap_outOver (e_outLen : Int32) (e_outCap : Int32) (e_outOver : Int32) (u : SX) : SX := (u.1, u.2.1, u.2.2.1, u.2.2.2.1, u.2.2.2.2.1, u.2.2.2.2.2.1, u.2.2.2.2.2.2.1, u.2.2.2.2.2.2.2.1, u.2.2.2.2.2.2.2.2.1, u.2.2.2.2.2.2.2.2.2.1, u.2.2.2.2.2.2.2.2.2.2.1, e_outLen, e_outCap, e_outOver, u.2.2.2.2.2.2.2.2.2.2.2.2.2.2.1, u.2.2.2.2.2.2.2.2.2.2.2.2.2.2.2.1, u.2.2.2.2.2.2.2.2.2.2.2.2.2.2.2.2.1, u.2.2.2.2.2.2.2.2.2.2.2.2.2.2.2.2.2.1, u.2.2.2.2.2.2.2.2.2.2.2.2.2.2.2.2.2.2.1, u.2.2.2.2.2.2.2.2.2.2.2.2.2.2.2.2.2.2.2.1, u.2.2.2.2.2.2.2.2.2.2.2.2.2.2.2.2.2.2.2.2.1, u.2.2.2.2.2.2.2.2.2.2.2.2.2.2.2.2.2.2.2.2.2.1, u.2.2.2.2.2.2.2.2.2.2.2.2.2.2.2.2.2.2.2.2.2.2.1, u.2.2.2.2.2.2.2.2.2.2.2.2.2.2.2.2.2.2.2.2.2.2.2.1, u.2.2.2.2.2.2.2.2.2.2.2.2.2.2.2.2.2.2.2.2.2.2.2.2.1, u.2.2.2.2.2.2.2.2.2.2.2.2.2.2.2.2.2.2.2.2.2.2.2.2.2.1, u.2.2.2.2.2.2.2.2.2.2.2.2.2.2.2.2.2.2.2.2.2.2.2.2.2.2.1, u.2.2.2.2.2.2.2.2.2.2.2.2.2.2.2.2.2.2.2.2.2.2.2.2.2.2.2.1, u.2.2.2.2.2.2.2.2.2.2.2.2.2.2.2.2.2.2.2.2.2.2.2.2.2.2.2.2.1, u.2.2.2.2.2.2.2.2.2.2.2.2.2.2.2.2.2.2.2.2.2.2.2.2.2.2.2.2.2.1, u.2.2.2.2.2.2.2.2.2.2.2.2.2.2.2.2.2.2.2.2.2.2.2.2.2.2.2.2.2.2.1, u.2.2.2.2.2.2.2.2.2.2.2.2.2.2.2.2.2.2.2.2.2.2.2.2.2.2.2.2.2.2.2.1, u.2.2.2.2.2.2.2.2.2.2.2.2.2.2.2.2.2.2.2.2.2.2.2.2.2.2.2.2.2.2.2.2.1, u.2.2.2.2.2.2.2.2.2.2.2.2.2.2.2.2.2.2.2.2.2.2.2.2.2.2.2.2.2.2.2.2.2.1, u.2.2.2.2.2.2.2.2.2.2.2.2.2.2.2.2.2.2.2.2.2.2.2.2.2.2.2.2.2.2.2.2.2.2.1, u.2.2.2.2.2.2.2.2.2.2.2.2.2.2.2.2.2.2.2.2.2.2.2.2.2.2.2.2.2.2.2.2.2.2.2)
def xs_outLen_outKind_outVal (e_outLen : Int32) (e_outKind : Nat → Int32) (e_outVal : Nat → Int32) (u : SX) : SX := (u.1, u.2.1, u.2.2.1, u.2.2.2.1, u.2.2.2.2.1, u.2.2.2.2.2.1, u.2.2.2.2.2.2.1, u.2.2.2.2.2.2.2.1, u.2.2.2.2.2.2.2.2.1, u.2.2.2.2.2.2.2.2.2.1, u.2.2.2.2.2.2.2.2.2.2.1, e_outLen, u.2.2.2.2.2.2.2.2.2.2.2.2.1, u.2.2.2.2.2.2.2.2.2.2.2.2.2.1, u.2.2.2.2.2.2.2.2.2.2.2.2.2.2.1, u.2.2.2.2.2.2.2.2.2.2.2.2.2.2.2.1, u.2.2.2.2.2.2.2.2.2.2.2.2.2.2.2.2.1, u.2.2.2.2.2.2.2.2.2.2.2.2.2.2.2.2.2.1, u.2.2.2.2.2.2.2.2.2.2.2.2.2.2.2.2.2.2.1, u.2.2.2.2.2.2.2.2.2.2.2.2.2.2.2.2.2.2.2.1, u.2.2.2.2.2.2.2.2.2.2.2.2.2.2.2.2.2.2.2.2.1, u.2.2.2.2.2.2.2.2.2.2.2.2.2.2.2.2.2.2.2.2.2.1, u.2.2.2.2.2.2.2.2.2.2.2.2.2.2.2.2.2.2.2.2.2.2.1, u.2.2.2.2.2.2.2.2.2.2.2.2.2.2.2.2.2.2.2.2.2.2.2.1, u.2.2.2.2.2.2.2.2.2.2.2.2.2.2.2.2.2.2.2.2.2.2.2.2.1, u.2.2.2.2.2.2.2.2.2.2.2.2.2.2.2.2.2.2.2.2.2.2.2.2.2.1, e_outKind, e_outVal, u.2.2.2.2.2.2.2.2.2.2.2.2.2.2.2.2.2.2.2.2.2.2.2.2.2.2.2.2.1, u.2.2.2.2.2.2.2.2.2.2.2.2.2.2.2.2.2.2.2.2.2.2.2.2.2.2.2.2.2.1, u.2.2.2.2.2.2.2.2.2.2.2.2.2.2.2.2.2.2.2.2.2.2.2.2.2.2.2.2.2.2.1, u.2.2.2.2.2.2.2.2.2.2.2.2.2.2.2.2.2.2.2.2.2.2.2.2.2.2.2.2.2.2.2.1, u.2.2.2.2.2.2.2.2.2.2.2.2.2.2.2.2.2.2.2.2.2.2.2.2.2.2.2.2.2.2.2.2.1, u.2.2.2.2.2.2.2.2.2.2.2.2.2.2.2.2.2.2.2.2.2.2.2.2.2.2.2.2.2.2.2.2.2.1, u.2.2.2.2.2.2.2.2.2.2.2.2.2.2.2.2.2.2.2.2.2.2.2.2.2.2.2.2.2.2.2.2.2.2.1, u.2.2.2.2.2.2.2.2.2.2.2.2.2.2.2.2.2.2.2.2.2.2.2.2.2.2.2.2.2.2.2.2.2.2.2)
def xs_curKind_curVal (e_curKind : Nat → Int32) (e_curVal : Nat → Int32) (u : SX) : SX := (u.1, u.2.1, u.2.2.1, u.2.2.2.1, u.2.2.2.2.1, u.2.2.2.2.2.1, u.2.2.2.2.2.2.1, u.2.2.2.2.2.2.2.1, u.2.2.2.2.2.2.2.2.1, u.2.2.2.2.2.2.2.2.2.1, u.2.2.2.2.2.2.2.2.2.2.1, u.2.2.2.2.2.2.2.2.2.2.2.1, u.2.2.2.2.2.2.2.2.2.2.2.2.1, u.2.2.2.2.2.2.2.2.2.2.2.2.2.1, u.2.2.2.2.2.2.2.2.2.2.2.2.2.2.1, u.2.2.2.2.2.2.2.2.2.2.2.2.2.2.2.1, u.2.2.2.2.2.2.2.2.2.2.2.2.2.2.2.2.1, u.2.2.2.2.2.2.2.2.2.2.2.2.2.2.2.2.2.1, u.2.2.2.2.2.2.2.2.2.2.2.2.2.2.2.2.2.2.1, u.2.2.2.2.2.2.2.2.2.2.2.2.2.2.2.2.2.2.2.1, u.2.2.2.2.2.2.2.2.2.2.2.2.2.2.2.2.2.2.2.2.1, u.2.2.2.2.2.2.2.2.2.2.2.2.2.2.2.2.2.2.2.2.2.1, u.2.2.2.2.2.2.2.2.2.2.2.2.2.2.2.2.2.2.2.2.2.2.1, e_curKind, e_curVal, u.2.2.2.2.2.2.2.2.2.2.2.2.2.2.2.2.2.2.2.2.2.2.2.2.2.1, u.2.2.2.2.2.2.2.2.2.2.2.2.2.2.2.2.2.2.2.2.2.2.2.2.2.2.1, u.2.2.2.2.2.2.2.2.2.2.2.2.2.2.2.2.2.2.2.2.2.2.2.2.2.2.2.1, u.2.2.2.2.2.2.2.2.2.2.2.2.2.2.2.2.2.2.2.2.2.2.2.2.2.2.2.2.1, u.2.2.2.2.2.2.2.2.2.2.2.2.2.2.2.2.2.2.2.2.2.2.2.2.2.2.2.2.2.1, u.2.2.2.2.2.2.2.2.2.2.2.2.2.2.2.2.2.2.2.2.2.2.2.2.2.2.2.2.2.2.1, u.2.2.2.2.2.2.2.2.2.2.2.2.2.2.2.2.2.2.2.2.2.2.2.2.2.2.2.2.2.2.2.1, u.2.2.2.2.2.2.2.2.2.2.2.2.2.2.2.2.2.2.2.2.2.2.2.2.2.2.2.2.2.2.2.2.1, u.2.2.2.2.2.2.2.2.2.2.2.2.2.2.2.2.2.2.2.2.2.2.2.2.2.2.2.2.2.2.2.2.2.1, u.2.2.2.2.2.2.2.2.2.2.2.2.2.2.2.2.2.2.2.2.2.2.2.2.2.2.2.2.2.2.2.2.2.2.1, u.2.2.2.2.2.2.2.2.2.2.2.2.2.2.2.2.2.2.2.2.2.2.2.2.2.2.2.2.2.2.2.2.2.2.2)
def xs_openLeft_made (e_openLeft : Nat → Int32) (e_made : Nat → Int32) (u : SX) : SX := (u.1, u.2.1, u.2.2.1, u.2.2.2.1, u.2.2.2.2.1, u.2.2.2.2.2.1, u.2.2.2.2.2.2.1, u.2.2.2.2.2.2.2.1, u.2.2.2.2.2.2.2.2.1, u.2.2.2.2.2.2.2.2.2.1, u.2.2.2.2.2.2.2.2.2.2.1, u.2.2.2.2.2.2.2.2.2.2.2.1, u.2.2.2.2.2.2.2.2.2.2.2.2.1, u.2.2.2.2.2.2.2.2.2.2.2.2.2.1, u.2.2.2.2.2.2.2.2.2.2.2.2.2.2.1, u.2.2.2.2.2.2.2.2.2.2.2.2.2.2.2.1, u.2.2.2.2.2.2.2.2.2.2.2.2.2.2.2.2.1, u.2.2.2.2.2.2.2.2.2.2.2.2.2.2.2.2.2.1, u.2.2.2.2.2.2.2.2.2.2.2.2.2.2.2.2.2.2.1, u.2.2.2.2.2.2.2.2.2.2.2.2.2.2.2.2.2.2.2.1, u.2.2.2.2.2.2.2.2.2.2.2.2.2.2.2.2.2.2.2.2.1, u.2.2.2.2.2.2.2.2.2.2.2.2.2.2.2.2.2.2.2.2.2.1, u.2.2.2.2.2.2.2.2.2.2.2.2.2.2.2.2.2.2.2.2.2.2.1, u.2.2.2.2.2.2.2.2.2.2.2.2.2.2.2.2.2.2.2.2.2.2.2.1, u.2.2.2.2.2.2.2.2.2.2.2.2.2.2.2.2.2.2.2.2.2.2.2.2.1, u.2.2.2.2.2.2.2.2.2.2.2.2.2.2.2.2.2.2.2.2.2.2.2.2.2.1, u.2.2.2.2.2.2.2.2.2.2.2.2.2.2.2.2.2.2.2.2.2.2.2.2.2.2.1, u.2.2.2.2.2.2.2.2.2.2.2.2.2.2.2.2.2.2.2.2.2.2.2.2.2.2.2.1, u.2.2.2.2.2.2.2.2.2.2.2.2.2.2.2.2.2.2.2.2.2.2.2.2.2.2.2.2.1, u.2.2.2.2.2.2.2.2.2.2.2.2.2.2.2.2.2.2.2.2.2.2.2.2.2.2.2.2.2.1, e_openLeft, e_made, u.2.2.2.2.2.2.2.2.2.2.2.2.2.2.2.2.2.2.2.2.2.2.2.2.2.2.2.2.2.2.2.2.1, u.2.2.2.2.2.2.2.2.2.2.2.2.2.2.2.2.2.2.2.2.2.2.2.2.2.2.2.2.2.2.2.2.2.1, u.2.2.2.2.2.2.2.2.2.2.2.2.2.2.2.2.2.2.2.2.2.2.2.2.2.2.2.2.2.2.2.2.2.2.1, u.2.2.2.2.2.2.2.2.2.2.2.2.2.2.2.2.2.2.2.2.2.2.2.2.2.2.2.2.2.2.2.2.2.2.2)
def xs_openPos_openLeft (e_openPos : Nat → Int32) (e_openLeft : Nat → Int32) (u : SX) : SX := (u.1, u.2.1, u.2.2.1, u.2.2.2.1, u.2.2.2.2.1, u.2.2.2.2.2.1, u.2.2.2.2.2.2.1, u.2.2.2.2.2.2.2.1, u.2.2.2.2.2.2.2.2.1, u.2.2.2.2.2.2.2.2.2.1, u.2.2.2.2.2.2.2.2.2.2.1, u.2.2.2.2.2.2.2.2.2.2.2.1, u.2.2.2.2.2.2.2.2.2.2.2.2.1, u.2.2.2.2.2.2.2.2.2.2.2.2.2.1, u.2.2.2.2.2.2.2.2.2.2.2.2.2.2.1, u.2.2.2.2.2.2.2.2.2.2.2.2.2.2.2.1, u.2.2.2.2.2.2.2.2.2.2.2.2.2.2.2.2.1, u.2.2.2.2.2.2.2.2.2.2.2.2.2.2.2.2.2.1, u.2.2.2.2.2.2.2.2.2.2.2.2.2.2.2.2.2.2.1, u.2.2.2.2.2.2.2.2.2.2.2.2.2.2.2.2.2.2.2.1, u.2.2.2.2.2.2.2.2.2.2.2.2.2.2.2.2.2.2.2.2.1, u.2.2.2.2.2.2.2.2.2.2.2.2.2.2.2.2.2.2.2.2.2.1, u.2.2.2.2.2.2.2.2.2.2.2.2.2.2.2.2.2.2.2.2.2.2.1, u.2.2.2.2.2.2.2.2.2.2.2.2.2.2.2.2.2.2.2.2.2.2.2.1, u.2.2.2.2.2.2.2.2.2.2.2.2.2.2.2.2.2.2.2.2.2.2.2.2.1, u.2.2.2.2.2.2.2.2.2.2.2.2.2.2.2.2.2.2.2.2.2.2.2.2.2.1, u.2.2.2.2.2.2.2.2.2.2.2.2.2.2.2.2.2.2.2.2.2.2.2.2.2.2.1, u.2.2.2.2.2.2.2.2.2.2.2.2.2.2.2.2.2.2.2.2.2.2.2.2.2.2.2.1, u.2.2.2.2.2.2.2.2.2.2.2.2.2.2.2.2.2.2.2.2.2.2.2.2.2.2.2.2.1, e_openPos, e_openLeft, u.2.2.2.2.2.2.2.2.2.2.2.2.2.2.2.2.2.2.2.2.2.2.2.2.2.2.2.2.2.2.2.1, u.2.2.2.2.2.2.2.2.2.2.2.2.2.2.2.2.2.2.2.2.2.2.2.2.2.2.2.2.2.2.2.2.1, u.2.2.2.2.2.2.2.2.2.2.2.2.2.2.2.2.2.2.2.2.2.2.2.2.2.2.2.2.2.2.2.2.2.1, u.2.2.2.2.2.2.2.2.2.2.2.2.2.2.2.2.2.2.2.2.2.2.2.2.2.2.2.2.2.2.2.2.2.2.1, u.2.2.2.2.2.2.2.2.2.2.2.2.2.2.2.2.2.2.2.2.2.2.2.2.2.2.2.2.2.2.2.2.2.2.2)
def xs_contextLen_context (e_contextLen : Int32) (e_context : Nat → Int32) (u : SX) : SX := (u.1, u.2.1, u.2.2.1, u.2.2.2.1, u.2.2.2.2.1, u.2.2.2.2.2.1, u.2.2.2.2.2.2.1, u.2.2.2.2.2.2.2.1, u.2.2.2.2.2.2.2.2.1, u.2.2.2.2.2.2.2.2.2.1, u.2.2.2.2.2.2.2.2.2.2.1, u.2.2.2.2.2.2.2.2.2.2.2.1, u.2.2.2.2.2.2.2.2.2.2.2.2.1, u.2.2.2.2.2.2.2.2.2.2.2.2.2.1, u.2.2.2.2.2.2.2.2.2.2.2.2.2.2.1, u.2.2.2.2.2.2.2.2.2.2.2.2.2.2.2.1, e_contextLen, u.2.2.2.2.2.2.2.2.2.2.2.2.2.2.2.2.2.1, u.2.2.2.2.2.2.2.2.2.2.2.2.2.2.2.2.2.2.1, u.2.2.2.2.2.2.2.2.2.2.2.2.2.2.2.2.2.2.2.1, u.2.2.2.2.2.2.2.2.2.2.2.2.2.2.2.2.2.2.2.2.1, u.2.2.2.2.2.2.2.2.2.2.2.2.2.2.2.2.2.2.2.2.2.1, u.2.2.2.2.2.2.2.2.2.2.2.2.2.2.2.2.2.2.2.2.2.2.1, u.2.2.2.2.2.2.2.2.2.2.2.2.2.2.2.2.2.2.2.2.2.2.2.1, u.2.2.2.2.2.2.2.2.2.2.2.2.2.2.2.2.2.2.2.2.2.2.2.2.1, u.2.2.2.2.2.2.2.2.2.2.2.2.2.2.2.2.2.2.2.2.2.2.2.2.2.1, u.2.2.2.2.2.2.2.2.2.2.2.2.2.2.2.2.2.2.2.2.2.2.2.2.2.2.1, u.2.2.2.2.2.2.2.2.2.2.2.2.2.2.2.2.2.2.2.2.2.2.2.2.2.2.2.1, u.2.2.2.2.2.2.2.2.2.2.2.2.2.2.2.2.2.2.2.2.2.2.2.2.2.2.2.2.1, u.2.2.2.2.2.2.2.2.2.2.2.2.2.2.2.2.2.2.2.2.2.2.2.2.2.2.2.2.2.1, u.2.2.2.2.2.2.2.2.2.2.2.2.2.2.2.2.2.2.2.2.2.2.2.2.2.2.2.2.2.2.1, u.2.2.2.2.2.2.2.2.2.2.2.2.2.2.2.2.2.2.2.2.2.2.2.2.2.2.2.2.2.2.2.1, u.2.2.2.2.2.2.2.2.2.2.2.2.2.2.2.2.2.2.2.2.2.2.2.2.2.2.2.2.2.2.2.2.1, u.2.2.2.2.2.2.2.2.2.2.2.2.2.2.2.2.2.2.2.2.2.2.2.2.2.2.2.2.2.2.2.2.2.1, u.2.2.2.2.2.2.2.2.2.2.2.2.2.2.2.2.2.2.2.2.2.2.2.2.2.2.2.2.2.2.2.2.2.2.1, e_context)
def xs_tickCount_frameStep (e_tickCount : Int32) (e_frameStep : Nat → Int32) (u : SX) : SX := (u.1, u.2.1, u.2.2.1, u.2.2.2.1, u.2.2.2.2.1, u.2.2.2.2.2.1, u.2.2.2.2.2.2.1, u.2.2.2.2.2.2.2.1, e_tickCount, u.2.2.2.2.2.2.2.2.2.1, u.2.2.2.2.2.2.2.2.2.2.1, u.2.2.2.2.2.2.2.2.2.2.2.1, u.2.2.2.2.2.2.2.2.2.2.2.2.1, u.2.2.2.2.2.2.2.2.2.2.2.2.2.1, u.2.2.2.2.2.2.2.2.2.2.2.2.2.2.1, u.2.2.2.2.2.2.2.2.2.2.2.2.2.2.2.1, u.2.2.2.2.2.2.2.2.2.2.2.2.2.2.2.2.1, u.2.2.2.2.2.2.2.2.2.2.2.2.2.2.2.2.2.1, u.2.2.2.2.2.2.2.2.2.2.2.2.2.2.2.2.2.2.1, u.2.2.2.2.2.2.2.2.2.2.2.2.2.2.2.2.2.2.2.1, u.2.2.2.2.2.2.2.2.2.2.2.2.2.2.2.2.2.2.2.2.1, u.2.2.2.2.2.2.2.2.2.2.2.2.2.2.2.2.2.2.2.2.2.1, u.2.2.2.2.2.2.2.2.2.2.2.2.2.2.2.2.2.2.2.2.2.2.1, u.2.2.2.2.2.2.2.2.2.2.2.2.2.2.2.2.2.2.2.2.2.2.2.1, u.2.2.2.2.2.2.2.2.2.2.2.2.2.2.2.2.2.2.2.2.2.2.2.2.1, u.2.2.2.2.2.2.2.2.2.2.2.2.2.2.2.2.2.2.2.2.2.2.2.2.2.1, u.2.2.2.2.2.2.2.2.2.2.2.2.2.2.2.2.2.2.2.2.2.2.2.2.2.2.1, u.2.2.2.2.2.2.2.2.2.2.2.2.2.2.2.2.2.2.2.2.2.2.2.2.2.2.2.1, u.2.2.2.2.2.2.2.2.2.2.2.2.2.2.2.2.2.2.2.2.2.2.2.2.2.2.2.2.1, u.2.2.2.2.2.2.2.2.2.2.2.2.2.2.2.2.2.2.2.2.2.2.2.2.2.2.2.2.2.1, u.2.2.2.2.2.2.2.2.2.2.2.2.2.2.2.2.2.2.2.2.2.2.2.2.2.2.2.2.2.2.1, u.2.2.2.2.2.2.2.2.2.2.2.2.2.2.2.2.2.2.2.2.2.2.2.2.2.2.2.2.2.2.2.1, u.2.2.2.2.2.2.2.2.2.2.2.2.2.2.2.2.2.2.2.2.2.2.2.2.2.2.2.2.2.2.2.2.1, e_frameStep, u.2.2.2.2.2.2.2.2.2.2.2.2.2.2.2.2.2.2.2.2.2.2.2.2.2.2.2.2.2.2.2.2.2.2.1, u.2.2.2.2.2.2.2.2.2.2.2.2.2.2.2.2.2.2.2.2.2.2.2.2.2.2.2.2.2.2.2.2.2.2.2)
def xs_frameTop_answer (e_frameTop : Int32) (e_answer : Int32) (u : SX) : SX := (u.1, u.2.1, u.2.2.1, u.2.2.2.1, u.2.2.2.2.1, u.2.2.2.2.2.1, u.2.2.2.2.2.2.1, u.2.2.2.2.2.2.2.1, u.2.2.2.2.2.2.2.2.1, u.2.2.2.2.2.2.2.2.2.1, u.2.2.2.2.2.2.2.2.2.2.1, u.2.2.2.2.2.2.2.2.2.2.2.1, u.2.2.2.2.2.2.2.2.2.2.2.2.1, u.2.2.2.2.2.2.2.2.2.2.2.2.2.1, e_frameTop, e_answer, u.2.2.2.2.2.2.2.2.2.2.2.2.2.2.2.2.1, u.2.2.2.2.2.2.2.2.2.2.2.2.2.2.2.2.2.1, u.2.2.2.2.2.2.2.2.2.2.2.2.2.2.2.2.2.2.1, u.2.2.2.2.2.2.2.2.2.2.2.2.2.2.2.2.2.2.2.1, u.2.2.2.2.2.2.2.2.2.2.2.2.2.2.2.2.2.2.2.2.1, u.2.2.2.2.2.2.2.2.2.2.2.2.2.2.2.2.2.2.2.2.2.1, u.2.2.2.2.2.2.2.2.2.2.2.2.2.2.2.2.2.2.2.2.2.2.1, u.2.2.2.2.2.2.2.2.2.2.2.2.2.2.2.2.2.2.2.2.2.2.2.1, u.2.2.2.2.2.2.2.2.2.2.2.2.2.2.2.2.2.2.2.2.2.2.2.2.1, u.2.2.2.2.2.2.2.2.2.2.2.2.2.2.2.2.2.2.2.2.2.2.2.2.2.1, u.2.2.2.2.2.2.2.2.2.2.2.2.2.2.2.2.2.2.2.2.2.2.2.2.2.2.1, u.2.2.2.2.2.2.2.2.2.2.2.2.2.2.2.2.2.2.2.2.2.2.2.2.2.2.2.1, u.2.2.2.2.2.2.2.2.2.2.2.2.2.2.2.2.2.2.2.2.2.2.2.2.2.2.2.2.1, u.2.2.2.2.2.2.2.2.2.2.2.2.2.2.2.2.2.2.2.2.2.2.2.2.2.2.2.2.2.1, u.2.2.2.2.2.2.2.2.2.2.2.2.2.2.2.2.2.2.2.2.2.2.2.2.2.2.2.2.2.2.1, u.2.2.2.2.2.2.2.2.2.2.2.2.2.2.2.2.2.2.2.2.2.2.2.2.2.2.2.2.2.2.2.1, u.2.2.2.2.2.2.2.2.2.2.2.2.2.2.2.2.2.2.2.2.2.2.2.2.2.2.2.2.2.2.2.2.1, u.2.2.2.2.2.2.2.2.2.2.2.2.2.2.2.2.2.2.2.2.2.2.2.2.2.2.2.2.2.2.2.2.2.1, u.2.2.2.2.2.2.2.2.2.2.2.2.2.2.2.2.2.2.2.2.2.2.2.2.2.2.2.2.2.2.2.2.2.2.1, u.2.2.2.2.2.2.2.2.2.2.2.2.2.2.2.2.2.2.2.2.2.2.2.2.2.2.2.2.2.2.2.2.2.2.2)
def xs_frameTop_contextLen (e_frameTop : Int32) (e_contextLen : Int32) (u : SX) : SX := (u.1, u.2.1, u.2.2.1, u.2.2.2.1, u.2.2.2.2.1, u.2.2.2.2.2.1, u.2.2.2.2.2.2.1, u.2.2.2.2.2.2.2.1, u.2.2.2.2.2.2.2.2.1, u.2.2.2.2.2.2.2.2.2.1, u.2.2.2.2.2.2.2.2.2.2.1, u.2.2.2.2.2.2.2.2.2.2.2.1, u.2.2.2.2.2.2.2.2.2.2.2.2.1, u.2.2.2.2.2.2.2.2.2.2.2.2.2.1, e_frameTop, u.2.2.2.2.2.2.2.2.2.2.2.2.2.2.2.1, e_contextLen, u.2.2.2.2.2.2.2.2.2.2.2.2.2.2.2.2.2.1, u.2.2.2.2.2.2.2.2.2.2.2.2.2.2.2.2.2.2.1, u.2.2.2.2.2.2.2.2.2.2.2.2.2.2.2.2.2.2.2.1, u.2.2.2.2.2.2.2.2.2.2.2.2.2.2.2.2.2.2.2.2.1, u.2.2.2.2.2.2.2.2.2.2.2.2.2.2.2.2.2.2.2.2.2.1, u.2.2.2.2.2.2.2.2.2.2.2.2.2.2.2.2.2.2.2.2.2.2.1, u.2.2.2.2.2.2.2.2.2.2.2.2.2.2.2.2.2.2.2.2.2.2.2.1, u.2.2.2.2.2.2.2.2.2.2.2.2.2.2.2.2.2.2.2.2.2.2.2.2.1, u.2.2.2.2.2.2.2.2.2.2.2.2.2.2.2.2.2.2.2.2.2.2.2.2.2.1, u.2.2.2.2.2.2.2.2.2.2.2.2.2.2.2.2.2.2.2.2.2.2.2.2.2.2.1, u.2.2.2.2.2.2.2.2.2.2.2.2.2.2.2.2.2.2.2.2.2.2.2.2.2.2.2.1, u.2.2.2.2.2.2.2.2.2.2.2.2.2.2.2.2.2.2.2.2.2.2.2.2.2.2.2.2.1, u.2.2.2.2.2.2.2.2.2.2.2.2.2.2.2.2.2.2.2.2.2.2.2.2.2.2.2.2.2.1, u.2.2.2.2.2.2.2.2.2.2.2.2.2.2.2.2.2.2.2.2.2.2.2.2.2.2.2.2.2.2.1, u.2.2.2.2.2.2.2.2.2.2.2.2.2.2.2.2.2.2.2.2.2.2.2.2.2.2.2.2.2.2.2.1, u.2.2.2.2.2.2.2.2.2.2.2.2.2.2.2.2.2.2.2.2.2.2.2.2.2.2.2.2.2.2.2.2.1, u.2.2.2.2.2.2.2.2.2.2.2.2.2.2.2.2.2.2.2.2.2.2.2.2.2.2.2.2.2.2.2.2.2.1, u.2.2.2.2.2.2.2.2.2.2.2.2.2.2.2.2.2.2.2.2.2.2.2.2.2.2.2.2.2.2.2.2.2.2.1, u.2.2.2.2.2.2.2.2.2.2.2.2.2.2.2.2.2.2.2.2.2.2.2.2.2.2.2.2.2.2.2.2.2.2.2)
def xs_entryCount_entryBody_entryClaim_entryType (e_entryCount : Int32) (e_entryBody : Nat → Int32) (e_entryClaim : Nat → Int32) (e_entryType : Nat → Int32) (u : SX) : SX := (u.1, u.2.1, u.2.2.1, u.2.2.2.1, u.2.2.2.2.1, u.2.2.2.2.2.1, u.2.2.2.2.2.2.1, e_entryCount, u.2.2.2.2.2.2.2.2.1, u.2.2.2.2.2.2.2.2.2.1, u.2.2.2.2.2.2.2.2.2.2.1, u.2.2.2.2.2.2.2.2.2.2.2.1, u.2.2.2.2.2.2.2.2.2.2.2.2.1, u.2.2.2.2.2.2.2.2.2.2.2.2.2.1, u.2.2.2.2.2.2.2.2.2.2.2.2.2.2.1, u.2.2.2.2.2.2.2.2.2.2.2.2.2.2.2.1, u.2.2.2.2.2.2.2.2.2.2.2.2.2.2.2.2.1, u.2.2.2.2.2.2.2.2.2.2.2.2.2.2.2.2.2.1, u.2.2.2.2.2.2.2.2.2.2.2.2.2.2.2.2.2.2.1, u.2.2.2.2.2.2.2.2.2.2.2.2.2.2.2.2.2.2.2.1, e_entryBody, e_entryClaim, e_entryType, u.2.2.2.2.2.2.2.2.2.2.2.2.2.2.2.2.2.2.2.2.2.2.2.1, u.2.2.2.2.2.2.2.2.2.2.2.2.2.2.2.2.2.2.2.2.2.2.2.2.1, u.2.2.2.2.2.2.2.2.2.2.2.2.2.2.2.2.2.2.2.2.2.2.2.2.2.1, u.2.2.2.2.2.2.2.2.2.2.2.2.2.2.2.2.2.2.2.2.2.2.2.2.2.2.1, u.2.2.2.2.2.2.2.2.2.2.2.2.2.2.2.2.2.2.2.2.2.2.2.2.2.2.2.1, u.2.2.2.2.2.2.2.2.2.2.2.2.2.2.2.2.2.2.2.2.2.2.2.2.2.2.2.2.1, u.2.2.2.2.2.2.2.2.2.2.2.2.2.2.2.2.2.2.2.2.2.2.2.2.2.2.2.2.2.1, u.2.2.2.2.2.2.2.2.2.2.2.2.2.2.2.2.2.2.2.2.2.2.2.2.2.2.2.2.2.2.1, u.2.2.2.2.2.2.2.2.2.2.2.2.2.2.2.2.2.2.2.2.2.2.2.2.2.2.2.2.2.2.2.1, u.2.2.2.2.2.2.2.2.2.2.2.2.2.2.2.2.2.2.2.2.2.2.2.2.2.2.2.2.2.2.2.2.1, u.2.2.2.2.2.2.2.2.2.2.2.2.2.2.2.2.2.2.2.2.2.2.2.2.2.2.2.2.2.2.2.2.2.1, u.2.2.2.2.2.2.2.2.2.2.2.2.2.2.2.2.2.2.2.2.2.2.2.2.2.2.2.2.2.2.2.2.2.2.1, u.2.2.2.2.2.2.2.2.2.2.2.2.2.2.2.2.2.2.2.2.2.2.2.2.2.2.2.2.2.2.2.2.2.2.2)
def xs_count_blameNode (e_count : Int32) (e_blameNode : Int32) (u : SX) : SX := (u.1, u.2.1, u.2.2.1, u.2.2.2.1, u.2.2.2.2.1, e_count, u.2.2.2.2.2.2.1, u.2.2.2.2.2.2.2.1, u.2.2.2.2.2.2.2.2.1, e_blameNode, u.2.2.2.2.2.2.2.2.2.2.1, u.2.2.2.2.2.2.2.2.2.2.2.1, u.2.2.2.2.2.2.2.2.2.2.2.2.1, u.2.2.2.2.2.2.2.2.2.2.2.2.2.1, u.2.2.2.2.2.2.2.2.2.2.2.2.2.2.1, u.2.2.2.2.2.2.2.2.2.2.2.2.2.2.2.1, u.2.2.2.2.2.2.2.2.2.2.2.2.2.2.2.2.1, u.2.2.2.2.2.2.2.2.2.2.2.2.2.2.2.2.2.1, u.2.2.2.2.2.2.2.2.2.2.2.2.2.2.2.2.2.2.1, u.2.2.2.2.2.2.2.2.2.2.2.2.2.2.2.2.2.2.2.1, u.2.2.2.2.2.2.2.2.2.2.2.2.2.2.2.2.2.2.2.2.1, u.2.2.2.2.2.2.2.2.2.2.2.2.2.2.2.2.2.2.2.2.2.1, u.2.2.2.2.2.2.2.2.2.2.2.2.2.2.2.2.2.2.2.2.2.2.1, u.2.2.2.2.2.2.2.2.2.2.2.2.2.2.2.2.2.2.2.2.2.2.2.1, u.2.2.2.2.2.2.2.2.2.2.2.2.2.2.2.2.2.2.2.2.2.2.2.2.1, u.2.2.2.2.2.2.2.2.2.2.2.2.2.2.2.2.2.2.2.2.2.2.2.2.2.1, u.2.2.2.2.2.2.2.2.2.2.2.2.2.2.2.2.2.2.2.2.2.2.2.2.2.2.1, u.2.2.2.2.2.2.2.2.2.2.2.2.2.2.2.2.2.2.2.2.2.2.2.2.2.2.2.1, u.2.2.2.2.2.2.2.2.2.2.2.2.2.2.2.2.2.2.2.2.2.2.2.2.2.2.2.2.1, u.2.2.2.2.2.2.2.2.2.2.2.2.2.2.2.2.2.2.2.2.2.2.2.2.2.2.2.2.2.1, u.2.2.2.2.2.2.2.2.2.2.2.2.2.2.2.2.2.2.2.2.2.2.2.2.2.2.2.2.2.2.1, u.2.2.2.2.2.2.2.2.2.2.2.2.2.2.2.2.2.2.2.2.2.2.2.2.2.2.2.2.2.2.2.1, u.2.2.2.2.2.2.2.2.2.2.2.2.2.2.2.2.2.2.2.2.2.2.2.2.2.2.2.2.2.2.2.2.1, u.2.2.2.2.2.2.2.2.2.2.2.2.2.2.2.2.2.2.2.2.2.2.2.2.2.2.2.2.2.2.2.2.2.1, u.2.2.2.2.2.2.2.2.2.2.2.2.2.2.2.2.2.2.2.2.2.2.2.2.2.2.2.2.2.2.2.2.2.2.1, u.2.2.2.2.2.2.2.2.2.2.2.2.2.2.2.2.2.2.2.2.2.2.2.2.2.2.2.2.2.2.2.2.2.2.2)
theorem xe_clamp {post : Int32 → Prop} {u : SX} {p0 : Int32} {p1 : Int32} {p2 : Int32} : wpX_clamp post u p0 p1 p2 = (((p1 ≤ p0 → (((p0 ≤ p2 → (post p0)) ∧ (¬ p0 ≤ p2 → (post p2))))) ∧ (¬ p1 ≤ p0 → (post p1)))) := rfl
theorem xe_arity {post : Int32 → Prop} {u : SX} {p0 : Int32} : wpX_arity post u p0 = (((p0 < 4 → (post 0)) ∧ (¬ p0 < 4 → (((11 < p0 → (post 0)) ∧ (¬ 11 < p0 → (((p0 = 4 → (post 1)) ∧ (¬ p0 = 4 → (((p0 = 5 → (post 0)) ∧ (¬ p0 = 5 → (((p0 = 6 → (post 2)) ∧ (¬ p0 = 6 → (((p0 = 7 → (post 2)) ∧ (¬ p0 = 7 → (((p0 = 8 → (post 2)) ∧ (¬ p0 = 8 → (((p0 = 9 → (post 4)) ∧ (¬ p0 = 9 → (((p0 = 10 → (post 0)) ∧ (¬ p0 = 10 → (((p0 = 11 → (post 1)) ∧ (¬ p0 = 11 → (True))))))))))))))))))))))))))))))) := rfl
def xv_find_3 (post : Int32 → Prop) (x1 : Int32) (x2 : Int32) (x3 : Int32) (x4 : Int32) (x5 : Int32) (n : Nat) (x6 : Int32) (u : SX) : Prop := wX_find_3 post x1 x2 x3 x4 x5 u.1 u.2.1 u.2.2.1 u.2.2.2.1 u.2.2.2.2.1 u.2.2.2.2.2.1 u.2.2.2.2.2.2.1 u.2.2.2.2.2.2.2.1 u.2.2.2.2.2.2.2.2.1 u.2.2.2.2.2.2.2.2.2.1 u.2.2.2.2.2.2.2.2.2.2.1 u.2.2.2.2.2.2.2.2.2.2.2.1 u.2.2.2.2.2.2.2.2.2.2.2.2.1 u.2.2.2.2.2.2.2.2.2.2.2.2.2.1 u.2.2.2.2.2.2.2.2.2.2.2.2.2.2.1 u.2.2.2.2.2.2.2.2.2.2.2.2.2.2.2.1 u.2.2.2.2.2.2.2.2.2.2.2.2.2.2.2.2.1 u.2.2.2.2.2.2.2.2.2.2.2.2.2.2.2.2.2.1 u.2.2.2.2.2.2.2.2.2.2.2.2.2.2.2.2.2.2.1 u.2.2.2.2.2.2.2.2.2.2.2.2.2.2.2.2.2.2.2.1 u.2.2.2.2.2.2.2.2.2.2.2.2.2.2.2.2.2.2.2.2.1 u.2.2.2.2.2.2.2.2.2.2.2.2.2.2.2.2.2.2.2.2.2.1 u.2.2.2.2.2.2.2.2.2.2.2.2.2.2.2.2.2.2.2.2.2.2.1 u.2.2.2.2.2.2.2.2.2.2.2.2.2.2.2.2.2.2.2.2.2.2.2.1 u.2.2.2.2.2.2.2.2.2.2.2.2.2.2.2.2.2.2.2.2.2.2.2.2.1 u.2.2.2.2.2.2.2.2.2.2.2.2.2.2.2.2.2.2.2.2.2.2.2.2.2.1 u.2.2.2.2.2.2.2.2.2.2.2.2.2.2.2.2.2.2.2.2.2.2.2.2.2.2.1 u.2.2.2.2.2.2.2.2.2.2.2.2.2.2.2.2.2.2.2.2.2.2.2.2.2.2.2.1 u.2.2.2.2.2.2.2.2.2.2.2.2.2.2.2.2.2.2.2.2.2.2.2.2.2.2.2.2.1 u.2.2.2.2.2.2.2.2.2.2.2.2.2.2.2.2.2.2.2.2.2.2.2.2.2.2.2.2.2.1 u.2.2.2.2.2.2.2.2.2.2.2.2.2.2.2.2.2.2.2.2.2.2.2.2.2.2.2.2.2.2.1 u.2.2.2.2.2.2.2.2.2.2.2.2.2.2.2.2.2.2.2.2.2.2.2.2.2.2.2.2.2.2.2.1 u.2.2.2.2.2.2.2.2.2.2.2.2.2.2.2.2.2.2.2.2.2.2.2.2.2.2.2.2.2.2.2.2.1 u.2.2.2.2.2.2.2.2.2.2.2.2.2.2.2.2.2.2.2.2.2.2.2.2.2.2.2.2.2.2.2.2.2.1 u.2.2.2.2.2.2.2.2.2.2.2.2.2.2.2.2.2.2.2.2.2.2.2.2.2.2.2.2.2.2.2.2.2.2.1 u.2.2.2.2.2.2.2.2.2.2.2.2.2.2.2.2.2.2.2.2.2.2.2.2.2.2.2.2.2.2.2.2.2.2.2 n x6
theorem xe_find_3 {post : Int32 → Prop} {x1 : Int32} {x2 : Int32} {x3 : Int32} {x4 : Int32} {x5 : Int32} {n : Nat} {x6 : Int32} {u : SX} : xv_find_3 post x1 x2 x3 x4 x5 (n + 1) x6 u = ((((xg_count u) ≤ x6 → (post (-13))) ∧ (¬ (xg_count u) ≤ x6 → (∀ x7_2 : Int32, x7_2 = 4 * x6 → (vp_in x6 256 ∧ (((((xg_kind u) x6.toNatClampNeg) = x1 → (vp_in x7_2 1024 ∧ (((((xg_part u) x7_2.toNatClampNeg) = x2 → (vp_in (x7_2 + 1) 1024 ∧ (((((xg_part u) (x7_2 + 1).toNatClampNeg) = x3 → (vp_in (x7_2 + 2) 1024 ∧ (((((xg_part u) (x7_2 + 2).toNatClampNeg) = x4 → (vp_in (x7_2 + 3) 1024 ∧ (((((xg_part u) (x7_2 + 3).toNatClampNeg) = x5 → (post x6)) ∧ (¬ ((xg_part u) (x7_2 + 3).toNatClampNeg) = x5 → (∀ x6_17 : Int32, x6_17 = x6 + 1 → ((xv_find_3 post x1 x2 x3 x4 x5 n x6_17 u)))))))) ∧ (¬ ((xg_part u) (x7_2 + 2).toNatClampNeg) = x4 → (∀ x6_14 : Int32, x6_14 = x6 + 1 → ((xv_find_3 post x1 x2 x3 x4 x5 n x6_14 u)))))))) ∧ (¬ ((xg_part u) (x7_2 + 1).toNatClampNeg) = x3 → (∀ x6_11 : Int32, x6_11 = x6 + 1 → ((xv_find_3 post x1 x2 x3 x4 x5 n x6_11 u)))))))) ∧ (¬ ((xg_part u) x7_2.toNatClampNeg) = x2 → (∀ x6_8 : Int32, x6_8 = x6 + 1 → ((xv_find_3 post x1 x2 x3 x4 x5 n x6_8 u)))))))) ∧ (¬ ((xg_kind u) x6.toNatClampNeg) = x1 → (∀ x6_5 : Int32, x6_5 = x6 + 1 → ((xv_find_3 post x1 x2 x3 x4 x5 n x6_5 u))))))))))) := rfl
theorem xe_find {post : Int32 → Prop} {u : SX} {p0 : Int32} {p1 : Int32} {p2 : Int32} {p3 : Int32} {p4 : Int32} : wpX_find post u p0 p1 p2 p3 p4 = (∃ n3 : Nat, (xv_find_3 post p0 p1 p2 p3 p4 n3 0 u)) := rfl
def xv_intern_79 (post : Int32 → SX → Prop) (x1 : Int32) (x2 : Int32) (x3 : Int32) (x4 : Int32) (x5 : Int32) (x7 : Int32) (u : SX) : Prop := wX_intern_79 post x1 x2 x3 x4 x5 x7 u.1 u.2.1 u.2.2.1 u.2.2.2.1 u.2.2.2.2.1 u.2.2.2.2.2.1 u.2.2.2.2.2.2.1 u.2.2.2.2.2.2.2.1 u.2.2.2.2.2.2.2.2.1 u.2.2.2.2.2.2.2.2.2.1 u.2.2.2.2.2.2.2.2.2.2.1 u.2.2.2.2.2.2.2.2.2.2.2.1 u.2.2.2.2.2.2.2.2.2.2.2.2.1 u.2.2.2.2.2.2.2.2.2.2.2.2.2.1 u.2.2.2.2.2.2.2.2.2.2.2.2.2.2.1 u.2.2.2.2.2.2.2.2.2.2.2.2.2.2.2.1 u.2.2.2.2.2.2.2.2.2.2.2.2.2.2.2.2.1 u.2.2.2.2.2.2.2.2.2.2.2.2.2.2.2.2.2.1 u.2.2.2.2.2.2.2.2.2.2.2.2.2.2.2.2.2.2.1 u.2.2.2.2.2.2.2.2.2.2.2.2.2.2.2.2.2.2.2.1 u.2.2.2.2.2.2.2.2.2.2.2.2.2.2.2.2.2.2.2.2.1 u.2.2.2.2.2.2.2.2.2.2.2.2.2.2.2.2.2.2.2.2.2.1 u.2.2.2.2.2.2.2.2.2.2.2.2.2.2.2.2.2.2.2.2.2.2.1 u.2.2.2.2.2.2.2.2.2.2.2.2.2.2.2.2.2.2.2.2.2.2.2.1 u.2.2.2.2.2.2.2.2.2.2.2.2.2.2.2.2.2.2.2.2.2.2.2.2.1 u.2.2.2.2.2.2.2.2.2.2.2.2.2.2.2.2.2.2.2.2.2.2.2.2.2.1 u.2.2.2.2.2.2.2.2.2.2.2.2.2.2.2.2.2.2.2.2.2.2.2.2.2.2.1 u.2.2.2.2.2.2.2.2.2.2.2.2.2.2.2.2.2.2.2.2.2.2.2.2.2.2.2.1 u.2.2.2.2.2.2.2.2.2.2.2.2.2.2.2.2.2.2.2.2.2.2.2.2.2.2.2.2.1 u.2.2.2.2.2.2.2.2.2.2.2.2.2.2.2.2.2.2.2.2.2.2.2.2.2.2.2.2.2.1 u.2.2.2.2.2.2.2.2.2.2.2.2.2.2.2.2.2.2.2.2.2.2.2.2.2.2.2.2.2.2.1 u.2.2.2.2.2.2.2.2.2.2.2.2.2.2.2.2.2.2.2.2.2.2.2.2.2.2.2.2.2.2.2.1 u.2.2.2.2.2.2.2.2.2.2.2.2.2.2.2.2.2.2.2.2.2.2.2.2.2.2.2.2.2.2.2.2.1 u.2.2.2.2.2.2.2.2.2.2.2.2.2.2.2.2.2.2.2.2.2.2.2.2.2.2.2.2.2.2.2.2.2.1 u.2.2.2.2.2.2.2.2.2.2.2.2.2.2.2.2.2.2.2.2.2.2.2.2.2.2.2.2.2.2.2.2.2.2.1 u.2.2.2.2.2.2.2.2.2.2.2.2.2.2.2.2.2.2.2.2.2.2.2.2.2.2.2.2.2.2.2.2.2.2.2
theorem xe_intern_79 {post : Int32 → SX → Prop} {x1 : Int32} {x2 : Int32} {x3 : Int32} {x4 : Int32} {x5 : Int32} {x7 : Int32} {u : SX} : xv_intern_79 post x1 x2 x3 x4 x5 x7 u = (((x7 ≤ (xg_weightLimit u) → (wpX_find (fun r_43 => (((r_43 < 0 → ((((xg_count u) < (xg_nodeLimit u) → (vp_in (xg_count u) 256 ∧ ∀ a_kind_83 : Nat → Int32, a_kind_83 = upd (xg_kind u) (xg_count u).toNatClampNeg x1 → (vp_in (4 * (xg_count u)) 1024 ∧ ∀ a_part_85 : Nat → Int32, a_part_85 = upd (xg_part u) (4 * (xg_count u)).toNatClampNeg x2 → (vp_in ((4 * (xg_count u)) + 1) 1024 ∧ ∀ a_part_87 : Nat → Int32, a_part_87 = upd a_part_85 ((4 * (xg_count u)) + 1).toNatClampNeg x3 → (vp_in ((4 * (xg_count u)) + 2) 1024 ∧ ∀ a_part_89 : Nat → Int32, a_part_89 = upd a_part_87 ((4 * (xg_count u)) + 2).toNatClampNeg x4 → (vp_in ((4 * (xg_count u)) + 3) 1024 ∧ ∀ a_part_91 : Nat → Int32, a_part_91 = upd a_part_89 ((4 * (xg_count u)) + 3).toNatClampNeg x5 → (vp_in (xg_count u) 256 ∧ ∀ a_heavy_93 : Nat → Int32, a_heavy_93 = upd (xg_heavy u) (xg_count u).toNatClampNeg x7 → (∀ f_count_94 : Int32, f_count_94 = (xg_count u) + 1 → (post (xg_count u) (xs_count_kind_part_heavy f_count_94 a_kind_83 a_part_91 a_heavy_93 u)))))))))) ∧ (¬ (xg_count u) < (xg_nodeLimit u) → (post (-3) u))))) ∧ (¬ r_43 < 0 → (post r_43 u))))) u x1 x2 x3 x4 x5)) ∧ (¬ x7 ≤ (xg_weightLimit u) → (post (-3) u)))) := rfl
def xv_intern_61 (post : Int32 → SX → Prop) (x1 : Int32) (x2 : Int32) (x3 : Int32) (x4 : Int32) (x5 : Int32) (x6 : Int32) (x7 : Int32) (u : SX) : Prop := wX_intern_61 post x1 x2 x3 x4 x5 x6 x7 u.1 u.2.1 u.2.2.1 u.2.2.2.1 u.2.2.2.2.1 u.2.2.2.2.2.1 u.2.2.2.2.2.2.1 u.2.2.2.2.2.2.2.1 u.2.2.2.2.2.2.2.2.1 u.2.2.2.2.2.2.2.2.2.1 u.2.2.2.2.2.2.2.2.2.2.1 u.2.2.2.2.2.2.2.2.2.2.2.1 u.2.2.2.2.2.2.2.2.2.2.2.2.1 u.2.2.2.2.2.2.2.2.2.2.2.2.2.1 u.2.2.2.2.2.2.2.2.2.2.2.2.2.2.1 u.2.2.2.2.2.2.2.2.2.2.2.2.2.2.2.1 u.2.2.2.2.2.2.2.2.2.2.2.2.2.2.2.2.1 u.2.2.2.2.2.2.2.2.2.2.2.2.2.2.2.2.2.1 u.2.2.2.2.2.2.2.2.2.2.2.2.2.2.2.2.2.2.1 u.2.2.2.2.2.2.2.2.2.2.2.2.2.2.2.2.2.2.2.1 u.2.2.2.2.2.2.2.2.2.2.2.2.2.2.2.2.2.2.2.2.1 u.2.2.2.2.2.2.2.2.2.2.2.2.2.2.2.2.2.2.2.2.2.1 u.2.2.2.2.2.2.2.2.2.2.2.2.2.2.2.2.2.2.2.2.2.2.1 u.2.2.2.2.2.2.2.2.2.2.2.2.2.2.2.2.2.2.2.2.2.2.2.1 u.2.2.2.2.2.2.2.2.2.2.2.2.2.2.2.2.2.2.2.2.2.2.2.2.1 u.2.2.2.2.2.2.2.2.2.2.2.2.2.2.2.2.2.2.2.2.2.2.2.2.2.1 u.2.2.2.2.2.2.2.2.2.2.2.2.2.2.2.2.2.2.2.2.2.2.2.2.2.2.1 u.2.2.2.2.2.2.2.2.2.2.2.2.2.2.2.2.2.2.2.2.2.2.2.2.2.2.2.1 u.2.2.2.2.2.2.2.2.2.2.2.2.2.2.2.2.2.2.2.2.2.2.2.2.2.2.2.2.1 u.2.2.2.2.2.2.2.2.2.2.2.2.2.2.2.2.2.2.2.2.2.2.2.2.2.2.2.2.2.1 u.2.2.2.2.2.2.2.2.2.2.2.2.2.2.2.2.2.2.2.2.2.2.2.2.2.2.2.2.2.2.1 u.2.2.2.2.2.2.2.2.2.2.2.2.2.2.2.2.2.2.2.2.2.2.2.2.2.2.2.2.2.2.2.1 u.2.2.2.2.2.2.2.2.2.2.2.2.2.2.2.2.2.2.2.2.2.2.2.2.2.2.2.2.2.2.2.2.1 u.2.2.2.2.2.2.2.2.2.2.2.2.2.2.2.2.2.2.2.2.2.2.2.2.2.2.2.2.2.2.2.2.2.1 u.2.2.2.2.2.2.2.2.2.2.2.2.2.2.2.2.2.2.2.2.2.2.2.2.2.2.2.2.2.2.2.2.2.2.1 u.2.2.2.2.2.2.2.2.2.2.2.2.2.2.2.2.2.2.2.2.2.2.2.2.2.2.2.2.2.2.2.2.2.2.2
theorem xe_intern_61 {post : Int32 → SX → Prop} {x1 : Int32} {x2 : Int32} {x3 : Int32} {x4 : Int32} {x5 : Int32} {x6 : Int32} {x7 : Int32} {u : SX} : xv_intern_61 post x1 x2 x3 x4 x5 x6 x7 u = (((x6 ≤ 3 → ((xv_intern_79 post x1 x2 x3 x4 x5 x7 u))) ∧ (¬ x6 ≤ 3 → (vp_in x5 256 ∧ (∀ x7_96 : Int32, x7_96 = x7 + ((xg_heavy u) x5.toNatClampNeg) → ((xv_intern_79 post x1 x2 x3 x4 x5 x7_96 u))))))) := rfl
def xv_intern_43 (post : Int32 → SX → Prop) (x1 : Int32) (x2 : Int32) (x3 : Int32) (x4 : Int32) (x5 : Int32) (x6 : Int32) (x7 : Int32) (u : SX) : Prop := wX_intern_43 post x1 x2 x3 x4 x5 x6 x7 u.1 u.2.1 u.2.2.1 u.2.2.2.1 u.2.2.2.2.1 u.2.2.2.2.2.1 u.2.2.2.2.2.2.1 u.2.2.2.2.2.2.2.1 u.2.2.2.2.2.2.2.2.1 u.2.2.2.2.2.2.2.2.2.1 u.2.2.2.2.2.2.2.2.2.2.1 u.2.2.2.2.2.2.2.2.2.2.2.1 u.2.2.2.2.2.2.2.2.2.2.2.2.1 u.2.2.2.2.2.2.2.2.2.2.2.2.2.1 u.2.2.2.2.2.2.2.2.2.2.2.2.2.2.1 u.2.2.2.2.2.2.2.2.2.2.2.2.2.2.2.1 u.2.2.2.2.2.2.2.2.2.2.2.2.2.2.2.2.1 u.2.2.2.2.2.2.2.2.2.2.2.2.2.2.2.2.2.1 u.2.2.2.2.2.2.2.2.2.2.2.2.2.2.2.2.2.2.1 u.2.2.2.2.2.2.2.2.2.2.2.2.2.2.2.2.2.2.2.1 u.2.2.2.2.2.2.2.2.2.2.2.2.2.2.2.2.2.2.2.2.1 u.2.2.2.2.2.2.2.2.2.2.2.2.2.2.2.2.2.2.2.2.2.1 u.2.2.2.2.2.2.2.2.2.2.2.2.2.2.2.2.2.2.2.2.2.2.1 u.2.2.2.2.2.2.2.2.2.2.2.2.2.2.2.2.2.2.2.2.2.2.2.1 u.2.2.2.2.2.2.2.2.2.2.2.2.2.2.2.2.2.2.2.2.2.2.2.2.1 u.2.2.2.2.2.2.2.2.2.2.2.2.2.2.2.2.2.2.2.2.2.2.2.2.2.1 u.2.2.2.2.2.2.2.2.2.2.2.2.2.2.2.2.2.2.2.2.2.2.2.2.2.2.1 u.2.2.2.2.2.2.2.2.2.2.2.2.2.2.2.2.2.2.2.2.2.2.2.2.2.2.2.1 u.2.2.2.2.2.2.2.2.2.2.2.2.2.2.2.2.2.2.2.2.2.2.2.2.2.2.2.2.1 u.2.2.2.2.2.2.2.2.2.2.2.2.2.2.2.2.2.2.2.2.2.2.2.2.2.2.2.2.2.1 u.2.2.2.2.2.2.2.2.2.2.2.2.2.2.2.2.2.2.2.2.2.2.2.2.2.2.2.2.2.2.1 u.2.2.2.2.2.2.2.2.2.2.2.2.2.2.2.2.2.2.2.2.2.2.2.2.2.2.2.2.2.2.2.1 u.2.2.2.2.2.2.2.2.2.2.2.2.2.2.2.2.2.2.2.2.2.2.2.2.2.2.2.2.2.2.2.2.1 u.2.2.2.2.2.2.2.2.2.2.2.2.2.2.2.2.2.2.2.2.2.2.2.2.2.2.2.2.2.2.2.2.2.1 u.2.2.2.2.2.2.2.2.2.2.2.2.2.2.2.2.2.2.2.2.2.2.2.2.2.2.2.2.2.2.2.2.2.2.1 u.2.2.2.2.2.2.2.2.2.2.2.2.2.2.2.2.2.2.2.2.2.2.2.2.2.2.2.2.2.2.2.2.2.2.2
theorem xe_intern_43 {post : Int32 → SX → Prop} {x1 : Int32} {x2 : Int32} {x3 : Int32} {x4 : Int32} {x5 : Int32} {x6 : Int32} {x7 : Int32} {u : SX} : xv_intern_43 post x1 x2 x3 x4 x5 x6 x7 u = (((x6 ≤ 2 → ((xv_intern_61 post x1 x2 x3 x4 x5 x6 x7 u))) ∧ (¬ x6 ≤ 2 → (vp_in x4 256 ∧ (∀ x7_98 : Int32, x7_98 = x7 + ((xg_heavy u) x4.toNatClampNeg) → ((xv_intern_61 post x1 x2 x3 x4 x5 x6 x7_98 u))))))) := rfl
def xv_intern_26 (post : Int32 → SX → Prop) (x1 : Int32) (x2 : Int32) (x3 : Int32) (x4 : Int32) (x5 : Int32) (x6 : Int32) (x7 : Int32) (u : SX) : Prop := wX_intern_26 post x1 x2 x3 x4 x5 x6 x7 u.1 u.2.1 u.2.2.1 u.2.2.2.1 u.2.2.2.2.1 u.2.2.2.2.2.1 u.2.2.2.2.2.2.1 u.2.2.2.2.2.2.2.1 u.2.2.2.2.2.2.2.2.1 u.2.2.2.2.2.2.2.2.2.1 u.2.2.2.2.2.2.2.2.2.2.1 u.2.2.2.2.2.2.2.2.2.2.2.1 u.2.2.2.2.2.2.2.2.2.2.2.2.1 u.2.2.2.2.2.2.2.2.2.2.2.2.2.1 u.2.2.2.2.2.2.2.2.2.2.2.2.2.2.1 u.2.2.2.2.2.2.2.2.2.2.2.2.2.2.2.1 u.2.2.2.2.2.2.2.2.2.2.2.2.2.2.2.2.1 u.2.2.2.2.2.2.2.2.2.2.2.2.2.2.2.2.2.1 u.2.2.2.2.2.2.2.2.2.2.2.2.2.2.2.2.2.2.1 u.2.2.2.2.2.2.2.2.2.2.2.2.2.2.2.2.2.2.2.1 u.2.2.2.2.2.2.2.2.2.2.2.2.2.2.2.2.2.2.2.2.1 u.2.2.2.2.2.2.2.2.2.2.2.2.2.2.2.2.2.2.2.2.2.1 u.2.2.2.2.2.2.2.2.2.2.2.2.2.2.2.2.2.2.2.2.2.2.1 u.2.2.2.2.2.2.2.2.2.2.2.2.2.2.2.2.2.2.2.2.2.2.2.1 u.2.2.2.2.2.2.2.2.2.2.2.2.2.2.2.2.2.2.2.2.2.2.2.2.1 u.2.2.2.2.2.2.2.2.2.2.2.2.2.2.2.2.2.2.2.2.2.2.2.2.2.1 u.2.2.2.2.2.2.2.2.2.2.2.2.2.2.2.2.2.2.2.2.2.2.2.2.2.2.1 u.2.2.2.2.2.2.2.2.2.2.2.2.2.2.2.2.2.2.2.2.2.2.2.2.2.2.2.1 u.2.2.2.2.2.2.2.2.2.2.2.2.2.2.2.2.2.2.2.2.2.2.2.2.2.2.2.2.1 u.2.2.2.2.2.2.2.2.2.2.2.2.2.2.2.2.2.2.2.2.2.2.2.2.2.2.2.2.2.1 u.2.2.2.2.2.2.2.2.2.2.2.2.2.2.2.2.2.2.2.2.2.2.2.2.2.2.2.2.2.2.1 u.2.2.2.2.2.2.2.2.2.2.2.2.2.2.2.2.2.2.2.2.2.2.2.2.2.2.2.2.2.2.2.1 u.2.2.2.2.2.2.2.2.2.2.2.2.2.2.2.2.2.2.2.2.2.2.2.2.2.2.2.2.2.2.2.2.1 u.2.2.2.2.2.2.2.2.2.2.2.2.2.2.2.2.2.2.2.2.2.2.2.2.2.2.2.2.2.2.2.2.2.1 u.2.2.2.2.2.2.2.2.2.2.2.2.2.2.2.2.2.2.2.2.2.2.2.2.2.2.2.2.2.2.2.2.2.2.1 u.2.2.2.2.2.2.2.2.2.2.2.2.2.2.2.2.2.2.2.2.2.2.2.2.2.2.2.2.2.2.2.2.2.2.2
theorem xe_intern_26 {post : Int32 → SX → Prop} {x1 : Int32} {x2 : Int32} {x3 : Int32} {x4 : Int32} {x5 : Int32} {x6 : Int32} {x7 : Int32} {u : SX} : xv_intern_26 post x1 x2 x3 x4 x5 x6 x7 u = (((x6 ≤ 1 → ((xv_intern_43 post x1 x2 x3 x4 x5 x6 x7 u))) ∧ (¬ x6 ≤ 1 → (vp_in x3 256 ∧ (∀ x7_100 : Int32, x7_100 = x7 + ((xg_heavy u) x3.toNatClampNeg) → ((xv_intern_43 post x1 x2 x3 x4 x5 x6 x7_100 u))))))) := rfl
theorem xe_intern {post : Int32 → SX → Prop} {u : SX} {p0 : Int32} {p1 : Int32} {p2 : Int32} {p3 : Int32} {p4 : Int32} : wpX_intern post u p0 p1 p2 p3 p4 = (wpX_arity (fun r_1 => (((r_1 ≤ 0 → ((xv_intern_26 post p0 p1 p2 p3 p4 r_1 1 u))) ∧ (¬ r_1 ≤ 0 → (vp_in p1 256 ∧ (∀ x7_102 : Int32, x7_102 = 1 + ((xg_heavy u) p1.toNatClampNeg) → ((xv_intern_26 post p0 p1 p2 p3 p4 r_1 x7_102 u)))))))) u p0) := rfl
theorem xe_var {post : Int32 → SX → Prop} {u : SX} {p0 : Int32} : wpX_var post u p0 = (((p0 < 0 → (post (-2) u)) ∧ (¬ p0 < 0 → (((p0 ≤ 31 → (wpX_intern (fun r_3 u_4 => (post r_3 u_4)) u 5 p0 0 0 0)) ∧ (¬ p0 ≤ 31 → (post (-2) u))))))) := rfl
theorem xe_isNode {post : Int32 → Prop} {u : SX} {p0 : Int32} : wpX_isNode post u p0 = (((p0 < 0 → (post 0)) ∧ (¬ p0 < 0 → ((((xg_count u) ≤ p0 → (post 0)) ∧ (¬ (xg_count u) ≤ p0 → (post 1))))))) := rfl
theorem xe_suc {post : Int32 → SX → Prop} {u : SX} {p0 : Int32} : wpX_suc post u p0 = (wpX_isNode (fun r_1 => (((r_1 = 0 → (post (-1) u)) ∧ (¬ r_1 = 0 → (wpX_intern (fun r_39 u_40 => (post r_39 u_40)) u 4 p0 0 0 0))))) u p0) := rfl
theorem xe_pi {post : Int32 → SX → Prop} {u : SX} {p0 : Int32} {p1 : Int32} : wpX_pi post u p0 p1 = (wpX_isNode (fun r_1 => (((r_1 = 0 → (post (-1) u)) ∧ (¬ r_1 = 0 → (wpX_isNode (fun r_39 => (((r_39 = 0 → (post (-1) u)) ∧ (¬ r_39 = 0 → (wpX_intern (fun r_77 u_78 => (post r_77 u_78)) u 6 p0 p1 0 0))))) u p1))))) u p0) := rfl
theorem xe_lam {post : Int32 → SX → Prop} {u : SX} {p0 : Int32} {p1 : Int32} : wpX_lam post u p0 p1 = (wpX_isNode (fun r_1 => (((r_1 = 0 → (post (-1) u)) ∧ (¬ r_1 = 0 → (wpX_isNode (fun r_39 => (((r_39 = 0 → (post (-1) u)) ∧ (¬ r_39 = 0 → (wpX_intern (fun r_77 u_78 => (post r_77 u_78)) u 7 p0 p1 0 0))))) u p1))))) u p0) := rfl
theorem xe_app {post : Int32 → SX → Prop} {u : SX} {p0 : Int32} {p1 : Int32} : wpX_app post u p0 p1 = (wpX_isNode (fun r_1 => (((r_1 = 0 → (post (-1) u)) ∧ (¬ r_1 = 0 → (wpX_isNode (fun r_39 => (((r_39 = 0 → (post (-1) u)) ∧ (¬ r_39 = 0 → (wpX_intern (fun r_77 u_78 => (post r_77 u_78)) u 8 p0 p1 0 0))))) u p1))))) u p0) := rfl
theorem xe_rec {post : Int32 → SX → Prop} {u : SX} {p0 : Int32} {p1 : Int32} {p2 : Int32} {p3 : Int32} : wpX_rec post u p0 p1 p2 p3 = (wpX_isNode (fun r_1 => (((r_1 = 0 → (post (-1) u)) ∧ (¬ r_1 = 0 → (wpX_isNode (fun r_39 => (((r_39 = 0 → (post (-1) u)) ∧ (¬ r_39 = 0 → (wpX_isNode (fun r_77 => (((r_77 = 0 → (post (-1) u)) ∧ (¬ r_77 = 0 → (wpX_isNode (fun r_115 => (((r_115 = 0 → (post (-1) u)) ∧ (¬ r_115 = 0 → (wpX_intern (fun r_153 u_154 => (post r_153 u_154)) u 9 p0 p1 p2 p3))))) u p3))))) u p2))))) u p1))))) u p0) := rfl
theorem xe_isEntry {post : Int32 → Prop} {u : SX} {p0 : Int32} : wpX_isEntry post u p0 = (((p0 < 0 → (post 0)) ∧ (¬ p0 < 0 → ((((xg_entryCount u) ≤ p0 → (post 0)) ∧ (¬ (xg_entryCount u) ≤ p0 → (post 1))))))) := rfl
theorem xe_def {post : Int32 → SX → Prop} {u : SX} {p0 : Int32} : wpX_def post u p0 = (wpX_isEntry (fun r_1 => (((r_1 = 0 → (post (-2) u)) ∧ (¬ r_1 = 0 → (wpX_intern (fun r_39 u_40 => (post r_39 u_40)) u 10 p0 0 0 0))))) u p0) := rfl
theorem xe_startWork {post : SX → Prop} {u : SX} : wpX_startWork post u = (post (xs_base_tickCount_blameNode (xg_count u) 0 (-13) u)) := rfl
theorem xe_visit {post : Int32 → SX → Prop} {u : SX} {p0 : Int32} : wpX_visit post u p0 = ((((xg_frameTop u) < 256 → (vp_in (xg_frameTop u) 256 ∧ ∀ a_frameNode_3 : Nat → Int32, a_frameNode_3 = upd (xg_frameNode u) (xg_frameTop u).toNatClampNeg p0 → (vp_in (xg_frameTop u) 256 ∧ ∀ a_frameStep_5 : Nat → Int32, a_frameStep_5 = upd (xg_frameStep u) (xg_frameTop u).toNatClampNeg 0 → (vp_in (xg_frameTop u) 256 ∧ ∀ a_frameKeep_7 : Nat → Int32, a_frameKeep_7 = upd (xg_frameKeep u) (xg_frameTop u).toNatClampNeg 0 → (∀ f_frameTop_8 : Int32, f_frameTop_8 = (xg_frameTop u) + 1 → (post (-100) (xs_frameTop_frameNode_frameStep_frameKeep f_frameTop_8 a_frameNode_3 a_frameStep_5 a_frameKeep_7 u))))))) ∧ (¬ (xg_frameTop u) < 256 → (post (-4) u)))) := rfl
theorem xe_stepSuc {post : Int32 → SX → Prop} {u : SX} {p0 : Int32} {p1 : Int32} : wpX_stepSuc post u p0 p1 = (((p1 = 0 → (vp_in (4 * p0) 1024 ∧ (wpX_visit (fun r_4 u_5 => (post r_4 u_5)) u ((xg_part u) (4 * p0).toNatClampNeg)))) ∧ (¬ p1 = 0 → ((((xg_answer u) = 2 → (post 2 u)) ∧ (¬ (xg_answer u) = 2 → (post (-9) u))))))) := rfl
theorem xe_begin {post : SX → Prop} {u : SX} {p0 : Int32} : wpX_begin post u p0 = (post (xs_outLen_outCap_outOver 0 p0 0 u)) := rfl
theorem xe_emit {post : SX → Prop} {u : SX} {p0 : Int32} {p1 : Int32} : wpX_emit post u p0 p1 = ((((xg_outCap u) ≤ (xg_outLen u) → (post (xs_outOver 1 u))) ∧ (¬ (xg_outCap u) ≤ (xg_outLen u) → ((((xg_outLen u) < 256 → (vp_in (xg_outLen u) 256 ∧ ∀ a_outKind_4 : Nat → Int32, a_outKind_4 = upd (xg_outKind u) (xg_outLen u).toNatClampNeg p0 → (vp_in (xg_outLen u) 256 ∧ ∀ a_outVal_6 : Nat → Int32, a_outVal_6 = upd (xg_outVal u) (xg_outLen u).toNatClampNeg p1 → (∀ f_outLen_7 : Int32, f_outLen_7 = (xg_outLen u) + 1 → (post (xs_outLen_outKind_outVal f_outLen_7 a_outKind_4 a_outVal_6 u)))))) ∧ (¬ (xg_outLen u) < 256 → (post (xs_outOver 1 u)))))))) := rfl
def xv_emitNode_127 (post : SX → Prop) (J12 : Int32 → Int32 → SX → Prop) (x2 : Int32) (x4 : Int32) (x5 : Int32) (n : Nat) (x3 : Int32) (x9 : Int32) (u : SX) : Prop := wX_emitNode_127 post (fun x3' x4' f_pending' f_nodeLimit' f_weightLimit' f_fuelLimit' f_entryLimit' f_count' f_base' f_entryCount' f_tickCount' f_blameNode' f_curLen' f_outLen' f_outCap' f_outOver' f_frameTop' f_answer' f_contextLen' a_kind' a_part' a_heavy' a_entryBody' a_entryClaim' a_entryType' a_curKind' a_curVal' a_curDepth' a_outKind' a_outVal' a_pend' a_openPos' a_openLeft' a_made' a_frameNode' a_frameStep' a_frameKeep' a_context' => J12 x3' x4' (f_pending', f_nodeLimit', f_weightLimit', f_fuelLimit', f_entryLimit', f_count', f_base', f_entryCount', f_tickCount', f_blameNode', f_curLen', f_outLen', f_outCap', f_outOver', f_frameTop', f_answer', f_contextLen', a_kind', a_part', a_heavy', a_entryBody', a_entryClaim', a_entryType', a_curKind', a_curVal', a_curDepth', a_outKind', a_outVal', a_pend', a_openPos', a_openLeft', a_made', a_frameNode', a_frameStep', a_frameKeep', a_context')) x2 x4 x5 u.1 u.2.1 u.2.2.1 u.2.2.2.1 u.2.2.2.2.1 u.2.2.2.2.2.1 u.2.2.2.2.2.2.1 u.2.2.2.2.2.2.2.1 u.2.2.2.2.2.2.2.2.1 u.2.2.2.2.2.2.2.2.2.1 u.2.2.2.2.2.2.2.2.2.2.1 u.2.2.2.2.2.2.2.2.2.2.2.1 u.2.2.2.2.2.2.2.2.2.2.2.2.1 u.2.2.2.2.2.2.2.2.2.2.2.2.2.1 u.2.2.2.2.2.2.2.2.2.2.2.2.2.2.1 u.2.2.2.2.2.2.2.2.2.2.2.2.2.2.2.1 u.2.2.2.2.2.2.2.2.2.2.2.2.2.2.2.2.1 n x3 x9 u.2.2.2.2.2.2.2.2.2.2.2.2.2.2.2.2.2.1 u.2.2.2.2.2.2.2.2.2.2.2.2.2.2.2.2.2.2.1 u.2.2.2.2.2.2.2.2.2.2.2.2.2.2.2.2.2.2.2.1 u.2.2.2.2.2.2.2.2.2.2.2.2.2.2.2.2.2.2.2.2.1 u.2.2.2.2.2.2.2.2.2.2.2.2.2.2.2.2.2.2.2.2.2.1 u.2.2.2.2.2.2.2.2.2.2.2.2.2.2.2.2.2.2.2.2.2.2.1 u.2.2.2.2.2.2.2.2.2.2.2.2.2.2.2.2.2.2.2.2.2.2.2.1 u.2.2.2.2.2.2.2.2.2.2.2.2.2.2.2.2.2.2.2.2.2.2.2.2.1 u.2.2.2.2.2.2.2.2.2.2.2.2.2.2.2.2.2.2.2.2.2.2.2.2.2.1 u.2.2.2.2.2.2.2.2.2.2.2.2.2.2.2.2.2.2.2.2.2.2.2.2.2.2.1 u.2.2.2.2.2.2.2.2.2.2.2.2.2.2.2.2.2.2.2.2.2.2.2.2.2.2.2.1 u.2.2.2.2.2.2.2.2.2.2.2.2.2.2.2.2.2.2.2.2.2.2.2.2.2.2.2.2.1 u.2.2.2.2.2.2.2.2.2.2.2.2.2.2.2.2.2.2.2.2.2.2.2.2.2.2.2.2.2.1 u.2.2.2.2.2.2.2.2.2.2.2.2.2.2.2.2.2.2.2.2.2.2.2.2.2.2.2.2.2.2.1 u.2.2.2.2.2.2.2.2.2.2.2.2.2.2.2.2.2.2.2.2.2.2.2.2.2.2.2.2.2.2.2.1 u.2.2.2.2.2.2.2.2.2.2.2.2.2.2.2.2.2.2.2.2.2.2.2.2.2.2.2.2.2.2.2.2.1 u.2.2.2.2.2.2.2.2.2.2.2.2.2.2.2.2.2.2.2.2.2.2.2.2.2.2.2.2.2.2.2.2.2.1 u.2.2.2.2.2.2.2.2.2.2.2.2.2.2.2.2.2.2.2.2.2.2.2.2.2.2.2.2.2.2.2.2.2.2.1 u.2.2.2.2.2.2.2.2.2.2.2.2.2.2.2.2.2.2.2.2.2.2.2.2.2.2.2.2.2.2.2.2.2.2.2
theorem xe_emitNode_127 {post : SX → Prop} {J12 : Int32 → Int32 → SX → Prop} {x2 : Int32} {x4 : Int32} {x5 : Int32} {n : Nat} {x3 : Int32} {x9 : Int32} {u : SX} : xv_emitNode_127 post J12 x2 x4 x5 (n + 1) x3 x9 u = (((x9 < 0 → (∀ x4_88 : Int32, x4_88 = x4 + 1 → ((J12 x3 x4_88 u)))) ∧ (¬ x9 < 0 → (vp_in ((4 * x5) + x9) 1024 ∧ (vp_in x3 1056 ∧ ∀ a_pend_91 : Nat → Int32, a_pend_91 = upd (xg_pend u) x3.toNatClampNeg ((xg_part u) ((4 * x5) + x9).toNatClampNeg) → (∀ x3_92 : Int32, x3_92 = x3 + 1 → (∀ x9_93 : Int32, x9_93 = x9 + (-1) → ((xv_emitNode_127 post J12 x2 x4 x5 n x3_92 x9_93 (xs_pend a_pend_91 u)))))))))) := rfl
def xv_emitNode_111 (post : SX → Prop) (J12 : Int32 → Int32 → SX → Prop) (x2 : Int32) (x3 : Int32) (x4 : Int32) (x5 : Int32) (x6 : Int32) (x7 : Int32) (z0 : Int32) (u : SX) : Prop := wX_emitNode_111 post (fun x3' x4' f_pending' f_nodeLimit' f_weightLimit' f_fuelLimit' f_entryLimit' f_count' f_base' f_entryCount' f_tickCount' f_blameNode' f_curLen' f_outLen' f_outCap' f_outOver' f_frameTop' f_answer' f_contextLen' a_kind' a_part' a_heavy' a_entryBody' a_entryClaim' a_entryType' a_curKind' a_curVal' a_curDepth' a_outKind' a_outVal' a_pend' a_openPos' a_openLeft' a_made' a_frameNode' a_frameStep' a_frameKeep' a_context' => J12 x3' x4' (f_pending', f_nodeLimit', f_weightLimit', f_fuelLimit', f_entryLimit', f_count', f_base', f_entryCount', f_tickCount', f_blameNode', f_curLen', f_outLen', f_outCap', f_outOver', f_frameTop', f_answer', f_contextLen', a_kind', a_part', a_heavy', a_entryBody', a_entryClaim', a_entryType', a_curKind', a_curVal', a_curDepth', a_outKind', a_outVal', a_pend', a_openPos', a_openLeft', a_made', a_frameNode', a_frameStep', a_frameKeep', a_context')) x2 x3 x4 x5 x6 x7 z0 u.1 u.2.1 u.2.2.1 u.2.2.2.1 u.2.2.2.2.1 u.2.2.2.2.2.1 u.2.2.2.2.2.2.1 u.2.2.2.2.2.2.2.1 u.2.2.2.2.2.2.2.2.1 u.2.2.2.2.2.2.2.2.2.1 u.2.2.2.2.2.2.2.2.2.2.1 u.2.2.2.2.2.2.2.2.2.2.2.1 u.2.2.2.2.2.2.2.2.2.2.2.2.1 u.2.2.2.2.2.2.2.2.2.2.2.2.2.1 u.2.2.2.2.2.2.2.2.2.2.2.2.2.2.1 u.2.2.2.2.2.2.2.2.2.2.2.2.2.2.2.1 u.2.2.2.2.2.2.2.2.2.2.2.2.2.2.2.2.1 u.2.2.2.2.2.2.2.2.2.2.2.2.2.2.2.2.2.1 u.2.2.2.2.2.2.2.2.2.2.2.2.2.2.2.2.2.2.1 u.2.2.2.2.2.2.2.2.2.2.2.2.2.2.2.2.2.2.2.1 u.2.2.2.2.2.2.2.2.2.2.2.2.2.2.2.2.2.2.2.2.1 u.2.2.2.2.2.2.2.2.2.2.2.2.2.2.2.2.2.2.2.2.2.1 u.2.2.2.2.2.2.2.2.2.2.2.2.2.2.2.2.2.2.2.2.2.2.1 u.2.2.2.2.2.2.2.2.2.2.2.2.2.2.2.2.2.2.2.2.2.2.2.1 u.2.2.2.2.2.2.2.2.2.2.2.2.2.2.2.2.2.2.2.2.2.2.2.2.1 u.2.2.2.2.2.2.2.2.2.2.2.2.2.2.2.2.2.2.2.2.2.2.2.2.2.1 u.2.2.2.2.2.2.2.2.2.2.2.2.2.2.2.2.2.2.2.2.2.2.2.2.2.2.1 u.2.2.2.2.2.2.2.2.2.2.2.2.2.2.2.2.2.2.2.2.2.2.2.2.2.2.2.1 u.2.2.2.2.2.2.2.2.2.2.2.2.2.2.2.2.2.2.2.2.2.2.2.2.2.2.2.2.1 u.2.2.2.2.2.2.2.2.2.2.2.2.2.2.2.2.2.2.2.2.2.2.2.2.2.2.2.2.2.1 u.2.2.2.2.2.2.2.2.2.2.2.2.2.2.2.2.2.2.2.2.2.2.2.2.2.2.2.2.2.2.1 u.2.2.2.2.2.2.2.2.2.2.2.2.2.2.2.2.2.2.2.2.2.2.2.2.2.2.2.2.2.2.2.1 u.2.2.2.2.2.2.2.2.2.2.2.2.2.2.2.2.2.2.2.2.2.2.2.2.2.2.2.2.2.2.2.2.1 u.2.2.2.2.2.2.2.2.2.2.2.2.2.2.2.2.2.2.2.2.2.2.2.2.2.2.2.2.2.2.2.2.2.1 u.2.2.2.2.2.2.2.2.2.2.2.2.2.2.2.2.2.2.2.2.2.2.2.2.2.2.2.2.2.2.2.2.2.2.1 u.2.2.2.2.2.2.2.2.2.2.2.2.2.2.2.2.2.2.2.2.2.2.2.2.2.2.2.2.2.2.2.2.2.2.2
theorem xe_emitNode_111 {post : SX → Prop} {J12 : Int32 → Int32 → SX → Prop} {x2 : Int32} {x3 : Int32} {x4 : Int32} {x5 : Int32} {x6 : Int32} {x7 : Int32} {z0 : Int32} {u : SX} : xv_emitNode_111 post J12 x2 x3 x4 x5 x6 x7 z0 u = (wpX_emit (fun u_50 => (∀ x9_86 : Int32, x9_86 = x7 - 1 → (∃ n127 : Nat, (xv_emitNode_127 post J12 x2 x4 x5 n127 x3 x9_86 u_50)))) u x6 z0) := rfl
def xv_emitNode_85 (post : SX → Prop) (J12 : Int32 → Int32 → SX → Prop) (x2 : Int32) (x3 : Int32) (x4 : Int32) (x5 : Int32) (x6 : Int32) (u : SX) : Prop := wX_emitNode_85 post (fun x3' x4' f_pending' f_nodeLimit' f_weightLimit' f_fuelLimit' f_entryLimit' f_count' f_base' f_entryCount' f_tickCount' f_blameNode' f_curLen' f_outLen' f_outCap' f_outOver' f_frameTop' f_answer' f_contextLen' a_kind' a_part' a_heavy' a_entryBody' a_entryClaim' a_entryType' a_curKind' a_curVal' a_curDepth' a_outKind' a_outVal' a_pend' a_openPos' a_openLeft' a_made' a_frameNode' a_frameStep' a_frameKeep' a_context' => J12 x3' x4' (f_pending', f_nodeLimit', f_weightLimit', f_fuelLimit', f_entryLimit', f_count', f_base', f_entryCount', f_tickCount', f_blameNode', f_curLen', f_outLen', f_outCap', f_outOver', f_frameTop', f_answer', f_contextLen', a_kind', a_part', a_heavy', a_entryBody', a_entryClaim', a_entryType', a_curKind', a_curVal', a_curDepth', a_outKind', a_outVal', a_pend', a_openPos', a_openLeft', a_made', a_frameNode', a_frameStep', a_frameKeep', a_context')) x2 x3 x4 x5 x6 u.1 u.2.1 u.2.2.1 u.2.2.2.1 u.2.2.2.2.1 u.2.2.2.2.2.1 u.2.2.2.2.2.2.1 u.2.2.2.2.2.2.2.1 u.2.2.2.2.2.2.2.2.1 u.2.2.2.2.2.2.2.2.2.1 u.2.2.2.2.2.2.2.2.2.2.1 u.2.2.2.2.2.2.2.2.2.2.2.1 u.2.2.2.2.2.2.2.2.2.2.2.2.1 u.2.2.2.2.2.2.2.2.2.2.2.2.2.1 u.2.2.2.2.2.2.2.2.2.2.2.2.2.2.1 u.2.2.2.2.2.2.2.2.2.2.2.2.2.2.2.1 u.2.2.2.2.2.2.2.2.2.2.2.2.2.2.2.2.1 u.2.2.2.2.2.2.2.2.2.2.2.2.2.2.2.2.2.1 u.2.2.2.2.2.2.2.2.2.2.2.2.2.2.2.2.2.2.1 u.2.2.2.2.2.2.2.2.2.2.2.2.2.2.2.2.2.2.2.1 u.2.2.2.2.2.2.2.2.2.2.2.2.2.2.2.2.2.2.2.2.1 u.2.2.2.2.2.2.2.2.2.2.2.2.2.2.2.2.2.2.2.2.2.1 u.2.2.2.2.2.2.2.2.2.2.2.2.2.2.2.2.2.2.2.2.2.2.1 u.2.2.2.2.2.2.2.2.2.2.2.2.2.2.2.2.2.2.2.2.2.2.2.1 u.2.2.2.2.2.2.2.2.2.2.2.2.2.2.2.2.2.2.2.2.2.2.2.2.1 u.2.2.2.2.2.2.2.2.2.2.2.2.2.2.2.2.2.2.2.2.2.2.2.2.2.1 u.2.2.2.2.2.2.2.2.2.2.2.2.2.2.2.2.2.2.2.2.2.2.2.2.2.2.1 u.2.2.2.2.2.2.2.2.2.2.2.2.2.2.2.2.2.2.2.2.2.2.2.2.2.2.2.1 u.2.2.2.2.2.2.2.2.2.2.2.2.2.2.2.2.2.2.2.2.2.2.2.2.2.2.2.2.1 u.2.2.2.2.2.2.2.2.2.2.2.2.2.2.2.2.2.2.2.2.2.2.2.2.2.2.2.2.2.1 u.2.2.2.2.2.2.2.2.2.2.2.2.2.2.2.2.2.2.2.2.2.2.2.2.2.2.2.2.2.2.1 u.2.2.2.2.2.2.2.2.2.2.2.2.2.2.2.2.2.2.2.2.2.2.2.2.2.2.2.2.2.2.2.1 u.2.2.2.2.2.2.2.2.2.2.2.2.2.2.2.2.2.2.2.2.2.2.2.2.2.2.2.2.2.2.2.2.1 u.2.2.2.2.2.2.2.2.2.2.2.2.2.2.2.2.2.2.2.2.2.2.2.2.2.2.2.2.2.2.2.2.2.1 u.2.2.2.2.2.2.2.2.2.2.2.2.2.2.2.2.2.2.2.2.2.2.2.2.2.2.2.2.2.2.2.2.2.2.1 u.2.2.2.2.2.2.2.2.2.2.2.2.2.2.2.2.2.2.2.2.2.2.2.2.2.2.2.2.2.2.2.2.2.2.2
theorem xe_emitNode_85 {post : SX → Prop} {J12 : Int32 → Int32 → SX → Prop} {x2 : Int32} {x3 : Int32} {x4 : Int32} {x5 : Int32} {x6 : Int32} {u : SX} : xv_emitNode_85 post J12 x2 x3 x4 x5 x6 u = (wpX_arity (fun r_11 => (((r_11 = 0 → (vp_in (4 * x5) 1024 ∧ ((xv_emitNode_111 post J12 x2 x3 x4 x5 x6 r_11 ((xg_part u) (4 * x5).toNatClampNeg) u)))) ∧ (¬ r_11 = 0 → ((xv_emitNode_111 post J12 x2 x3 x4 x5 x6 r_11 0 u)))))) u x6) := rfl
def xv_emitNode_12 (post : SX → Prop) (x2 : Int32) (n : Nat) (x3 : Int32) (x4 : Int32) (u : SX) : Prop := wX_emitNode_12 post x2 n x3 x4 u.1 u.2.1 u.2.2.1 u.2.2.2.1 u.2.2.2.2.1 u.2.2.2.2.2.1 u.2.2.2.2.2.2.1 u.2.2.2.2.2.2.2.1 u.2.2.2.2.2.2.2.2.1 u.2.2.2.2.2.2.2.2.2.1 u.2.2.2.2.2.2.2.2.2.2.1 u.2.2.2.2.2.2.2.2.2.2.2.1 u.2.2.2.2.2.2.2.2.2.2.2.2.1 u.2.2.2.2.2.2.2.2.2.2.2.2.2.1 u.2.2.2.2.2.2.2.2.2.2.2.2.2.2.1 u.2.2.2.2.2.2.2.2.2.2.2.2.2.2.2.1 u.2.2.2.2.2.2.2.2.2.2.2.2.2.2.2.2.1 u.2.2.2.2.2.2.2.2.2.2.2.2.2.2.2.2.2.1 u.2.2.2.2.2.2.2.2.2.2.2.2.2.2.2.2.2.2.1 u.2.2.2.2.2.2.2.2.2.2.2.2.2.2.2.2.2.2.2.1 u.2.2.2.2.2.2.2.2.2.2.2.2.2.2.2.2.2.2.2.2.1 u.2.2.2.2.2.2.2.2.2.2.2.2.2.2.2.2.2.2.2.2.2.1 u.2.2.2.2.2.2.2.2.2.2.2.2.2.2.2.2.2.2.2.2.2.2.1 u.2.2.2.2.2.2.2.2.2.2.2.2.2.2.2.2.2.2.2.2.2.2.2.1 u.2.2.2.2.2.2.2.2.2.2.2.2.2.2.2.2.2.2.2.2.2.2.2.2.1 u.2.2.2.2.2.2.2.2.2.2.2.2.2.2.2.2.2.2.2.2.2.2.2.2.2.1 u.2.2.2.2.2.2.2.2.2.2.2.2.2.2.2.2.2.2.2.2.2.2.2.2.2.2.1 u.2.2.2.2.2.2.2.2.2.2.2.2.2.2.2.2.2.2.2.2.2.2.2.2.2.2.2.1 u.2.2.2.2.2.2.2.2.2.2.2.2.2.2.2.2.2.2.2.2.2.2.2.2.2.2.2.2.1 u.2.2.2.2.2.2.2.2.2.2.2.2.2.2.2.2.2.2.2.2.2.2.2.2.2.2.2.2.2.1 u.2.2.2.2.2.2.2.2.2.2.2.2.2.2.2.2.2.2.2.2.2.2.2.2.2.2.2.2.2.2.1 u.2.2.2.2.2.2.2.2.2.2.2.2.2.2.2.2.2.2.2.2.2.2.2.2.2.2.2.2.2.2.2.1 u.2.2.2.2.2.2.2.2.2.2.2.2.2.2.2.2.2.2.2.2.2.2.2.2.2.2.2.2.2.2.2.2.1 u.2.2.2.2.2.2.2.2.2.2.2.2.2.2.2.2.2.2.2.2.2.2.2.2.2.2.2.2.2.2.2.2.2.1 u.2.2.2.2.2.2.2.2.2.2.2.2.2.2.2.2.2.2.2.2.2.2.2.2.2.2.2.2.2.2.2.2.2.2.1 u.2.2.2.2.2.2.2.2.2.2.2.2.2.2.2.2.2.2.2.2.2.2.2.2.2.2.2.2.2.2.2.2.2.2.2
theorem xe_emitNode_12 {post : SX → Prop} {x2 : Int32} {n : Nat} {x3 : Int32} {x4 : Int32} {u : SX} : xv_emitNode_12 post x2 (n + 1) x3 x4 u = (((256 ≤ x4 → (post u)) ∧ (¬ 256 ≤ x4 → (((x3 ≤ 0 → (post u)) ∧ (¬ x3 ≤ 0 → (∀ x3_5 : Int32, x3_5 = x3 + (-1) → (vp_in x3_5 1056 ∧ (∀ x5_7 : Int32, x5_7 = (xg_pend u) x3_5.toNatClampNeg → (vp_in x5_7 256 ∧ (∀ x6_9 : Int32, x6_9 = (xg_kind u) x5_7.toNatClampNeg → (((x2 = 0 → ((xv_emitNode_85 post ((xv_emitNode_12 post x2 n)) x2 x3_5 x4 x5_7 x6_9 u))) ∧ (¬ x2 = 0 → (((x6_9 = 7 → (wpX_emit (fun u_97 => (vp_in ((4 * x5_7) + 1) 1024 ∧ (vp_in x3_5 1056 ∧ ∀ a_pend_135 : Nat → Int32, a_pend_135 = upd (xg_pend u_97) x3_5.toNatClampNeg ((xg_part u_97) ((4 * x5_7) + 1).toNatClampNeg) → (∀ x3_136 : Int32, x3_136 = x3_5 + 1 → (∀ x4_137 : Int32, x4_137 = x4 + 1 → ((xv_emitNode_12 post x2 n x3_136 x4_137 (xs_pend a_pend_135 u_97)))))))) u 11 0)) ∧ (¬ x6_9 = 7 → ((xv_emitNode_85 post ((xv_emitNode_12 post x2 n)) x2 x3_5 x4 x5_7 x6_9 u))))))))))))))))))) := rfl
theorem xe_emitNode {post : SX → Prop} {u : SX} {p0 : Int32} {p1 : Int32} : wpX_emitNode post u p0 p1 = (∀ a_pend_2 : Nat → Int32, a_pend_2 = upd (xg_pend u) 0 p0 → (∃ n12 : Nat, (xv_emitNode_12 post p1 n12 1 0 (xs_pend a_pend_2 u)))) := rfl
def xv_binds_34 (post : Int32 → Prop) (x2 : Int32) (u : SX) : Prop := wX_binds_34 post x2 u.1 u.2.1 u.2.2.1 u.2.2.2.1 u.2.2.2.2.1 u.2.2.2.2.2.1 u.2.2.2.2.2.2.1 u.2.2.2.2.2.2.2.1 u.2.2.2.2.2.2.2.2.1 u.2.2.2.2.2.2.2.2.2.1 u.2.2.2.2.2.2.2.2.2.2.1 u.2.2.2.2.2.2.2.2.2.2.2.1 u.2.2.2.2.2.2.2.2.2.2.2.2.1 u.2.2.2.2.2.2.2.2.2.2.2.2.2.1 u.2.2.2.2.2.2.2.2.2.2.2.2.2.2.1 u.2.2.2.2.2.2.2.2.2.2.2.2.2.2.2.1 u.2.2.2.2.2.2.2.2.2.2.2.2.2.2.2.2.1 u.2.2.2.2.2.2.2.2.2.2.2.2.2.2.2.2.2.1 u.2.2.2.2.2.2.2.2.2.2.2.2.2.2.2.2.2.2.1 u.2.2.2.2.2.2.2.2.2.2.2.2.2.2.2.2.2.2.2.1 u.2.2.2.2.2.2.2.2.2.2.2.2.2.2.2.2.2.2.2.2.1 u.2.2.2.2.2.2.2.2.2.2.2.2.2.2.2.2.2.2.2.2.2.1 u.2.2.2.2.2.2.2.2.2.2.2.2.2.2.2.2.2.2.2.2.2.2.1 u.2.2.2.2.2.2.2.2.2.2.2.2.2.2.2.2.2.2.2.2.2.2.2.1 u.2.2.2.2.2.2.2.2.2.2.2.2.2.2.2.2.2.2.2.2.2.2.2.2.1 u.2.2.2.2.2.2.2.2.2.2.2.2.2.2.2.2.2.2.2.2.2.2.2.2.2.1 u.2.2.2.2.2.2.2.2.2.2.2.2.2.2.2.2.2.2.2.2.2.2.2.2.2.2.1 u.2.2.2.2.2.2.2.2.2.2.2.2.2.2.2.2.2.2.2.2.2.2.2.2.2.2.2.1 u.2.2.2.2.2.2.2.2.2.2.2.2.2.2.2.2.2.2.2.2.2.2.2.2.2.2.2.2.1 u.2.2.2.2.2.2.2.2.2.2.2.2.2.2.2.2.2.2.2.2.2.2.2.2.2.2.2.2.2.1 u.2.2.2.2.2.2.2.2.2.2.2.2.2.2.2.2.2.2.2.2.2.2.2.2.2.2.2.2.2.2.1 u.2.2.2.2.2.2.2.2.2.2.2.2.2.2.2.2.2.2.2.2.2.2.2.2.2.2.2.2.2.2.2.1 u.2.2.2.2.2.2.2.2.2.2.2.2.2.2.2.2.2.2.2.2.2.2.2.2.2.2.2.2.2.2.2.2.1 u.2.2.2.2.2.2.2.2.2.2.2.2.2.2.2.2.2.2.2.2.2.2.2.2.2.2.2.2.2.2.2.2.2.1 u.2.2.2.2.2.2.2.2.2.2.2.2.2.2.2.2.2.2.2.2.2.2.2.2.2.2.2.2.2.2.2.2.2.2.1 u.2.2.2.2.2.2.2.2.2.2.2.2.2.2.2.2.2.2.2.2.2.2.2.2.2.2.2.2.2.2.2.2.2.2.2
theorem xe_binds_34 {post : Int32 → Prop} {x2 : Int32} {u : SX} : xv_binds_34 post x2 u = (((x2 = 1 → (post 1)) ∧ (¬ x2 = 1 → (post 0)))) := rfl
theorem xe_binds {post : Int32 → Prop} {u : SX} {p0 : Int32} {p1 : Int32} : wpX_binds post u p0 p1 = (((p0 = 11 → (((p1 = 0 → (post 1)) ∧ (¬ p1 = 0 → (post 0))))) ∧ (¬ p0 = 11 → (((p0 = 6 → ((xv_binds_34 post p1 u))) ∧ (¬ p0 = 6 → (((p0 = 7 → ((xv_binds_34 post p1 u))) ∧ (¬ p0 = 7 → (((p0 = 9 → ((xv_binds_34 post p1 u))) ∧ (¬ p0 = 9 → (post 0))))))))))))) := rfl
def xv_measure_62 (post : SX → Prop) (J11 : Int32 → Int32 → SX → Prop) (x2 : Int32) (x3 : Int32) (x4 : Int32) (n : Nat) (x1 : Int32) (x6 : Int32) (u : SX) : Prop := wX_measure_62 post (fun x1' x2' a_kind' a_part' a_heavy' a_entryBody' a_entryClaim' a_entryType' a_curKind' a_curVal' a_curDepth' a_outKind' a_outVal' a_pend' a_openPos' a_openLeft' a_made' a_frameNode' a_frameStep' a_frameKeep' a_context' => J11 x1' x2' (u.1, u.2.1, u.2.2.1, u.2.2.2.1, u.2.2.2.2.1, u.2.2.2.2.2.1, u.2.2.2.2.2.2.1, u.2.2.2.2.2.2.2.1, u.2.2.2.2.2.2.2.2.1, u.2.2.2.2.2.2.2.2.2.1, u.2.2.2.2.2.2.2.2.2.2.1, u.2.2.2.2.2.2.2.2.2.2.2.1, u.2.2.2.2.2.2.2.2.2.2.2.2.1, u.2.2.2.2.2.2.2.2.2.2.2.2.2.1, u.2.2.2.2.2.2.2.2.2.2.2.2.2.2.1, u.2.2.2.2.2.2.2.2.2.2.2.2.2.2.2.1, u.2.2.2.2.2.2.2.2.2.2.2.2.2.2.2.2.1, a_kind', a_part', a_heavy', a_entryBody', a_entryClaim', a_entryType', a_curKind', a_curVal', a_curDepth', a_outKind', a_outVal', a_pend', a_openPos', a_openLeft', a_made', a_frameNode', a_frameStep', a_frameKeep', a_context')) x2 x3 x4 u.1 u.2.1 u.2.2.1 u.2.2.2.1 u.2.2.2.2.1 u.2.2.2.2.2.1 u.2.2.2.2.2.2.1 u.2.2.2.2.2.2.2.1 u.2.2.2.2.2.2.2.2.1 u.2.2.2.2.2.2.2.2.2.1 u.2.2.2.2.2.2.2.2.2.2.1 u.2.2.2.2.2.2.2.2.2.2.2.1 u.2.2.2.2.2.2.2.2.2.2.2.2.1 u.2.2.2.2.2.2.2.2.2.2.2.2.2.1 u.2.2.2.2.2.2.2.2.2.2.2.2.2.2.1 u.2.2.2.2.2.2.2.2.2.2.2.2.2.2.2.1 u.2.2.2.2.2.2.2.2.2.2.2.2.2.2.2.2.1 n x1 x6 u.2.2.2.2.2.2.2.2.2.2.2.2.2.2.2.2.2.1 u.2.2.2.2.2.2.2.2.2.2.2.2.2.2.2.2.2.2.1 u.2.2.2.2.2.2.2.2.2.2.2.2.2.2.2.2.2.2.2.1 u.2.2.2.2.2.2.2.2.2.2.2.2.2.2.2.2.2.2.2.2.1 u.2.2.2.2.2.2.2.2.2.2.2.2.2.2.2.2.2.2.2.2.2.1 u.2.2.2.2.2.2.2.2.2.2.2.2.2.2.2.2.2.2.2.2.2.2.1 u.2.2.2.2.2.2.2.2.2.2.2.2.2.2.2.2.2.2.2.2.2.2.2.1 u.2.2.2.2.2.2.2.2.2.2.2.2.2.2.2.2.2.2.2.2.2.2.2.2.1 u.2.2.2.2.2.2.2.2.2.2.2.2.2.2.2.2.2.2.2.2.2.2.2.2.2.1 u.2.2.2.2.2.2.2.2.2.2.2.2.2.2.2.2.2.2.2.2.2.2.2.2.2.2.1 u.2.2.2.2.2.2.2.2.2.2.2.2.2.2.2.2.2.2.2.2.2.2.2.2.2.2.2.1 u.2.2.2.2.2.2.2.2.2.2.2.2.2.2.2.2.2.2.2.2.2.2.2.2.2.2.2.2.1 u.2.2.2.2.2.2.2.2.2.2.2.2.2.2.2.2.2.2.2.2.2.2.2.2.2.2.2.2.2.1 u.2.2.2.2.2.2.2.2.2.2.2.2.2.2.2.2.2.2.2.2.2.2.2.2.2.2.2.2.2.2.1 u.2.2.2.2.2.2.2.2.2.2.2.2.2.2.2.2.2.2.2.2.2.2.2.2.2.2.2.2.2.2.2.1 u.2.2.2.2.2.2.2.2.2.2.2.2.2.2.2.2.2.2.2.2.2.2.2.2.2.2.2.2.2.2.2.2.1 u.2.2.2.2.2.2.2.2.2.2.2.2.2.2.2.2.2.2.2.2.2.2.2.2.2.2.2.2.2.2.2.2.2.1 u.2.2.2.2.2.2.2.2.2.2.2.2.2.2.2.2.2.2.2.2.2.2.2.2.2.2.2.2.2.2.2.2.2.2.1 u.2.2.2.2.2.2.2.2.2.2.2.2.2.2.2.2.2.2.2.2.2.2.2.2.2.2.2.2.2.2.2.2.2.2.2
theorem xe_measure_62 {post : SX → Prop} {J11 : Int32 → Int32 → SX → Prop} {x2 : Int32} {x3 : Int32} {x4 : Int32} {n : Nat} {x1 : Int32} {x6 : Int32} {u : SX} : xv_measure_62 post J11 x2 x3 x4 (n + 1) x1 x6 u = (((x6 < 0 → (∀ x2_51 : Int32, x2_51 = x2 + 1 → ((J11 x1 x2_51 u)))) ∧ (¬ x6 < 0 → (wpX_binds (fun r_52 => (vp_in x1 1056 ∧ ∀ a_pend_90 : Nat → Int32, a_pend_90 = upd (xg_pend u) x1.toNatClampNeg (x3 + r_52) → (∀ x1_91 : Int32, x1_91 = x1 + 1 → (∀ x6_92 : Int32, x6_92 = x6 + (-1) → ((xv_measure_62 post J11 x2 x3 x4 n x1_91 x6_92 (xs_pend a_pend_90 u))))))) u x4 x6)))) := rfl
def xv_measure_11 (post : SX → Prop) (n : Nat) (x1 : Int32) (x2 : Int32) (u : SX) : Prop := wX_measure_11 post u.1 u.2.1 u.2.2.1 u.2.2.2.1 u.2.2.2.2.1 u.2.2.2.2.2.1 u.2.2.2.2.2.2.1 u.2.2.2.2.2.2.2.1 u.2.2.2.2.2.2.2.2.1 u.2.2.2.2.2.2.2.2.2.1 u.2.2.2.2.2.2.2.2.2.2.1 u.2.2.2.2.2.2.2.2.2.2.2.1 u.2.2.2.2.2.2.2.2.2.2.2.2.1 u.2.2.2.2.2.2.2.2.2.2.2.2.2.1 u.2.2.2.2.2.2.2.2.2.2.2.2.2.2.1 u.2.2.2.2.2.2.2.2.2.2.2.2.2.2.2.1 u.2.2.2.2.2.2.2.2.2.2.2.2.2.2.2.2.1 n x1 x2 u.2.2.2.2.2.2.2.2.2.2.2.2.2.2.2.2.2.1 u.2.2.2.2.2.2.2.2.2.2.2.2.2.2.2.2.2.2.1 u.2.2.2.2.2.2.2.2.2.2.2.2.2.2.2.2.2.2.2.1 u.2.2.2.2.2.2.2.2.2.2.2.2.2.2.2.2.2.2.2.2.1 u.2.2.2.2.2.2.2.2.2.2.2.2.2.2.2.2.2.2.2.2.2.1 u.2.2.2.2.2.2.2.2.2.2.2.2.2.2.2.2.2.2.2.2.2.2.1 u.2.2.2.2.2.2.2.2.2.2.2.2.2.2.2.2.2.2.2.2.2.2.2.1 u.2.2.2.2.2.2.2.2.2.2.2.2.2.2.2.2.2.2.2.2.2.2.2.2.1 u.2.2.2.2.2.2.2.2.2.2.2.2.2.2.2.2.2.2.2.2.2.2.2.2.2.1 u.2.2.2.2.2.2.2.2.2.2.2.2.2.2.2.2.2.2.2.2.2.2.2.2.2.2.1 u.2.2.2.2.2.2.2.2.2.2.2.2.2.2.2.2.2.2.2.2.2.2.2.2.2.2.2.1 u.2.2.2.2.2.2.2.2.2.2.2.2.2.2.2.2.2.2.2.2.2.2.2.2.2.2.2.2.1 u.2.2.2.2.2.2.2.2.2.2.2.2.2.2.2.2.2.2.2.2.2.2.2.2.2.2.2.2.2.1 u.2.2.2.2.2.2.2.2.2.2.2.2.2.2.2.2.2.2.2.2.2.2.2.2.2.2.2.2.2.2.1 u.2.2.2.2.2.2.2.2.2.2.2.2.2.2.2.2.2.2.2.2.2.2.2.2.2.2.2.2.2.2.2.1 u.2.2.2.2.2.2.2.2.2.2.2.2.2.2.2.2.2.2.2.2.2.2.2.2.2.2.2.2.2.2.2.2.1 u.2.2.2.2.2.2.2.2.2.2.2.2.2.2.2.2.2.2.2.2.2.2.2.2.2.2.2.2.2.2.2.2.2.1 u.2.2.2.2.2.2.2.2.2.2.2.2.2.2.2.2.2.2.2.2.2.2.2.2.2.2.2.2.2.2.2.2.2.2.1 u.2.2.2.2.2.2.2.2.2.2.2.2.2.2.2.2.2.2.2.2.2.2.2.2.2.2.2.2.2.2.2.2.2.2.2
theorem xe_measure_11 {post : SX → Prop} {n : Nat} {x1 : Int32} {x2 : Int32} {u : SX} : xv_measure_11 post (n + 1) x1 x2 u = ((((xg_curLen u) ≤ x2 → (post u)) ∧ (¬ (xg_curLen u) ≤ x2 → (((x1 ≤ 0 → (post u)) ∧ (¬ x1 ≤ 0 → (∀ x1_5 : Int32, x1_5 = x1 + (-1) → (vp_in x1_5 1056 ∧ (∀ x3_7 : Int32, x3_7 = (xg_pend u) x1_5.toNatClampNeg → (vp_in x2 256 ∧ ∀ a_curDepth_9 : Nat → Int32, a_curDepth_9 = upd (xg_curDepth u) x2.toNatClampNeg x3_7 → (vp_in x2 256 ∧ (∀ x4_11 : Int32, x4_11 = (xg_curKind u) x2.toNatClampNeg → (wpX_arity (fun r_12 => (∀ x6_49 : Int32, x6_49 = r_12 - 1 → (∃ n62 : Nat, (xv_measure_62 post ((xv_measure_11 post n)) x2 x3_7 x4_11 n62 x1_5 x6_49 (xs_curDepth a_curDepth_9 u))))) (xs_curDepth a_curDepth_9 u) x4_11))))))))))))) := rfl
theorem xe_measure {post : SX → Prop} {u : SX} : wpX_measure post u = (∀ a_pend_2 : Nat → Int32, a_pend_2 = upd (xg_pend u) 0 0 → (∃ n11 : Nat, (xv_measure_11 post n11 1 0 (xs_pend a_pend_2 u)))) := rfl
def xv_commit_11 (post : Int32 → SX → Prop) (n : Nat) (x1 : Int32) (u : SX) : Prop := wX_commit_11 post u.1 u.2.1 u.2.2.1 u.2.2.2.1 u.2.2.2.2.1 u.2.2.2.2.2.1 u.2.2.2.2.2.2.1 u.2.2.2.2.2.2.2.1 u.2.2.2.2.2.2.2.2.1 u.2.2.2.2.2.2.2.2.2.1 u.2.2.2.2.2.2.2.2.2.2.1 u.2.2.2.2.2.2.2.2.2.2.2.1 u.2.2.2.2.2.2.2.2.2.2.2.2.1 u.2.2.2.2.2.2.2.2.2.2.2.2.2.1 u.2.2.2.2.2.2.2.2.2.2.2.2.2.2.1 u.2.2.2.2.2.2.2.2.2.2.2.2.2.2.2.1 u.2.2.2.2.2.2.2.2.2.2.2.2.2.2.2.2.1 n x1 u.2.2.2.2.2.2.2.2.2.2.2.2.2.2.2.2.2.1 u.2.2.2.2.2.2.2.2.2.2.2.2.2.2.2.2.2.2.1 u.2.2.2.2.2.2.2.2.2.2.2.2.2.2.2.2.2.2.2.1 u.2.2.2.2.2.2.2.2.2.2.2.2.2.2.2.2.2.2.2.2.1 u.2.2.2.2.2.2.2.2.2.2.2.2.2.2.2.2.2.2.2.2.2.1 u.2.2.2.2.2.2.2.2.2.2.2.2.2.2.2.2.2.2.2.2.2.2.1 u.2.2.2.2.2.2.2.2.2.2.2.2.2.2.2.2.2.2.2.2.2.2.2.1 u.2.2.2.2.2.2.2.2.2.2.2.2.2.2.2.2.2.2.2.2.2.2.2.2.1 u.2.2.2.2.2.2.2.2.2.2.2.2.2.2.2.2.2.2.2.2.2.2.2.2.2.1 u.2.2.2.2.2.2.2.2.2.2.2.2.2.2.2.2.2.2.2.2.2.2.2.2.2.2.1 u.2.2.2.2.2.2.2.2.2.2.2.2.2.2.2.2.2.2.2.2.2.2.2.2.2.2.2.1 u.2.2.2.2.2.2.2.2.2.2.2.2.2.2.2.2.2.2.2.2.2.2.2.2.2.2.2.2.1 u.2.2.2.2.2.2.2.2.2.2.2.2.2.2.2.2.2.2.2.2.2.2.2.2.2.2.2.2.2.1 u.2.2.2.2.2.2.2.2.2.2.2.2.2.2.2.2.2.2.2.2.2.2.2.2.2.2.2.2.2.2.1 u.2.2.2.2.2.2.2.2.2.2.2.2.2.2.2.2.2.2.2.2.2.2.2.2.2.2.2.2.2.2.2.1 u.2.2.2.2.2.2.2.2.2.2.2.2.2.2.2.2.2.2.2.2.2.2.2.2.2.2.2.2.2.2.2.2.1 u.2.2.2.2.2.2.2.2.2.2.2.2.2.2.2.2.2.2.2.2.2.2.2.2.2.2.2.2.2.2.2.2.2.1 u.2.2.2.2.2.2.2.2.2.2.2.2.2.2.2.2.2.2.2.2.2.2.2.2.2.2.2.2.2.2.2.2.2.2.1 u.2.2.2.2.2.2.2.2.2.2.2.2.2.2.2.2.2.2.2.2.2.2.2.2.2.2.2.2.2.2.2.2.2.2.2
theorem xe_commit_11 {post : Int32 → SX → Prop} {n : Nat} {x1 : Int32} {u : SX} : xv_commit_11 post (n + 1) x1 u = ((((xg_outLen u) ≤ x1 → (wpX_measure (fun u_4 => (post 1 u_4)) (xs_curLen (xg_outLen u) u))) ∧ (¬ (xg_outLen u) ≤ x1 → (vp_in x1 256 ∧ (vp_in x1 256 ∧ ∀ a_curKind_42 : Nat → Int32, a_curKind_42 = upd (xg_curKind u) x1.toNatClampNeg ((xg_outKind u) x1.toNatClampNeg) → (vp_in x1 256 ∧ (vp_in x1 256 ∧ ∀ a_curVal_45 : Nat → Int32, a_curVal_45 = upd (xg_curVal u) x1.toNatClampNeg ((xg_outVal u) x1.toNatClampNeg) → (∀ x1_46 : Int32, x1_46 = x1 + 1 → ((xv_commit_11 post n x1_46 (xs_curKind_curVal a_curKind_42 a_curVal_45 u))))))))))) := rfl
theorem xe_commit {post : Int32 → SX → Prop} {u : SX} : wpX_commit post u = ((((xg_outOver u) = 0 → (∃ n11 : Nat, (xv_commit_11 post n11 0 u))) ∧ (¬ (xg_outOver u) = 0 → (post 0 u)))) := rfl
theorem xe_load {post : SX → Prop} {u : SX} {p0 : Int32} {p1 : Int32} : wpX_load post u p0 p1 = (wpX_begin (fun u_2 => (wpX_emitNode (fun u_39 => (wpX_commit (fun r_75 u_76 => (post u_76)) u_39)) u_2 p0 p1)) u 256) := rfl
def xv_emitShifted_54 (post : SX → Prop) (J3 : Int32 → SX → Prop) (x1 : Int32) (x2 : Int32) (x3 : Int32) (x4 : Int32) (x5 : Int32) (u : SX) : Prop := wX_emitShifted_54 post (fun x4' f_pending' f_nodeLimit' f_weightLimit' f_fuelLimit' f_entryLimit' f_count' f_base' f_entryCount' f_tickCount' f_blameNode' f_curLen' f_outLen' f_outCap' f_outOver' f_frameTop' f_answer' f_contextLen' a_kind' a_part' a_heavy' a_entryBody' a_entryClaim' a_entryType' a_curKind' a_curVal' a_curDepth' a_outKind' a_outVal' a_pend' a_openPos' a_openLeft' a_made' a_frameNode' a_frameStep' a_frameKeep' a_context' => J3 x4' (f_pending', f_nodeLimit', f_weightLimit', f_fuelLimit', f_entryLimit', f_count', f_base', f_entryCount', f_tickCount', f_blameNode', f_curLen', f_outLen', f_outCap', f_outOver', f_frameTop', f_answer', f_contextLen', a_kind', a_part', a_heavy', a_entryBody', a_entryClaim', a_entryType', a_curKind', a_curVal', a_curDepth', a_outKind', a_outVal', a_pend', a_openPos', a_openLeft', a_made', a_frameNode', a_frameStep', a_frameKeep', a_context')) x1 x2 x3 x4 x5 u.1 u.2.1 u.2.2.1 u.2.2.2.1 u.2.2.2.2.1 u.2.2.2.2.2.1 u.2.2.2.2.2.2.1 u.2.2.2.2.2.2.2.1 u.2.2.2.2.2.2.2.2.1 u.2.2.2.2.2.2.2.2.2.1 u.2.2.2.2.2.2.2.2.2.2.1 u.2.2.2.2.2.2.2.2.2.2.2.1 u.2.2.2.2.2.2.2.2.2.2.2.2.1 u.2.2.2.2.2.2.2.2.2.2.2.2.2.1 u.2.2.2.2.2.2.2.2.2.2.2.2.2.2.1 u.2.2.2.2.2.2.2.2.2.2.2.2.2.2.2.1 u.2.2.2.2.2.2.2.2.2.2.2.2.2.2.2.2.1 u.2.2.2.2.2.2.2.2.2.2.2.2.2.2.2.2.2.1 u.2.2.2.2.2.2.2.2.2.2.2.2.2.2.2.2.2.2.1 u.2.2.2.2.2.2.2.2.2.2.2.2.2.2.2.2.2.2.2.1 u.2.2.2.2.2.2.2.2.2.2.2.2.2.2.2.2.2.2.2.2.1 u.2.2.2.2.2.2.2.2.2.2.2.2.2.2.2.2.2.2.2.2.2.1 u.2.2.2.2.2.2.2.2.2.2.2.2.2.2.2.2.2.2.2.2.2.2.1 u.2.2.2.2.2.2.2.2.2.2.2.2.2.2.2.2.2.2.2.2.2.2.2.1 u.2.2.2.2.2.2.2.2.2.2.2.2.2.2.2.2.2.2.2.2.2.2.2.2.1 u.2.2.2.2.2.2.2.2.2.2.2.2.2.2.2.2.2.2.2.2.2.2.2.2.2.1 u.2.2.2.2.2.2.2.2.2.2.2.2.2.2.2.2.2.2.2.2.2.2.2.2.2.2.1 u.2.2.2.2.2.2.2.2.2.2.2.2.2.2.2.2.2.2.2.2.2.2.2.2.2.2.2.1 u.2.2.2.2.2.2.2.2.2.2.2.2.2.2.2.2.2.2.2.2.2.2.2.2.2.2.2.2.1 u.2.2.2.2.2.2.2.2.2.2.2.2.2.2.2.2.2.2.2.2.2.2.2.2.2.2.2.2.2.1 u.2.2.2.2.2.2.2.2.2.2.2.2.2.2.2.2.2.2.2.2.2.2.2.2.2.2.2.2.2.2.1 u.2.2.2.2.2.2.2.2.2.2.2.2.2.2.2.2.2.2.2.2.2.2.2.2.2.2.2.2.2.2.2.1 u.2.2.2.2.2.2.2.2.2.2.2.2.2.2.2.2.2.2.2.2.2.2.2.2.2.2.2.2.2.2.2.2.1 u.2.2.2.2.2.2.2.2.2.2.2.2.2.2.2.2.2.2.2.2.2.2.2.2.2.2.2.2.2.2.2.2.2.1 u.2.2.2.2.2.2.2.2.2.2.2.2.2.2.2.2.2.2.2.2.2.2.2.2.2.2.2.2.2.2.2.2.2.2.1 u.2.2.2.2.2.2.2.2.2.2.2.2.2.2.2.2.2.2.2.2.2.2.2.2.2.2.2.2.2.2.2.2.2.2.2
theorem xe_emitShifted_54 {post : SX → Prop} {J3 : Int32 → SX → Prop} {x1 : Int32} {x2 : Int32} {x3 : Int32} {x4 : Int32} {x5 : Int32} {u : SX} : xv_emitShifted_54 post J3 x1 x2 x3 x4 x5 u = (vp_in x4 256 ∧ (wpX_emit (fun u_8 => (∀ x4_44 : Int32, x4_44 = x4 + 1 → ((J3 x4_44 u_8)))) u ((xg_curKind u) x4.toNatClampNeg) x5)) := rfl
def xv_emitShifted_3 (post : SX → Prop) (x1 : Int32) (x2 : Int32) (x3 : Int32) (n : Nat) (x4 : Int32) (u : SX) : Prop := wX_emitShifted_3 post x1 x2 x3 n x4 u.1 u.2.1 u.2.2.1 u.2.2.2.1 u.2.2.2.2.1 u.2.2.2.2.2.1 u.2.2.2.2.2.2.1 u.2.2.2.2.2.2.2.1 u.2.2.2.2.2.2.2.2.1 u.2.2.2.2.2.2.2.2.2.1 u.2.2.2.2.2.2.2.2.2.2.1 u.2.2.2.2.2.2.2.2.2.2.2.1 u.2.2.2.2.2.2.2.2.2.2.2.2.1 u.2.2.2.2.2.2.2.2.2.2.2.2.2.1 u.2.2.2.2.2.2.2.2.2.2.2.2.2.2.1 u.2.2.2.2.2.2.2.2.2.2.2.2.2.2.2.1 u.2.2.2.2.2.2.2.2.2.2.2.2.2.2.2.2.1 u.2.2.2.2.2.2.2.2.2.2.2.2.2.2.2.2.2.1 u.2.2.2.2.2.2.2.2.2.2.2.2.2.2.2.2.2.2.1 u.2.2.2.2.2.2.2.2.2.2.2.2.2.2.2.2.2.2.2.1 u.2.2.2.2.2.2.2.2.2.2.2.2.2.2.2.2.2.2.2.2.1 u.2.2.2.2.2.2.2.2.2.2.2.2.2.2.2.2.2.2.2.2.2.1 u.2.2.2.2.2.2.2.2.2.2.2.2.2.2.2.2.2.2.2.2.2.2.1 u.2.2.2.2.2.2.2.2.2.2.2.2.2.2.2.2.2.2.2.2.2.2.2.1 u.2.2.2.2.2.2.2.2.2.2.2.2.2.2.2.2.2.2.2.2.2.2.2.2.1 u.2.2.2.2.2.2.2.2.2.2.2.2.2.2.2.2.2.2.2.2.2.2.2.2.2.1 u.2.2.2.2.2.2.2.2.2.2.2.2.2.2.2.2.2.2.2.2.2.2.2.2.2.2.1 u.2.2.2.2.2.2.2.2.2.2.2.2.2.2.2.2.2.2.2.2.2.2.2.2.2.2.2.1 u.2.2.2.2.2.2.2.2.2.2.2.2.2.2.2.2.2.2.2.2.2.2.2.2.2.2.2.2.1 u.2.2.2.2.2.2.2.2.2.2.2.2.2.2.2.2.2.2.2.2.2.2.2.2.2.2.2.2.2.1 u.2.2.2.2.2.2.2.2.2.2.2.2.2.2.2.2.2.2.2.2.2.2.2.2.2.2.2.2.2.2.1 u.2.2.2.2.2.2.2.2.2.2.2.2.2.2.2.2.2.2.2.2.2.2.2.2.2.2.2.2.2.2.2.1 u.2.2.2.2.2.2.2.2.2.2.2.2.2.2.2.2.2.2.2.2.2.2.2.2.2.2.2.2.2.2.2.2.1 u.2.2.2.2.2.2.2.2.2.2.2.2.2.2.2.2.2.2.2.2.2.2.2.2.2.2.2.2.2.2.2.2.2.1 u.2.2.2.2.2.2.2.2.2.2.2.2.2.2.2.2.2.2.2.2.2.2.2.2.2.2.2.2.2.2.2.2.2.2.1 u.2.2.2.2.2.2.2.2.2.2.2.2.2.2.2.2.2.2.2.2.2.2.2.2.2.2.2.2.2.2.2.2.2.2.2
theorem xe_emitShifted_3 {post : SX → Prop} {x1 : Int32} {x2 : Int32} {x3 : Int32} {n : Nat} {x4 : Int32} {u : SX} : xv_emitShifted_3 post x1 x2 x3 (n + 1) x4 u = (((x2 ≤ x4 → (post u)) ∧ (¬ x2 ≤ x4 → (vp_in x4 256 ∧ (∀ x5_3 : Int32, x5_3 = (xg_curVal u) x4.toNatClampNeg → (vp_in x4 256 ∧ (((((xg_curKind u) x4.toNatClampNeg) = 5 → (vp_in x4 256 ∧ (vp_in x1 256 ∧ (((x5_3 < (((xg_curDepth u) x4.toNatClampNeg) - ((xg_curDepth u) x1.toNatClampNeg)) → ((xv_emitShifted_54 post ((xv_emitShifted_3 post x1 x2 x3 n)) x1 x2 x3 x4 x5_3 u))) ∧ (¬ x5_3 < (((xg_curDepth u) x4.toNatClampNeg) - ((xg_curDepth u) x1.toNatClampNeg)) → (∀ x5_48 : Int32, x5_48 = x5_3 + x3 → ((xv_emitShifted_54 post ((xv_emitShifted_3 post x1 x2 x3 n)) x1 x2 x3 x4 x5_48 u))))))))) ∧ (¬ ((xg_curKind u) x4.toNatClampNeg) = 5 → ((xv_emitShifted_54 post ((xv_emitShifted_3 post x1 x2 x3 n)) x1 x2 x3 x4 x5_3 u))))))))))) := rfl
theorem xe_emitShifted {post : SX → Prop} {u : SX} {p0 : Int32} {p1 : Int32} {p2 : Int32} : wpX_emitShifted post u p0 p1 p2 = (∃ n3 : Nat, (xv_emitShifted_3 post p0 p1 p2 n3 p0 u)) := rfl
def xv_internToken_83 (post : Int32 → SX → Prop) (x1 : Int32) (x4 : Int32) (x5 : Int32) (x6 : Int32) (z0 : Int32) (u : SX) : Prop := wX_internToken_83 post x1 x4 x5 x6 z0 u.1 u.2.1 u.2.2.1 u.2.2.2.1 u.2.2.2.2.1 u.2.2.2.2.2.1 u.2.2.2.2.2.2.1 u.2.2.2.2.2.2.2.1 u.2.2.2.2.2.2.2.2.1 u.2.2.2.2.2.2.2.2.2.1 u.2.2.2.2.2.2.2.2.2.2.1 u.2.2.2.2.2.2.2.2.2.2.2.1 u.2.2.2.2.2.2.2.2.2.2.2.2.1 u.2.2.2.2.2.2.2.2.2.2.2.2.2.1 u.2.2.2.2.2.2.2.2.2.2.2.2.2.2.1 u.2.2.2.2.2.2.2.2.2.2.2.2.2.2.2.1 u.2.2.2.2.2.2.2.2.2.2.2.2.2.2.2.2.1 u.2.2.2.2.2.2.2.2.2.2.2.2.2.2.2.2.2.1 u.2.2.2.2.2.2.2.2.2.2.2.2.2.2.2.2.2.2.1 u.2.2.2.2.2.2.2.2.2.2.2.2.2.2.2.2.2.2.2.1 u.2.2.2.2.2.2.2.2.2.2.2.2.2.2.2.2.2.2.2.2.1 u.2.2.2.2.2.2.2.2.2.2.2.2.2.2.2.2.2.2.2.2.2.1 u.2.2.2.2.2.2.2.2.2.2.2.2.2.2.2.2.2.2.2.2.2.2.1 u.2.2.2.2.2.2.2.2.2.2.2.2.2.2.2.2.2.2.2.2.2.2.2.1 u.2.2.2.2.2.2.2.2.2.2.2.2.2.2.2.2.2.2.2.2.2.2.2.2.1 u.2.2.2.2.2.2.2.2.2.2.2.2.2.2.2.2.2.2.2.2.2.2.2.2.2.1 u.2.2.2.2.2.2.2.2.2.2.2.2.2.2.2.2.2.2.2.2.2.2.2.2.2.2.1 u.2.2.2.2.2.2.2.2.2.2.2.2.2.2.2.2.2.2.2.2.2.2.2.2.2.2.2.1 u.2.2.2.2.2.2.2.2.2.2.2.2.2.2.2.2.2.2.2.2.2.2.2.2.2.2.2.2.1 u.2.2.2.2.2.2.2.2.2.2.2.2.2.2.2.2.2.2.2.2.2.2.2.2.2.2.2.2.2.1 u.2.2.2.2.2.2.2.2.2.2.2.2.2.2.2.2.2.2.2.2.2.2.2.2.2.2.2.2.2.2.1 u.2.2.2.2.2.2.2.2.2.2.2.2.2.2.2.2.2.2.2.2.2.2.2.2.2.2.2.2.2.2.2.1 u.2.2.2.2.2.2.2.2.2.2.2.2.2.2.2.2.2.2.2.2.2.2.2.2.2.2.2.2.2.2.2.2.1 u.2.2.2.2.2.2.2.2.2.2.2.2.2.2.2.2.2.2.2.2.2.2.2.2.2.2.2.2.2.2.2.2.2.1 u.2.2.2.2.2.2.2.2.2.2.2.2.2.2.2.2.2.2.2.2.2.2.2.2.2.2.2.2.2.2.2.2.2.2.1 u.2.2.2.2.2.2.2.2.2.2.2.2.2.2.2.2.2.2.2.2.2.2.2.2.2.2.2.2.2.2.2.2.2.2.2
theorem xe_internToken_83 {post : Int32 → SX → Prop} {x1 : Int32} {x4 : Int32} {x5 : Int32} {x6 : Int32} {z0 : Int32} {u : SX} : xv_internToken_83 post x1 x4 x5 x6 z0 u = (vp_in x1 256 ∧ (wpX_intern (fun r_8 u_9 => (post r_8 u_9)) u ((xg_curKind u) x1.toNatClampNeg) x4 x5 x6 z0)) := rfl
def xv_internToken_64 (post : Int32 → SX → Prop) (x1 : Int32) (x2 : Int32) (x3 : Int32) (x4 : Int32) (x5 : Int32) (z0 : Int32) (u : SX) : Prop := wX_internToken_64 post x1 x2 x3 x4 x5 z0 u.1 u.2.1 u.2.2.1 u.2.2.2.1 u.2.2.2.2.1 u.2.2.2.2.2.1 u.2.2.2.2.2.2.1 u.2.2.2.2.2.2.2.1 u.2.2.2.2.2.2.2.2.1 u.2.2.2.2.2.2.2.2.2.1 u.2.2.2.2.2.2.2.2.2.2.1 u.2.2.2.2.2.2.2.2.2.2.2.1 u.2.2.2.2.2.2.2.2.2.2.2.2.1 u.2.2.2.2.2.2.2.2.2.2.2.2.2.1 u.2.2.2.2.2.2.2.2.2.2.2.2.2.2.1 u.2.2.2.2.2.2.2.2.2.2.2.2.2.2.2.1 u.2.2.2.2.2.2.2.2.2.2.2.2.2.2.2.2.1 u.2.2.2.2.2.2.2.2.2.2.2.2.2.2.2.2.2.1 u.2.2.2.2.2.2.2.2.2.2.2.2.2.2.2.2.2.2.1 u.2.2.2.2.2.2.2.2.2.2.2.2.2.2.2.2.2.2.2.1 u.2.2.2.2.2.2.2.2.2.2.2.2.2.2.2.2.2.2.2.2.1 u.2.2.2.2.2.2.2.2.2.2.2.2.2.2.2.2.2.2.2.2.2.1 u.2.2.2.2.2.2.2.2.2.2.2.2.2.2.2.2.2.2.2.2.2.2.1 u.2.2.2.2.2.2.2.2.2.2.2.2.2.2.2.2.2.2.2.2.2.2.2.1 u.2.2.2.2.2.2.2.2.2.2.2.2.2.2.2.2.2.2.2.2.2.2.2.2.1 u.2.2.2.2.2.2.2.2.2.2.2.2.2.2.2.2.2.2.2.2.2.2.2.2.2.1 u.2.2.2.2.2.2.2.2.2.2.2.2.2.2.2.2.2.2.2.2.2.2.2.2.2.2.1 u.2.2.2.2.2.2.2.2.2.2.2.2.2.2.2.2.2.2.2.2.2.2.2.2.2.2.2.1 u.2.2.2.2.2.2.2.2.2.2.2.2.2.2.2.2.2.2.2.2.2.2.2.2.2.2.2.2.1 u.2.2.2.2.2.2.2.2.2.2.2.2.2.2.2.2.2.2.2.2.2.2.2.2.2.2.2.2.2.1 u.2.2.2.2.2.2.2.2.2.2.2.2.2.2.2.2.2.2.2.2.2.2.2.2.2.2.2.2.2.2.1 u.2.2.2.2.2.2.2.2.2.2.2.2.2.2.2.2.2.2.2.2.2.2.2.2.2.2.2.2.2.2.2.1 u.2.2.2.2.2.2.2.2.2.2.2.2.2.2.2.2.2.2.2.2.2.2.2.2.2.2.2.2.2.2.2.2.1 u.2.2.2.2.2.2.2.2.2.2.2.2.2.2.2.2.2.2.2.2.2.2.2.2.2.2.2.2.2.2.2.2.2.1 u.2.2.2.2.2.2.2.2.2.2.2.2.2.2.2.2.2.2.2.2.2.2.2.2.2.2.2.2.2.2.2.2.2.2.1 u.2.2.2.2.2.2.2.2.2.2.2.2.2.2.2.2.2.2.2.2.2.2.2.2.2.2.2.2.2.2.2.2.2.2.2
theorem xe_internToken_64 {post : Int32 → SX → Prop} {x1 : Int32} {x2 : Int32} {x3 : Int32} {x4 : Int32} {x5 : Int32} {z0 : Int32} {u : SX} : xv_internToken_64 post x1 x2 x3 x4 x5 z0 u = (((x2 ≤ 3 → ((xv_internToken_83 post x1 x4 x5 z0 0 u))) ∧ (¬ x2 ≤ 3 → (vp_in (x3 + 3) 256 ∧ ((xv_internToken_83 post x1 x4 x5 z0 ((xg_made u) (x3 + 3).toNatClampNeg) u)))))) := rfl
def xv_internToken_45 (post : Int32 → SX → Prop) (x1 : Int32) (x2 : Int32) (x3 : Int32) (x4 : Int32) (z0 : Int32) (u : SX) : Prop := wX_internToken_45 post x1 x2 x3 x4 z0 u.1 u.2.1 u.2.2.1 u.2.2.2.1 u.2.2.2.2.1 u.2.2.2.2.2.1 u.2.2.2.2.2.2.1 u.2.2.2.2.2.2.2.1 u.2.2.2.2.2.2.2.2.1 u.2.2.2.2.2.2.2.2.2.1 u.2.2.2.2.2.2.2.2.2.2.1 u.2.2.2.2.2.2.2.2.2.2.2.1 u.2.2.2.2.2.2.2.2.2.2.2.2.1 u.2.2.2.2.2.2.2.2.2.2.2.2.2.1 u.2.2.2.2.2.2.2.2.2.2.2.2.2.2.1 u.2.2.2.2.2.2.2.2.2.2.2.2.2.2.2.1 u.2.2.2.2.2.2.2.2.2.2.2.2.2.2.2.2.1 u.2.2.2.2.2.2.2.2.2.2.2.2.2.2.2.2.2.1 u.2.2.2.2.2.2.2.2.2.2.2.2.2.2.2.2.2.2.1 u.2.2.2.2.2.2.2.2.2.2.2.2.2.2.2.2.2.2.2.1 u.2.2.2.2.2.2.2.2.2.2.2.2.2.2.2.2.2.2.2.2.1 u.2.2.2.2.2.2.2.2.2.2.2.2.2.2.2.2.2.2.2.2.2.1 u.2.2.2.2.2.2.2.2.2.2.2.2.2.2.2.2.2.2.2.2.2.2.1 u.2.2.2.2.2.2.2.2.2.2.2.2.2.2.2.2.2.2.2.2.2.2.2.1 u.2.2.2.2.2.2.2.2.2.2.2.2.2.2.2.2.2.2.2.2.2.2.2.2.1 u.2.2.2.2.2.2.2.2.2.2.2.2.2.2.2.2.2.2.2.2.2.2.2.2.2.1 u.2.2.2.2.2.2.2.2.2.2.2.2.2.2.2.2.2.2.2.2.2.2.2.2.2.2.1 u.2.2.2.2.2.2.2.2.2.2.2.2.2.2.2.2.2.2.2.2.2.2.2.2.2.2.2.1 u.2.2.2.2.2.2.2.2.2.2.2.2.2.2.2.2.2.2.2.2.2.2.2.2.2.2.2.2.1 u.2.2.2.2.2.2.2.2.2.2.2.2.2.2.2.2.2.2.2.2.2.2.2.2.2.2.2.2.2.1 u.2.2.2.2.2.2.2.2.2.2.2.2.2.2.2.2.2.2.2.2.2.2.2.2.2.2.2.2.2.2.1 u.2.2.2.2.2.2.2.2.2.2.2.2.2.2.2.2.2.2.2.2.2.2.2.2.2.2.2.2.2.2.2.1 u.2.2.2.2.2.2.2.2.2.2.2.2.2.2.2.2.2.2.2.2.2.2.2.2.2.2.2.2.2.2.2.2.1 u.2.2.2.2.2.2.2.2.2.2.2.2.2.2.2.2.2.2.2.2.2.2.2.2.2.2.2.2.2.2.2.2.2.1 u.2.2.2.2.2.2.2.2.2.2.2.2.2.2.2.2.2.2.2.2.2.2.2.2.2.2.2.2.2.2.2.2.2.2.1 u.2.2.2.2.2.2.2.2.2.2.2.2.2.2.2.2.2.2.2.2.2.2.2.2.2.2.2.2.2.2.2.2.2.2.2
theorem xe_internToken_45 {post : Int32 → SX → Prop} {x1 : Int32} {x2 : Int32} {x3 : Int32} {x4 : Int32} {z0 : Int32} {u : SX} : xv_internToken_45 post x1 x2 x3 x4 z0 u = (((x2 ≤ 2 → ((xv_internToken_64 post x1 x2 x3 x4 z0 0 u))) ∧ (¬ x2 ≤ 2 → (vp_in (x3 + 2) 256 ∧ ((xv_internToken_64 post x1 x2 x3 x4 z0 ((xg_made u) (x3 + 2).toNatClampNeg) u)))))) := rfl
def xv_internToken_26 (post : Int32 → SX → Prop) (x1 : Int32) (x2 : Int32) (x3 : Int32) (z0 : Int32) (u : SX) : Prop := wX_internToken_26 post x1 x2 x3 z0 u.1 u.2.1 u.2.2.1 u.2.2.2.1 u.2.2.2.2.1 u.2.2.2.2.2.1 u.2.2.2.2.2.2.1 u.2.2.2.2.2.2.2.1 u.2.2.2.2.2.2.2.2.1 u.2.2.2.2.2.2.2.2.2.1 u.2.2.2.2.2.2.2.2.2.2.1 u.2.2.2.2.2.2.2.2.2.2.2.1 u.2.2.2.2.2.2.2.2.2.2.2.2.1 u.2.2.2.2.2.2.2.2.2.2.2.2.2.1 u.2.2.2.2.2.2.2.2.2.2.2.2.2.2.1 u.2.2.2.2.2.2.2.2.2.2.2.2.2.2.2.1 u.2.2.2.2.2.2.2.2.2.2.2.2.2.2.2.2.1 u.2.2.2.2.2.2.2.2.2.2.2.2.2.2.2.2.2.1 u.2.2.2.2.2.2.2.2.2.2.2.2.2.2.2.2.2.2.1 u.2.2.2.2.2.2.2.2.2.2.2.2.2.2.2.2.2.2.2.1 u.2.2.2.2.2.2.2.2.2.2.2.2.2.2.2.2.2.2.2.2.1 u.2.2.2.2.2.2.2.2.2.2.2.2.2.2.2.2.2.2.2.2.2.1 u.2.2.2.2.2.2.2.2.2.2.2.2.2.2.2.2.2.2.2.2.2.2.1 u.2.2.2.2.2.2.2.2.2.2.2.2.2.2.2.2.2.2.2.2.2.2.2.1 u.2.2.2.2.2.2.2.2.2.2.2.2.2.2.2.2.2.2.2.2.2.2.2.2.1 u.2.2.2.2.2.2.2.2.2.2.2.2.2.2.2.2.2.2.2.2.2.2.2.2.2.1 u.2.2.2.2.2.2.2.2.2.2.2.2.2.2.2.2.2.2.2.2.2.2.2.2.2.2.1 u.2.2.2.2.2.2.2.2.2.2.2.2.2.2.2.2.2.2.2.2.2.2.2.2.2.2.2.1 u.2.2.2.2.2.2.2.2.2.2.2.2.2.2.2.2.2.2.2.2.2.2.2.2.2.2.2.2.1 u.2.2.2.2.2.2.2.2.2.2.2.2.2.2.2.2.2.2.2.2.2.2.2.2.2.2.2.2.2.1 u.2.2.2.2.2.2.2.2.2.2.2.2.2.2.2.2.2.2.2.2.2.2.2.2.2.2.2.2.2.2.1 u.2.2.2.2.2.2.2.2.2.2.2.2.2.2.2.2.2.2.2.2.2.2.2.2.2.2.2.2.2.2.2.1 u.2.2.2.2.2.2.2.2.2.2.2.2.2.2.2.2.2.2.2.2.2.2.2.2.2.2.2.2.2.2.2.2.1 u.2.2.2.2.2.2.2.2.2.2.2.2.2.2.2.2.2.2.2.2.2.2.2.2.2.2.2.2.2.2.2.2.2.1 u.2.2.2.2.2.2.2.2.2.2.2.2.2.2.2.2.2.2.2.2.2.2.2.2.2.2.2.2.2.2.2.2.2.2.1 u.2.2.2.2.2.2.2.2.2.2.2.2.2.2.2.2.2.2.2.2.2.2.2.2.2.2.2.2.2.2.2.2.2.2.2
theorem xe_internToken_26 {post : Int32 → SX → Prop} {x1 : Int32} {x2 : Int32} {x3 : Int32} {z0 : Int32} {u : SX} : xv_internToken_26 post x1 x2 x3 z0 u = (((x2 ≤ 1 → ((xv_internToken_45 post x1 x2 x3 z0 0 u))) ∧ (¬ x2 ≤ 1 → (vp_in (x3 + 1) 256 ∧ ((xv_internToken_45 post x1 x2 x3 z0 ((xg_made u) (x3 + 1).toNatClampNeg) u)))))) := rfl
theorem xe_internToken {post : Int32 → SX → Prop} {u : SX} {p0 : Int32} {p1 : Int32} {p2 : Int32} : wpX_internToken post u p0 p1 p2 = (((0 ≤ p2 → (((p1 ≤ 0 → (vp_in p0 256 ∧ ((xv_internToken_26 post p0 p1 p2 ((xg_curVal u) p0.toNatClampNeg) u)))) ∧ (¬ p1 ≤ 0 → (vp_in p2 256 ∧ ((xv_internToken_26 post p0 p1 p2 ((xg_made u) p2.toNatClampNeg) u))))))) ∧ (¬ 0 ≤ p2 → (post (-3) u)))) := rfl
def xv_enter_57 (post : Int32 → SX → Prop) (J20 : Int32 → Int32 → Int32 → SX → Prop) (x3 : Int32) (n : Nat) (x1 : Int32) (x2 : Int32) (x4 : Int32) (u : SX) : Prop := wX_enter_57 post (fun x1' x2' x3' f_pending' f_nodeLimit' f_weightLimit' f_fuelLimit' f_entryLimit' f_count' f_base' f_entryCount' f_tickCount' f_blameNode' f_curLen' f_outLen' f_outCap' f_outOver' f_frameTop' f_answer' f_contextLen' a_kind' a_part' a_heavy' a_entryBody' a_entryClaim' a_entryType' a_curKind' a_curVal' a_curDepth' a_outKind' a_outVal' a_pend' a_openPos' a_openLeft' a_made' a_frameNode' a_frameStep' a_frameKeep' a_context' => J20 x1' x2' x3' (f_pending', f_nodeLimit', f_weightLimit', f_fuelLimit', f_entryLimit', f_count', f_base', f_entryCount', f_tickCount', f_blameNode', f_curLen', f_outLen', f_outCap', f_outOver', f_frameTop', f_answer', f_contextLen', a_kind', a_part', a_heavy', a_entryBody', a_entryClaim', a_entryType', a_curKind', a_curVal', a_curDepth', a_outKind', a_outVal', a_pend', a_openPos', a_openLeft', a_made', a_frameNode', a_frameStep', a_frameKeep', a_context')) x3 n x1 x2 x4 u.1 u.2.1 u.2.2.1 u.2.2.2.1 u.2.2.2.2.1 u.2.2.2.2.2.1 u.2.2.2.2.2.2.1 u.2.2.2.2.2.2.2.1 u.2.2.2.2.2.2.2.2.1 u.2.2.2.2.2.2.2.2.2.1 u.2.2.2.2.2.2.2.2.2.2.1 u.2.2.2.2.2.2.2.2.2.2.2.1 u.2.2.2.2.2.2.2.2.2.2.2.2.1 u.2.2.2.2.2.2.2.2.2.2.2.2.2.1 u.2.2.2.2.2.2.2.2.2.2.2.2.2.2.1 u.2.2.2.2.2.2.2.2.2.2.2.2.2.2.2.1 u.2.2.2.2.2.2.2.2.2.2.2.2.2.2.2.2.1 u.2.2.2.2.2.2.2.2.2.2.2.2.2.2.2.2.2.1 u.2.2.2.2.2.2.2.2.2.2.2.2.2.2.2.2.2.2.1 u.2.2.2.2.2.2.2.2.2.2.2.2.2.2.2.2.2.2.2.1 u.2.2.2.2.2.2.2.2.2.2.2.2.2.2.2.2.2.2.2.2.1 u.2.2.2.2.2.2.2.2.2.2.2.2.2.2.2.2.2.2.2.2.2.1 u.2.2.2.2.2.2.2.2.2.2.2.2.2.2.2.2.2.2.2.2.2.2.1 u.2.2.2.2.2.2.2.2.2.2.2.2.2.2.2.2.2.2.2.2.2.2.2.1 u.2.2.2.2.2.2.2.2.2.2.2.2.2.2.2.2.2.2.2.2.2.2.2.2.1 u.2.2.2.2.2.2.2.2.2.2.2.2.2.2.2.2.2.2.2.2.2.2.2.2.2.1 u.2.2.2.2.2.2.2.2.2.2.2.2.2.2.2.2.2.2.2.2.2.2.2.2.2.2.1 u.2.2.2.2.2.2.2.2.2.2.2.2.2.2.2.2.2.2.2.2.2.2.2.2.2.2.2.1 u.2.2.2.2.2.2.2.2.2.2.2.2.2.2.2.2.2.2.2.2.2.2.2.2.2.2.2.2.1 u.2.2.2.2.2.2.2.2.2.2.2.2.2.2.2.2.2.2.2.2.2.2.2.2.2.2.2.2.2.1 u.2.2.2.2.2.2.2.2.2.2.2.2.2.2.2.2.2.2.2.2.2.2.2.2.2.2.2.2.2.2.1 u.2.2.2.2.2.2.2.2.2.2.2.2.2.2.2.2.2.2.2.2.2.2.2.2.2.2.2.2.2.2.2.1 u.2.2.2.2.2.2.2.2.2.2.2.2.2.2.2.2.2.2.2.2.2.2.2.2.2.2.2.2.2.2.2.2.1 u.2.2.2.2.2.2.2.2.2.2.2.2.2.2.2.2.2.2.2.2.2.2.2.2.2.2.2.2.2.2.2.2.2.1 u.2.2.2.2.2.2.2.2.2.2.2.2.2.2.2.2.2.2.2.2.2.2.2.2.2.2.2.2.2.2.2.2.2.2.1 u.2.2.2.2.2.2.2.2.2.2.2.2.2.2.2.2.2.2.2.2.2.2.2.2.2.2.2.2.2.2.2.2.2.2.2
theorem xe_enter_57 {post : Int32 → SX → Prop} {J20 : Int32 → Int32 → Int32 → SX → Prop} {x3 : Int32} {n : Nat} {x1 : Int32} {x2 : Int32} {x4 : Int32} {u : SX} : xv_enter_57 post J20 x3 (n + 1) x1 x2 x4 u = (((256 ≤ x4 → (∀ x3_47 : Int32, x3_47 = x3 + 1 → ((J20 x1 x2 x3_47 u)))) ∧ (¬ 256 ≤ x4 → (((x1 ≤ 0 → (∀ x3_49 : Int32, x3_49 = x3 + 1 → ((J20 x1 x2 x3_49 u)))) ∧ (¬ x1 ≤ 0 → (vp_in (x1 - 1) 256 ∧ (((((xg_openLeft u) (x1 - 1).toNatClampNeg) = 0 → (∀ x1_53 : Int32, x1_53 = x1 + (-1) → (vp_in x1_53 256 ∧ (∀ x5_55 : Int32, x5_55 = (xg_openPos u) x1_53.toNatClampNeg → (vp_in x5_55 256 ∧ (wpX_arity (fun r_57 => (wpX_internToken (fun r_94 u_95 => (((0 ≤ r_94 → (∀ x2_132 : Int32, x2_132 = x2 - r_57 → (vp_in x2_132 256 ∧ ∀ a_made_134 : Nat → Int32, a_made_134 = upd (xg_made u_95) x2_132.toNatClampNeg r_94 → (∀ x2_135 : Int32, x2_135 = x2_132 + 1 → (((x1_53 ≤ 0 → (∀ x4_137 : Int32, x4_137 = x4 + 1 → ((xv_enter_57 post J20 x3 n x1_53 x2_135 x4_137 (xs_made a_made_134 u_95))))) ∧ (¬ x1_53 ≤ 0 → (vp_in (x1_53 - 1) 256 ∧ (vp_in (x1_53 - 1) 256 ∧ ∀ a_openLeft_140 : Nat → Int32, a_openLeft_140 = upd (xg_openLeft u_95) (x1_53 - 1).toNatClampNeg (((xg_openLeft u_95) (x1_53 - 1).toNatClampNeg) - 1) → (∀ x4_141 : Int32, x4_141 = x4 + 1 → ((xv_enter_57 post J20 x3 n x1_53 x2_135 x4_141 (xs_openLeft_made a_openLeft_140 a_made_134 u_95))))))))))))) ∧ (¬ 0 ≤ r_94 → (post (-3) u_95))))) u x5_55 r_57 (x2 - r_57))) u ((xg_curKind u) x5_55.toNatClampNeg))))))) ∧ (¬ ((xg_openLeft u) (x1 - 1).toNatClampNeg) = 0 → (∀ x3_52 : Int32, x3_52 = x3 + 1 → ((J20 x1 x2 x3_52 u))))))))))))) := rfl
def xv_enter_20 (post : Int32 → SX → Prop) (n : Nat) (x1 : Int32) (x2 : Int32) (x3 : Int32) (u : SX) : Prop := wX_enter_20 post n x1 x2 x3 u.1 u.2.1 u.2.2.1 u.2.2.2.1 u.2.2.2.2.1 u.2.2.2.2.2.1 u.2.2.2.2.2.2.1 u.2.2.2.2.2.2.2.1 u.2.2.2.2.2.2.2.2.1 u.2.2.2.2.2.2.2.2.2.1 u.2.2.2.2.2.2.2.2.2.2.1 u.2.2.2.2.2.2.2.2.2.2.2.1 u.2.2.2.2.2.2.2.2.2.2.2.2.1 u.2.2.2.2.2.2.2.2.2.2.2.2.2.1 u.2.2.2.2.2.2.2.2.2.2.2.2.2.2.1 u.2.2.2.2.2.2.2.2.2.2.2.2.2.2.2.1 u.2.2.2.2.2.2.2.2.2.2.2.2.2.2.2.2.1 u.2.2.2.2.2.2.2.2.2.2.2.2.2.2.2.2.2.1 u.2.2.2.2.2.2.2.2.2.2.2.2.2.2.2.2.2.2.1 u.2.2.2.2.2.2.2.2.2.2.2.2.2.2.2.2.2.2.2.1 u.2.2.2.2.2.2.2.2.2.2.2.2.2.2.2.2.2.2.2.2.1 u.2.2.2.2.2.2.2.2.2.2.2.2.2.2.2.2.2.2.2.2.2.1 u.2.2.2.2.2.2.2.2.2.2.2.2.2.2.2.2.2.2.2.2.2.2.1 u.2.2.2.2.2.2.2.2.2.2.2.2.2.2.2.2.2.2.2.2.2.2.2.1 u.2.2.2.2.2.2.2.2.2.2.2.2.2.2.2.2.2.2.2.2.2.2.2.2.1 u.2.2.2.2.2.2.2.2.2.2.2.2.2.2.2.2.2.2.2.2.2.2.2.2.2.1 u.2.2.2.2.2.2.2.2.2.2.2.2.2.2.2.2.2.2.2.2.2.2.2.2.2.2.1 u.2.2.2.2.2.2.2.2.2.2.2.2.2.2.2.2.2.2.2.2.2.2.2.2.2.2.2.1 u.2.2.2.2.2.2.2.2.2.2.2.2.2.2.2.2.2.2.2.2.2.2.2.2.2.2.2.2.1 u.2.2.2.2.2.2.2.2.2.2.2.2.2.2.2.2.2.2.2.2.2.2.2.2.2.2.2.2.2.1 u.2.2.2.2.2.2.2.2.2.2.2.2.2.2.2.2.2.2.2.2.2.2.2.2.2.2.2.2.2.2.1 u.2.2.2.2.2.2.2.2.2.2.2.2.2.2.2.2.2.2.2.2.2.2.2.2.2.2.2.2.2.2.2.1 u.2.2.2.2.2.2.2.2.2.2.2.2.2.2.2.2.2.2.2.2.2.2.2.2.2.2.2.2.2.2.2.2.1 u.2.2.2.2.2.2.2.2.2.2.2.2.2.2.2.2.2.2.2.2.2.2.2.2.2.2.2.2.2.2.2.2.2.1 u.2.2.2.2.2.2.2.2.2.2.2.2.2.2.2.2.2.2.2.2.2.2.2.2.2.2.2.2.2.2.2.2.2.2.1 u.2.2.2.2.2.2.2.2.2.2.2.2.2.2.2.2.2.2.2.2.2.2.2.2.2.2.2.2.2.2.2.2.2.2.2
theorem xe_enter_20 {post : Int32 → SX → Prop} {n : Nat} {x1 : Int32} {x2 : Int32} {x3 : Int32} {u : SX} : xv_enter_20 post (n + 1) x1 x2 x3 u = ((((xg_curLen u) ≤ x3 → (post ((xg_made u) 0) u)) ∧ (¬ (xg_curLen u) ≤ x3 → (vp_in x1 256 ∧ ∀ a_openPos_4 : Nat → Int32, a_openPos_4 = upd (xg_openPos u) x1.toNatClampNeg x3 → (vp_in x3 256 ∧ (wpX_arity (fun r_6 => (vp_in x1 256 ∧ ∀ a_openLeft_44 : Nat → Int32, a_openLeft_44 = upd (xg_openLeft u) x1.toNatClampNeg r_6 → (∀ x1_45 : Int32, x1_45 = x1 + 1 → (∃ n57 : Nat, (xv_enter_57 post ((xv_enter_20 post n)) x3 n57 x1_45 x2 0 (xs_openPos_openLeft a_openPos_4 a_openLeft_44 u)))))) (xs_openPos a_openPos_4 u) ((xg_curKind u) x3.toNatClampNeg))))))) := rfl
theorem xe_enter {post : Int32 → SX → Prop} {u : SX} : wpX_enter post u = ((((xg_curLen u) ≤ (xg_weightLimit u) → (∃ n20 : Nat, (xv_enter_20 post n20 0 0 0 u))) ∧ (¬ (xg_curLen u) ≤ (xg_weightLimit u) → (post (-3) u)))) := rfl
theorem xe_typeOfVariable {post : Int32 → SX → Prop} {u : SX} {p0 : Int32} : wpX_typeOfVariable post u p0 = (((p0 < 0 → (post (-5) u)) ∧ (¬ p0 < 0 → (((p0 < (xg_contextLen u) → (vp_in (((xg_contextLen u) - 1) - p0) 256 ∧ (wpX_load (fun u_5 => (wpX_begin (fun u_42 => (wpX_emitShifted (fun u_79 => (wpX_commit (fun r_115 u_116 => (((r_115 = 0 → (post (-3) u_116)) ∧ (¬ r_115 = 0 → (wpX_enter (fun r_153 u_154 => (post r_153 u_154)) u_116))))) u_79)) u_42 0 (xg_curLen u_42) (p0 + 1))) u_5 (xg_weightLimit u_5))) u ((xg_context u) (((xg_contextLen u) - 1) - p0).toNatClampNeg) 0))) ∧ (¬ p0 < (xg_contextLen u) → (post (-5) u))))))) := rfl
theorem xe_typeOfEntry {post : Int32 → Prop} {u : SX} {p0 : Int32} : wpX_typeOfEntry post u p0 = (wpX_isEntry (fun r_1 => (((r_1 = 0 → (post (-6))) ∧ (¬ r_1 = 0 → (vp_in p0 16 ∧ (post ((xg_entryType u) p0.toNatClampNeg))))))) u p0) := rfl
theorem xe_isUniverse {post : Int32 → Prop} {u : SX} {p0 : Int32} : wpX_isUniverse post u p0 = (((p0 = 0 → (post 1)) ∧ (¬ p0 = 0 → (((p0 = 1 → (post 1)) ∧ (¬ p0 = 1 → (post 0))))))) := rfl
theorem xe_hasBody {post : Int32 → Prop} {u : SX} {p0 : Int32} : wpX_hasBody post u p0 = (((p0 < 0 → (post 0)) ∧ (¬ p0 < 0 → ((((xg_entryCount u) ≤ p0 → (post 0)) ∧ (¬ (xg_entryCount u) ≤ p0 → (vp_in p0 16 ∧ (((((xg_entryBody u) p0.toNatClampNeg) < 0 → (post 0)) ∧ (¬ ((xg_entryBody u) p0.toNatClampNeg) < 0 → (post 1))))))))))) := rfl
def xv_skip_7 (post : Int32 → Prop) (n : Nat) (x2 : Int32) (x3 : Int32) (x4 : Int32) (u : SX) : Prop := wX_skip_7 post u.1 u.2.1 u.2.2.1 u.2.2.2.1 u.2.2.2.2.1 u.2.2.2.2.2.1 u.2.2.2.2.2.2.1 u.2.2.2.2.2.2.2.1 u.2.2.2.2.2.2.2.2.1 u.2.2.2.2.2.2.2.2.2.1 u.2.2.2.2.2.2.2.2.2.2.1 u.2.2.2.2.2.2.2.2.2.2.2.1 u.2.2.2.2.2.2.2.2.2.2.2.2.1 u.2.2.2.2.2.2.2.2.2.2.2.2.2.1 u.2.2.2.2.2.2.2.2.2.2.2.2.2.2.1 u.2.2.2.2.2.2.2.2.2.2.2.2.2.2.2.1 u.2.2.2.2.2.2.2.2.2.2.2.2.2.2.2.2.1 u.2.2.2.2.2.2.2.2.2.2.2.2.2.2.2.2.2.1 u.2.2.2.2.2.2.2.2.2.2.2.2.2.2.2.2.2.2.1 u.2.2.2.2.2.2.2.2.2.2.2.2.2.2.2.2.2.2.2.1 u.2.2.2.2.2.2.2.2.2.2.2.2.2.2.2.2.2.2.2.2.1 u.2.2.2.2.2.2.2.2.2.2.2.2.2.2.2.2.2.2.2.2.2.1 u.2.2.2.2.2.2.2.2.2.2.2.2.2.2.2.2.2.2.2.2.2.2.1 u.2.2.2.2.2.2.2.2.2.2.2.2.2.2.2.2.2.2.2.2.2.2.2.1 u.2.2.2.2.2.2.2.2.2.2.2.2.2.2.2.2.2.2.2.2.2.2.2.2.1 u.2.2.2.2.2.2.2.2.2.2.2.2.2.2.2.2.2.2.2.2.2.2.2.2.2.1 u.2.2.2.2.2.2.2.2.2.2.2.2.2.2.2.2.2.2.2.2.2.2.2.2.2.2.1 u.2.2.2.2.2.2.2.2.2.2.2.2.2.2.2.2.2.2.2.2.2.2.2.2.2.2.2.1 u.2.2.2.2.2.2.2.2.2.2.2.2.2.2.2.2.2.2.2.2.2.2.2.2.2.2.2.2.1 u.2.2.2.2.2.2.2.2.2.2.2.2.2.2.2.2.2.2.2.2.2.2.2.2.2.2.2.2.2.1 u.2.2.2.2.2.2.2.2.2.2.2.2.2.2.2.2.2.2.2.2.2.2.2.2.2.2.2.2.2.2.1 u.2.2.2.2.2.2.2.2.2.2.2.2.2.2.2.2.2.2.2.2.2.2.2.2.2.2.2.2.2.2.2.1 u.2.2.2.2.2.2.2.2.2.2.2.2.2.2.2.2.2.2.2.2.2.2.2.2.2.2.2.2.2.2.2.2.1 u.2.2.2.2.2.2.2.2.2.2.2.2.2.2.2.2.2.2.2.2.2.2.2.2.2.2.2.2.2.2.2.2.2.1 u.2.2.2.2.2.2.2.2.2.2.2.2.2.2.2.2.2.2.2.2.2.2.2.2.2.2.2.2.2.2.2.2.2.2.1 u.2.2.2.2.2.2.2.2.2.2.2.2.2.2.2.2.2.2.2.2.2.2.2.2.2.2.2.2.2.2.2.2.2.2.2 n x2 x3 x4
theorem xe_skip_7 {post : Int32 → Prop} {n : Nat} {x2 : Int32} {x3 : Int32} {x4 : Int32} {u : SX} : xv_skip_7 post (n + 1) x2 x3 x4 u = ((((xg_curLen u) ≤ x4 → (post x3)) ∧ (¬ (xg_curLen u) ≤ x4 → (((x2 ≤ 0 → (post x3)) ∧ (¬ x2 ≤ 0 → (vp_in x4 256 ∧ (wpX_arity (fun r_4 => (∀ x2_41 : Int32, x2_41 = (x2 - 1) + r_4 → (∀ x3_42 : Int32, x3_42 = x4 + 1 → (∀ x4_43 : Int32, x4_43 = x4 + 1 → ((xv_skip_7 post n x2_41 x3_42 x4_43 u)))))) u ((xg_curKind u) x4.toNatClampNeg))))))))) := rfl
theorem xe_skip {post : Int32 → Prop} {u : SX} {p0 : Int32} : wpX_skip post u p0 = (∃ n7 : Nat, (xv_skip_7 post n7 1 p0 p0 u)) := rfl
def xv_occurs_3 (post : Int32 → Prop) (x1 : Int32) (x2 : Int32) (x3 : Int32) (n : Nat) (x4 : Int32) (u : SX) : Prop := wX_occurs_3 post x1 x2 x3 u.1 u.2.1 u.2.2.1 u.2.2.2.1 u.2.2.2.2.1 u.2.2.2.2.2.1 u.2.2.2.2.2.2.1 u.2.2.2.2.2.2.2.1 u.2.2.2.2.2.2.2.2.1 u.2.2.2.2.2.2.2.2.2.1 u.2.2.2.2.2.2.2.2.2.2.1 u.2.2.2.2.2.2.2.2.2.2.2.1 u.2.2.2.2.2.2.2.2.2.2.2.2.1 u.2.2.2.2.2.2.2.2.2.2.2.2.2.1 u.2.2.2.2.2.2.2.2.2.2.2.2.2.2.1 u.2.2.2.2.2.2.2.2.2.2.2.2.2.2.2.1 u.2.2.2.2.2.2.2.2.2.2.2.2.2.2.2.2.1 u.2.2.2.2.2.2.2.2.2.2.2.2.2.2.2.2.2.1 u.2.2.2.2.2.2.2.2.2.2.2.2.2.2.2.2.2.2.1 u.2.2.2.2.2.2.2.2.2.2.2.2.2.2.2.2.2.2.2.1 u.2.2.2.2.2.2.2.2.2.2.2.2.2.2.2.2.2.2.2.2.1 u.2.2.2.2.2.2.2.2.2.2.2.2.2.2.2.2.2.2.2.2.2.1 u.2.2.2.2.2.2.2.2.2.2.2.2.2.2.2.2.2.2.2.2.2.2.1 u.2.2.2.2.2.2.2.2.2.2.2.2.2.2.2.2.2.2.2.2.2.2.2.1 u.2.2.2.2.2.2.2.2.2.2.2.2.2.2.2.2.2.2.2.2.2.2.2.2.1 u.2.2.2.2.2.2.2.2.2.2.2.2.2.2.2.2.2.2.2.2.2.2.2.2.2.1 u.2.2.2.2.2.2.2.2.2.2.2.2.2.2.2.2.2.2.2.2.2.2.2.2.2.2.1 u.2.2.2.2.2.2.2.2.2.2.2.2.2.2.2.2.2.2.2.2.2.2.2.2.2.2.2.1 u.2.2.2.2.2.2.2.2.2.2.2.2.2.2.2.2.2.2.2.2.2.2.2.2.2.2.2.2.1 u.2.2.2.2.2.2.2.2.2.2.2.2.2.2.2.2.2.2.2.2.2.2.2.2.2.2.2.2.2.1 u.2.2.2.2.2.2.2.2.2.2.2.2.2.2.2.2.2.2.2.2.2.2.2.2.2.2.2.2.2.2.1 u.2.2.2.2.2.2.2.2.2.2.2.2.2.2.2.2.2.2.2.2.2.2.2.2.2.2.2.2.2.2.2.1 u.2.2.2.2.2.2.2.2.2.2.2.2.2.2.2.2.2.2.2.2.2.2.2.2.2.2.2.2.2.2.2.2.1 u.2.2.2.2.2.2.2.2.2.2.2.2.2.2.2.2.2.2.2.2.2.2.2.2.2.2.2.2.2.2.2.2.2.1 u.2.2.2.2.2.2.2.2.2.2.2.2.2.2.2.2.2.2.2.2.2.2.2.2.2.2.2.2.2.2.2.2.2.2.1 u.2.2.2.2.2.2.2.2.2.2.2.2.2.2.2.2.2.2.2.2.2.2.2.2.2.2.2.2.2.2.2.2.2.2.2 n x4
theorem xe_occurs_3 {post : Int32 → Prop} {x1 : Int32} {x2 : Int32} {x3 : Int32} {n : Nat} {x4 : Int32} {u : SX} : xv_occurs_3 post x1 x2 x3 (n + 1) x4 u = (((x2 ≤ x4 → (post 0)) ∧ (¬ x2 ≤ x4 → (vp_in x4 256 ∧ (((((xg_curKind u) x4.toNatClampNeg) = 5 → (vp_in x4 256 ∧ (vp_in x4 256 ∧ (vp_in x1 256 ∧ ((((((xg_curVal u) x4.toNatClampNeg) - (((xg_curDepth u) x4.toNatClampNeg) - ((xg_curDepth u) x1.toNatClampNeg))) = x3 → (post 1)) ∧ (¬ (((xg_curVal u) x4.toNatClampNeg) - (((xg_curDepth u) x4.toNatClampNeg) - ((xg_curDepth u) x1.toNatClampNeg))) = x3 → (∀ x4_9 : Int32, x4_9 = x4 + 1 → ((xv_occurs_3 post x1 x2 x3 n x4_9 u)))))))))) ∧ (¬ ((xg_curKind u) x4.toNatClampNeg) = 5 → (∀ x4_4 : Int32, x4_4 = x4 + 1 → ((xv_occurs_3 post x1 x2 x3 n x4_4 u)))))))))) := rfl
theorem xe_occurs {post : Int32 → Prop} {u : SX} {p0 : Int32} {p1 : Int32} {p2 : Int32} : wpX_occurs post u p0 p1 p2 = (∃ n3 : Nat, (xv_occurs_3 post p0 p1 p2 n3 p0 u)) := rfl
theorem xe_isEta {post : Int32 → Prop} {u : SX} {p0 : Int32} : wpX_isEta post u p0 = (wpX_skip (fun r_1 => ((((xg_curLen u) ≤ r_1 → (post 0)) ∧ (¬ (xg_curLen u) ≤ r_1 → (vp_in r_1 256 ∧ (((((xg_curKind u) r_1.toNatClampNeg) = 5 → (vp_in r_1 256 ∧ (((((xg_curVal u) r_1.toNatClampNeg) = 0 → (wpX_occurs (fun r_43 => (((r_43 = 0 → (post 1)) ∧ (¬ r_43 = 0 → (post 0))))) u (p0 + 2) r_1 0)) ∧ (¬ ((xg_curVal u) r_1.toNatClampNeg) = 0 → (post 0)))))) ∧ (¬ ((xg_curKind u) r_1.toNatClampNeg) = 5 → (post 0))))))))) u (p0 + 2)) := rfl
theorem xe_isRedex {post : Int32 → Prop} {u : SX} {p0 : Int32} {p1 : Int32} : wpX_isRedex post u p0 p1 = (vp_in p0 256 ∧ (∀ x3_2 : Int32, x3_2 = (xg_curKind u) p0.toNatClampNeg → (((x3_2 = 10 → (vp_in p0 256 ∧ (wpX_hasBody (fun r_55 => (narrow .boolean (.int r_55) = .int r_55 ∧ (post r_55))) u ((xg_curVal u) p0.toNatClampNeg)))) ∧ (¬ x3_2 = 10 → ((((p0 + 1) < (xg_curLen u) → (vp_in (p0 + 1) 256 ∧ (∀ x4_6 : Int32, x4_6 = (xg_curKind u) (p0 + 1).toNatClampNeg → (((x3_2 = 8 → (((x4_6 = 7 → (post 1)) ∧ (¬ x4_6 = 7 → (((x4_6 = 11 → (post 1)) ∧ (¬ x4_6 = 11 → (post 0)))))))) ∧ (¬ x3_2 = 8 → (((x3_2 = 9 → (((x4_6 = 3 → (post 1)) ∧ (¬ x4_6 = 3 → (((x4_6 = 4 → (post 1)) ∧ (¬ x4_6 = 4 → (post 0)))))))) ∧ (¬ x3_2 = 9 → (((x3_2 = 11 → (((p1 = 0 → (post 0)) ∧ (¬ p1 = 0 → (((x4_6 = 8 → (wpX_isEta (fun r_12 => (narrow .boolean (.int r_12) = .int r_12 ∧ (post r_12))) u p0)) ∧ (¬ x4_6 = 8 → (post 0)))))))) ∧ (¬ x3_2 = 11 → (post 0))))))))))))) ∧ (¬ (p0 + 1) < (xg_curLen u) → (post 0))))))))) := rfl
def xv_findRedex_5 (post : Int32 → Prop) (x1 : Int32) (x2 : Int32) (n : Nat) (x3 : Int32) (x4 : Int32) (u : SX) : Prop := wX_findRedex_5 post x1 x2 u.1 u.2.1 u.2.2.1 u.2.2.2.1 u.2.2.2.2.1 u.2.2.2.2.2.1 u.2.2.2.2.2.2.1 u.2.2.2.2.2.2.2.1 u.2.2.2.2.2.2.2.2.1 u.2.2.2.2.2.2.2.2.2.1 u.2.2.2.2.2.2.2.2.2.2.1 u.2.2.2.2.2.2.2.2.2.2.2.1 u.2.2.2.2.2.2.2.2.2.2.2.2.1 u.2.2.2.2.2.2.2.2.2.2.2.2.2.1 u.2.2.2.2.2.2.2.2.2.2.2.2.2.2.1 u.2.2.2.2.2.2.2.2.2.2.2.2.2.2.2.1 u.2.2.2.2.2.2.2.2.2.2.2.2.2.2.2.2.1 u.2.2.2.2.2.2.2.2.2.2.2.2.2.2.2.2.2.1 u.2.2.2.2.2.2.2.2.2.2.2.2.2.2.2.2.2.2.1 u.2.2.2.2.2.2.2.2.2.2.2.2.2.2.2.2.2.2.2.1 u.2.2.2.2.2.2.2.2.2.2.2.2.2.2.2.2.2.2.2.2.1 u.2.2.2.2.2.2.2.2.2.2.2.2.2.2.2.2.2.2.2.2.2.1 u.2.2.2.2.2.2.2.2.2.2.2.2.2.2.2.2.2.2.2.2.2.2.1 u.2.2.2.2.2.2.2.2.2.2.2.2.2.2.2.2.2.2.2.2.2.2.2.1 u.2.2.2.2.2.2.2.2.2.2.2.2.2.2.2.2.2.2.2.2.2.2.2.2.1 u.2.2.2.2.2.2.2.2.2.2.2.2.2.2.2.2.2.2.2.2.2.2.2.2.2.1 u.2.2.2.2.2.2.2.2.2.2.2.2.2.2.2.2.2.2.2.2.2.2.2.2.2.2.1 u.2.2.2.2.2.2.2.2.2.2.2.2.2.2.2.2.2.2.2.2.2.2.2.2.2.2.2.1 u.2.2.2.2.2.2.2.2.2.2.2.2.2.2.2.2.2.2.2.2.2.2.2.2.2.2.2.2.1 u.2.2.2.2.2.2.2.2.2.2.2.2.2.2.2.2.2.2.2.2.2.2.2.2.2.2.2.2.2.1 u.2.2.2.2.2.2.2.2.2.2.2.2.2.2.2.2.2.2.2.2.2.2.2.2.2.2.2.2.2.2.1 u.2.2.2.2.2.2.2.2.2.2.2.2.2.2.2.2.2.2.2.2.2.2.2.2.2.2.2.2.2.2.2.1 u.2.2.2.2.2.2.2.2.2.2.2.2.2.2.2.2.2.2.2.2.2.2.2.2.2.2.2.2.2.2.2.2.1 u.2.2.2.2.2.2.2.2.2.2.2.2.2.2.2.2.2.2.2.2.2.2.2.2.2.2.2.2.2.2.2.2.2.1 u.2.2.2.2.2.2.2.2.2.2.2.2.2.2.2.2.2.2.2.2.2.2.2.2.2.2.2.2.2.2.2.2.2.2.1 u.2.2.2.2.2.2.2.2.2.2.2.2.2.2.2.2.2.2.2.2.2.2.2.2.2.2.2.2.2.2.2.2.2.2.2 n x3 x4
theorem xe_findRedex_5 {post : Int32 → Prop} {x1 : Int32} {x2 : Int32} {n : Nat} {x3 : Int32} {x4 : Int32} {u : SX} : xv_findRedex_5 post x1 x2 (n + 1) x3 x4 u = ((((xg_curLen u) ≤ x4 → (post (-13))) ∧ (¬ (xg_curLen u) ≤ x4 → (wpX_isRedex (fun r_2 => (((r_2 = 0 → (∀ x4_40 : Int32, x4_40 = x4 + 1 → ((xv_findRedex_5 post x1 x2 n x3 x4_40 u)))) ∧ (¬ r_2 = 0 → (((x3 = x1 → (post x4)) ∧ (¬ x3 = x1 → (∀ x3_42 : Int32, x3_42 = x3 + 1 → (∀ x4_43 : Int32, x4_43 = x4 + 1 → ((xv_findRedex_5 post x1 x2 n x3_42 x4_43 u))))))))))) u x4 x2)))) := rfl
theorem xe_findRedex {post : Int32 → Prop} {u : SX} {p0 : Int32} {p1 : Int32} : wpX_findRedex post u p0 p1 = (∃ n5 : Nat, (xv_findRedex_5 post p0 p1 n5 0 0 u)) := rfl
def xv_emitRange_2 (post : SX → Prop) (x2 : Int32) (n : Nat) (x3 : Int32) (u : SX) : Prop := wX_emitRange_2 post x2 n x3 u.1 u.2.1 u.2.2.1 u.2.2.2.1 u.2.2.2.2.1 u.2.2.2.2.2.1 u.2.2.2.2.2.2.1 u.2.2.2.2.2.2.2.1 u.2.2.2.2.2.2.2.2.1 u.2.2.2.2.2.2.2.2.2.1 u.2.2.2.2.2.2.2.2.2.2.1 u.2.2.2.2.2.2.2.2.2.2.2.1 u.2.2.2.2.2.2.2.2.2.2.2.2.1 u.2.2.2.2.2.2.2.2.2.2.2.2.2.1 u.2.2.2.2.2.2.2.2.2.2.2.2.2.2.1 u.2.2.2.2.2.2.2.2.2.2.2.2.2.2.2.1 u.2.2.2.2.2.2.2.2.2.2.2.2.2.2.2.2.1 u.2.2.2.2.2.2.2.2.2.2.2.2.2.2.2.2.2.1 u.2.2.2.2.2.2.2.2.2.2.2.2.2.2.2.2.2.2.1 u.2.2.2.2.2.2.2.2.2.2.2.2.2.2.2.2.2.2.2.1 u.2.2.2.2.2.2.2.2.2.2.2.2.2.2.2.2.2.2.2.2.1 u.2.2.2.2.2.2.2.2.2.2.2.2.2.2.2.2.2.2.2.2.2.1 u.2.2.2.2.2.2.2.2.2.2.2.2.2.2.2.2.2.2.2.2.2.2.1 u.2.2.2.2.2.2.2.2.2.2.2.2.2.2.2.2.2.2.2.2.2.2.2.1 u.2.2.2.2.2.2.2.2.2.2.2.2.2.2.2.2.2.2.2.2.2.2.2.2.1 u.2.2.2.2.2.2.2.2.2.2.2.2.2.2.2.2.2.2.2.2.2.2.2.2.2.1 u.2.2.2.2.2.2.2.2.2.2.2.2.2.2.2.2.2.2.2.2.2.2.2.2.2.2.1 u.2.2.2.2.2.2.2.2.2.2.2.2.2.2.2.2.2.2.2.2.2.2.2.2.2.2.2.1 u.2.2.2.2.2.2.2.2.2.2.2.2.2.2.2.2.2.2.2.2.2.2.2.2.2.2.2.2.1 u.2.2.2.2.2.2.2.2.2.2.2.2.2.2.2.2.2.2.2.2.2.2.2.2.2.2.2.2.2.1 u.2.2.2.2.2.2.2.2.2.2.2.2.2.2.2.2.2.2.2.2.2.2.2.2.2.2.2.2.2.2.1 u.2.2.2.2.2.2.2.2.2.2.2.2.2.2.2.2.2.2.2.2.2.2.2.2.2.2.2.2.2.2.2.1 u.2.2.2.2.2.2.2.2.2.2.2.2.2.2.2.2.2.2.2.2.2.2.2.2.2.2.2.2.2.2.2.2.1 u.2.2.2.2.2.2.2.2.2.2.2.2.2.2.2.2.2.2.2.2.2.2.2.2.2.2.2.2.2.2.2.2.2.1 u.2.2.2.2.2.2.2.2.2.2.2.2.2.2.2.2.2.2.2.2.2.2.2.2.2.2.2.2.2.2.2.2.2.2.1 u.2.2.2.2.2.2.2.2.2.2.2.2.2.2.2.2.2.2.2.2.2.2.2.2.2.2.2.2.2.2.2.2.2.2.2
theorem xe_emitRange_2 {post : SX → Prop} {x2 : Int32} {n : Nat} {x3 : Int32} {u : SX} : xv_emitRange_2 post x2 (n + 1) x3 u = (((x2 ≤ x3 → (post u)) ∧ (¬ x2 ≤ x3 → (vp_in x3 256 ∧ (vp_in x3 256 ∧ (wpX_emit (fun u_5 => (∀ x3_41 : Int32, x3_41 = x3 + 1 → ((xv_emitRange_2 post x2 n x3_41 u_5)))) u ((xg_curKind u) x3.toNatClampNeg) ((xg_curVal u) x3.toNatClampNeg))))))) := rfl
theorem xe_emitRange {post : SX → Prop} {u : SX} {p0 : Int32} {p1 : Int32} : wpX_emitRange post u p0 p1 = (∃ n2 : Nat, (xv_emitRange_2 post p1 n2 p0 u)) := rfl
def xv_emitSubst_52 (post : SX → Prop) (J3 : Int32 → SX → Prop) (x1 : Int32) (x2 : Int32) (x3 : Int32) (x4 : Int32) (x5 : Int32) (u : SX) : Prop := wX_emitSubst_52 post (fun x4' f_pending' f_nodeLimit' f_weightLimit' f_fuelLimit' f_entryLimit' f_count' f_base' f_entryCount' f_tickCount' f_blameNode' f_curLen' f_outLen' f_outCap' f_outOver' f_frameTop' f_answer' f_contextLen' a_kind' a_part' a_heavy' a_entryBody' a_entryClaim' a_entryType' a_curKind' a_curVal' a_curDepth' a_outKind' a_outVal' a_pend' a_openPos' a_openLeft' a_made' a_frameNode' a_frameStep' a_frameKeep' a_context' => J3 x4' (f_pending', f_nodeLimit', f_weightLimit', f_fuelLimit', f_entryLimit', f_count', f_base', f_entryCount', f_tickCount', f_blameNode', f_curLen', f_outLen', f_outCap', f_outOver', f_frameTop', f_answer', f_contextLen', a_kind', a_part', a_heavy', a_entryBody', a_entryClaim', a_entryType', a_curKind', a_curVal', a_curDepth', a_outKind', a_outVal', a_pend', a_openPos', a_openLeft', a_made', a_frameNode', a_frameStep', a_frameKeep', a_context')) x1 x2 x3 x4 x5 u.1 u.2.1 u.2.2.1 u.2.2.2.1 u.2.2.2.2.1 u.2.2.2.2.2.1 u.2.2.2.2.2.2.1 u.2.2.2.2.2.2.2.1 u.2.2.2.2.2.2.2.2.1 u.2.2.2.2.2.2.2.2.2.1 u.2.2.2.2.2.2.2.2.2.2.1 u.2.2.2.2.2.2.2.2.2.2.2.1 u.2.2.2.2.2.2.2.2.2.2.2.2.1 u.2.2.2.2.2.2.2.2.2.2.2.2.2.1 u.2.2.2.2.2.2.2.2.2.2.2.2.2.2.1 u.2.2.2.2.2.2.2.2.2.2.2.2.2.2.2.1 u.2.2.2.2.2.2.2.2.2.2.2.2.2.2.2.2.1 u.2.2.2.2.2.2.2.2.2.2.2.2.2.2.2.2.2.1 u.2.2.2.2.2.2.2.2.2.2.2.2.2.2.2.2.2.2.1 u.2.2.2.2.2.2.2.2.2.2.2.2.2.2.2.2.2.2.2.1 u.2.2.2.2.2.2.2.2.2.2.2.2.2.2.2.2.2.2.2.2.1 u.2.2.2.2.2.2.2.2.2.2.2.2.2.2.2.2.2.2.2.2.2.1 u.2.2.2.2.2.2.2.2.2.2.2.2.2.2.2.2.2.2.2.2.2.2.1 u.2.2.2.2.2.2.2.2.2.2.2.2.2.2.2.2.2.2.2.2.2.2.2.1 u.2.2.2.2.2.2.2.2.2.2.2.2.2.2.2.2.2.2.2.2.2.2.2.2.1 u.2.2.2.2.2.2.2.2.2.2.2.2.2.2.2.2.2.2.2.2.2.2.2.2.2.1 u.2.2.2.2.2.2.2.2.2.2.2.2.2.2.2.2.2.2.2.2.2.2.2.2.2.2.1 u.2.2.2.2.2.2.2.2.2.2.2.2.2.2.2.2.2.2.2.2.2.2.2.2.2.2.2.1 u.2.2.2.2.2.2.2.2.2.2.2.2.2.2.2.2.2.2.2.2.2.2.2.2.2.2.2.2.1 u.2.2.2.2.2.2.2.2.2.2.2.2.2.2.2.2.2.2.2.2.2.2.2.2.2.2.2.2.2.1 u.2.2.2.2.2.2.2.2.2.2.2.2.2.2.2.2.2.2.2.2.2.2.2.2.2.2.2.2.2.2.1 u.2.2.2.2.2.2.2.2.2.2.2.2.2.2.2.2.2.2.2.2.2.2.2.2.2.2.2.2.2.2.2.1 u.2.2.2.2.2.2.2.2.2.2.2.2.2.2.2.2.2.2.2.2.2.2.2.2.2.2.2.2.2.2.2.2.1 u.2.2.2.2.2.2.2.2.2.2.2.2.2.2.2.2.2.2.2.2.2.2.2.2.2.2.2.2.2.2.2.2.2.1 u.2.2.2.2.2.2.2.2.2.2.2.2.2.2.2.2.2.2.2.2.2.2.2.2.2.2.2.2.2.2.2.2.2.2.1 u.2.2.2.2.2.2.2.2.2.2.2.2.2.2.2.2.2.2.2.2.2.2.2.2.2.2.2.2.2.2.2.2.2.2.2
theorem xe_emitSubst_52 {post : SX → Prop} {J3 : Int32 → SX → Prop} {x1 : Int32} {x2 : Int32} {x3 : Int32} {x4 : Int32} {x5 : Int32} {u : SX} : xv_emitSubst_52 post J3 x1 x2 x3 x4 x5 u = (vp_in x4 256 ∧ (wpX_emit (fun u_11 => (∀ x4_47 : Int32, x4_47 = x4 + 1 → ((J3 x4_47 u_11)))) u ((xg_curKind u) x4.toNatClampNeg) x5)) := rfl
def xv_emitSubst_3 (post : SX → Prop) (x1 : Int32) (x2 : Int32) (x3 : Int32) (n : Nat) (x4 : Int32) (u : SX) : Prop := wX_emitSubst_3 post x1 x2 x3 n x4 u.1 u.2.1 u.2.2.1 u.2.2.2.1 u.2.2.2.2.1 u.2.2.2.2.2.1 u.2.2.2.2.2.2.1 u.2.2.2.2.2.2.2.1 u.2.2.2.2.2.2.2.2.1 u.2.2.2.2.2.2.2.2.2.1 u.2.2.2.2.2.2.2.2.2.2.1 u.2.2.2.2.2.2.2.2.2.2.2.1 u.2.2.2.2.2.2.2.2.2.2.2.2.1 u.2.2.2.2.2.2.2.2.2.2.2.2.2.1 u.2.2.2.2.2.2.2.2.2.2.2.2.2.2.1 u.2.2.2.2.2.2.2.2.2.2.2.2.2.2.2.1 u.2.2.2.2.2.2.2.2.2.2.2.2.2.2.2.2.1 u.2.2.2.2.2.2.2.2.2.2.2.2.2.2.2.2.2.1 u.2.2.2.2.2.2.2.2.2.2.2.2.2.2.2.2.2.2.1 u.2.2.2.2.2.2.2.2.2.2.2.2.2.2.2.2.2.2.2.1 u.2.2.2.2.2.2.2.2.2.2.2.2.2.2.2.2.2.2.2.2.1 u.2.2.2.2.2.2.2.2.2.2.2.2.2.2.2.2.2.2.2.2.2.1 u.2.2.2.2.2.2.2.2.2.2.2.2.2.2.2.2.2.2.2.2.2.2.1 u.2.2.2.2.2.2.2.2.2.2.2.2.2.2.2.2.2.2.2.2.2.2.2.1 u.2.2.2.2.2.2.2.2.2.2.2.2.2.2.2.2.2.2.2.2.2.2.2.2.1 u.2.2.2.2.2.2.2.2.2.2.2.2.2.2.2.2.2.2.2.2.2.2.2.2.2.1 u.2.2.2.2.2.2.2.2.2.2.2.2.2.2.2.2.2.2.2.2.2.2.2.2.2.2.1 u.2.2.2.2.2.2.2.2.2.2.2.2.2.2.2.2.2.2.2.2.2.2.2.2.2.2.2.1 u.2.2.2.2.2.2.2.2.2.2.2.2.2.2.2.2.2.2.2.2.2.2.2.2.2.2.2.2.1 u.2.2.2.2.2.2.2.2.2.2.2.2.2.2.2.2.2.2.2.2.2.2.2.2.2.2.2.2.2.1 u.2.2.2.2.2.2.2.2.2.2.2.2.2.2.2.2.2.2.2.2.2.2.2.2.2.2.2.2.2.2.1 u.2.2.2.2.2.2.2.2.2.2.2.2.2.2.2.2.2.2.2.2.2.2.2.2.2.2.2.2.2.2.2.1 u.2.2.2.2.2.2.2.2.2.2.2.2.2.2.2.2.2.2.2.2.2.2.2.2.2.2.2.2.2.2.2.2.1 u.2.2.2.2.2.2.2.2.2.2.2.2.2.2.2.2.2.2.2.2.2.2.2.2.2.2.2.2.2.2.2.2.2.1 u.2.2.2.2.2.2.2.2.2.2.2.2.2.2.2.2.2.2.2.2.2.2.2.2.2.2.2.2.2.2.2.2.2.2.1 u.2.2.2.2.2.2.2.2.2.2.2.2.2.2.2.2.2.2.2.2.2.2.2.2.2.2.2.2.2.2.2.2.2.2.2
theorem xe_emitSubst_3 {post : SX → Prop} {x1 : Int32} {x2 : Int32} {x3 : Int32} {n : Nat} {x4 : Int32} {u : SX} : xv_emitSubst_3 post x1 x2 x3 (n + 1) x4 u = (((x2 ≤ x4 → (post u)) ∧ (¬ x2 ≤ x4 → (vp_in x4 256 ∧ (∀ x5_3 : Int32, x5_3 = (xg_curVal u) x4.toNatClampNeg → (vp_in x4 256 ∧ (vp_in x1 256 ∧ (∀ x6_6 : Int32, x6_6 = ((xg_curDepth u) x4.toNatClampNeg) - ((xg_curDepth u) x1.toNatClampNeg) → (vp_in x4 256 ∧ (((((xg_curKind u) x4.toNatClampNeg) = 5 → (((x6_6 ≤ x5_3 → (((x5_3 = x6_6 → (wpX_emitShifted (fun u_89 => (∀ x4_125 : Int32, x4_125 = x4 + 1 → ((xv_emitSubst_3 post x1 x2 x3 n x4_125 u_89)))) u x2 x3 x6_6)) ∧ (¬ x5_3 = x6_6 → (wpX_emit (fun u_51 => (∀ x4_87 : Int32, x4_87 = x4 + 1 → ((xv_emitSubst_3 post x1 x2 x3 n x4_87 u_51)))) u 5 (x5_3 - 1)))))) ∧ (¬ x6_6 ≤ x5_3 → ((xv_emitSubst_52 post ((xv_emitSubst_3 post x1 x2 x3 n)) x1 x2 x3 x4 x5_3 u)))))) ∧ (¬ ((xg_curKind u) x4.toNatClampNeg) = 5 → ((xv_emitSubst_52 post ((xv_emitSubst_3 post x1 x2 x3 n)) x1 x2 x3 x4 x5_3 u)))))))))))))) := rfl
theorem xe_emitSubst {post : SX → Prop} {u : SX} {p0 : Int32} {p1 : Int32} {p2 : Int32} : wpX_emitSubst post u p0 p1 p2 = (∃ n3 : Nat, (xv_emitSubst_3 post p0 p1 p2 n3 p0 u)) := rfl
def xv_emitBeta_25 (post : SX → Prop) (x2 : Int32) (x3 : Int32) (u : SX) : Prop := wX_emitBeta_25 post x2 x3 u.1 u.2.1 u.2.2.1 u.2.2.2.1 u.2.2.2.2.1 u.2.2.2.2.2.1 u.2.2.2.2.2.2.1 u.2.2.2.2.2.2.2.1 u.2.2.2.2.2.2.2.2.1 u.2.2.2.2.2.2.2.2.2.1 u.2.2.2.2.2.2.2.2.2.2.1 u.2.2.2.2.2.2.2.2.2.2.2.1 u.2.2.2.2.2.2.2.2.2.2.2.2.1 u.2.2.2.2.2.2.2.2.2.2.2.2.2.1 u.2.2.2.2.2.2.2.2.2.2.2.2.2.2.1 u.2.2.2.2.2.2.2.2.2.2.2.2.2.2.2.1 u.2.2.2.2.2.2.2.2.2.2.2.2.2.2.2.2.1 u.2.2.2.2.2.2.2.2.2.2.2.2.2.2.2.2.2.1 u.2.2.2.2.2.2.2.2.2.2.2.2.2.2.2.2.2.2.1 u.2.2.2.2.2.2.2.2.2.2.2.2.2.2.2.2.2.2.2.1 u.2.2.2.2.2.2.2.2.2.2.2.2.2.2.2.2.2.2.2.2.1 u.2.2.2.2.2.2.2.2.2.2.2.2.2.2.2.2.2.2.2.2.2.1 u.2.2.2.2.2.2.2.2.2.2.2.2.2.2.2.2.2.2.2.2.2.2.1 u.2.2.2.2.2.2.2.2.2.2.2.2.2.2.2.2.2.2.2.2.2.2.2.1 u.2.2.2.2.2.2.2.2.2.2.2.2.2.2.2.2.2.2.2.2.2.2.2.2.1 u.2.2.2.2.2.2.2.2.2.2.2.2.2.2.2.2.2.2.2.2.2.2.2.2.2.1 u.2.2.2.2.2.2.2.2.2.2.2.2.2.2.2.2.2.2.2.2.2.2.2.2.2.2.1 u.2.2.2.2.2.2.2.2.2.2.2.2.2.2.2.2.2.2.2.2.2.2.2.2.2.2.2.1 u.2.2.2.2.2.2.2.2.2.2.2.2.2.2.2.2.2.2.2.2.2.2.2.2.2.2.2.2.1 u.2.2.2.2.2.2.2.2.2.2.2.2.2.2.2.2.2.2.2.2.2.2.2.2.2.2.2.2.2.1 u.2.2.2.2.2.2.2.2.2.2.2.2.2.2.2.2.2.2.2.2.2.2.2.2.2.2.2.2.2.2.1 u.2.2.2.2.2.2.2.2.2.2.2.2.2.2.2.2.2.2.2.2.2.2.2.2.2.2.2.2.2.2.2.1 u.2.2.2.2.2.2.2.2.2.2.2.2.2.2.2.2.2.2.2.2.2.2.2.2.2.2.2.2.2.2.2.2.1 u.2.2.2.2.2.2.2.2.2.2.2.2.2.2.2.2.2.2.2.2.2.2.2.2.2.2.2.2.2.2.2.2.2.1 u.2.2.2.2.2.2.2.2.2.2.2.2.2.2.2.2.2.2.2.2.2.2.2.2.2.2.2.2.2.2.2.2.2.2.1 u.2.2.2.2.2.2.2.2.2.2.2.2.2.2.2.2.2.2.2.2.2.2.2.2.2.2.2.2.2.2.2.2.2.2.2
theorem xe_emitBeta_25 {post : SX → Prop} {x2 : Int32} {x3 : Int32} {u : SX} : xv_emitBeta_25 post x2 x3 u = (wpX_skip (fun r_4 => (wpX_emitSubst (fun u_42 => (post u_42)) u x3 r_4 x2)) u x3) := rfl
theorem xe_emitBeta {post : SX → Prop} {u : SX} {p0 : Int32} {p1 : Int32} : wpX_emitBeta post u p0 p1 = (∀ x3_1 : Int32, x3_1 = p0 + 2 → (vp_in (p0 + 1) 256 ∧ (((((xg_curKind u) (p0 + 1).toNatClampNeg) = 7 → (wpX_skip (fun r_78 => ((xv_emitBeta_25 post p1 r_78 u))) u (p0 + 2))) ∧ (¬ ((xg_curKind u) (p0 + 1).toNatClampNeg) = 7 → ((xv_emitBeta_25 post p1 x3_1 u))))))) := rfl
theorem xe_emitIota {post : SX → Prop} {u : SX} {p0 : Int32} {p1 : Int32} : wpX_emitIota post u p0 p1 = (wpX_skip (fun r_1 => (wpX_skip (fun r_38 => (wpX_skip (fun r_75 => (vp_in (p0 + 1) 256 ∧ (((((xg_curKind u) (p0 + 1).toNatClampNeg) = 3 → (wpX_emitRange (fun u_337 => (post u_337)) u r_38 r_75)) ∧ (¬ ((xg_curKind u) (p0 + 1).toNatClampNeg) = 3 → (wpX_emit (fun u_115 => (wpX_emit (fun u_152 => (wpX_emitRange (fun u_189 => (wpX_emitRange (fun u_226 => (wpX_emit (fun u_263 => (wpX_emitRange (fun u_300 => (post u_300)) u_263 (p0 + 2) p1)) u_226 9 0)) u_189 (p0 + 2) r_1)) u_152 r_75 p1)) u_115 8 0)) u 8 0)))))) u r_38)) u r_1)) u (p0 + 1)) := rfl
def xv_contract_100 (post : Int32 → SX → Prop) (x3 : Int32) (u : SX) : Prop := wX_contract_100 post x3 u.1 u.2.1 u.2.2.1 u.2.2.2.1 u.2.2.2.2.1 u.2.2.2.2.2.1 u.2.2.2.2.2.2.1 u.2.2.2.2.2.2.2.1 u.2.2.2.2.2.2.2.2.1 u.2.2.2.2.2.2.2.2.2.1 u.2.2.2.2.2.2.2.2.2.2.1 u.2.2.2.2.2.2.2.2.2.2.2.1 u.2.2.2.2.2.2.2.2.2.2.2.2.1 u.2.2.2.2.2.2.2.2.2.2.2.2.2.1 u.2.2.2.2.2.2.2.2.2.2.2.2.2.2.1 u.2.2.2.2.2.2.2.2.2.2.2.2.2.2.2.1 u.2.2.2.2.2.2.2.2.2.2.2.2.2.2.2.2.1 u.2.2.2.2.2.2.2.2.2.2.2.2.2.2.2.2.2.1 u.2.2.2.2.2.2.2.2.2.2.2.2.2.2.2.2.2.2.1 u.2.2.2.2.2.2.2.2.2.2.2.2.2.2.2.2.2.2.2.1 u.2.2.2.2.2.2.2.2.2.2.2.2.2.2.2.2.2.2.2.2.1 u.2.2.2.2.2.2.2.2.2.2.2.2.2.2.2.2.2.2.2.2.2.1 u.2.2.2.2.2.2.2.2.2.2.2.2.2.2.2.2.2.2.2.2.2.2.1 u.2.2.2.2.2.2.2.2.2.2.2.2.2.2.2.2.2.2.2.2.2.2.2.1 u.2.2.2.2.2.2.2.2.2.2.2.2.2.2.2.2.2.2.2.2.2.2.2.2.1 u.2.2.2.2.2.2.2.2.2.2.2.2.2.2.2.2.2.2.2.2.2.2.2.2.2.1 u.2.2.2.2.2.2.2.2.2.2.2.2.2.2.2.2.2.2.2.2.2.2.2.2.2.2.1 u.2.2.2.2.2.2.2.2.2.2.2.2.2.2.2.2.2.2.2.2.2.2.2.2.2.2.2.1 u.2.2.2.2.2.2.2.2.2.2.2.2.2.2.2.2.2.2.2.2.2.2.2.2.2.2.2.2.1 u.2.2.2.2.2.2.2.2.2.2.2.2.2.2.2.2.2.2.2.2.2.2.2.2.2.2.2.2.2.1 u.2.2.2.2.2.2.2.2.2.2.2.2.2.2.2.2.2.2.2.2.2.2.2.2.2.2.2.2.2.2.1 u.2.2.2.2.2.2.2.2.2.2.2.2.2.2.2.2.2.2.2.2.2.2.2.2.2.2.2.2.2.2.2.1 u.2.2.2.2.2.2.2.2.2.2.2.2.2.2.2.2.2.2.2.2.2.2.2.2.2.2.2.2.2.2.2.2.1 u.2.2.2.2.2.2.2.2.2.2.2.2.2.2.2.2.2.2.2.2.2.2.2.2.2.2.2.2.2.2.2.2.2.1 u.2.2.2.2.2.2.2.2.2.2.2.2.2.2.2.2.2.2.2.2.2.2.2.2.2.2.2.2.2.2.2.2.2.2.1 u.2.2.2.2.2.2.2.2.2.2.2.2.2.2.2.2.2.2.2.2.2.2.2.2.2.2.2.2.2.2.2.2.2.2.2
theorem xe_contract_100 {post : Int32 → SX → Prop} {x3 : Int32} {u : SX} : xv_contract_100 post x3 u = (wpX_emitRange (fun u_154 => (wpX_commit (fun r_190 u_191 => (narrow .boolean (.int r_190) = .int r_190 ∧ (post r_190 u_191))) u_154)) u x3 (xg_curLen u)) := rfl
theorem xe_contract {post : Int32 → SX → Prop} {u : SX} {p0 : Int32} {p1 : Int32} : wpX_contract post u p0 p1 = (wpX_skip (fun r_1 => (wpX_begin (fun u_39 => (wpX_emitRange (fun u_76 => (vp_in p0 256 ∧ (∀ k_113 : Int32, k_113 = (xg_curKind u_76) p0.toNatClampNeg → (((k_113 < 8 → (wpX_emitShifted (fun u_117 => ((xv_contract_100 post r_1 u_117))) u_76 (p0 + 2) (r_1 - 1) (-1))) ∧ (¬ k_113 < 8 → (((10 < k_113 → (wpX_emitShifted (fun u_229 => ((xv_contract_100 post r_1 u_229))) u_76 (p0 + 2) (r_1 - 1) (-1))) ∧ (¬ 10 < k_113 → (((k_113 = 8 → (wpX_emitBeta (fun u_267 => ((xv_contract_100 post r_1 u_267))) u_76 p0 r_1)) ∧ (¬ k_113 = 8 → (((k_113 = 9 → (wpX_emitIota (fun u_305 => ((xv_contract_100 post r_1 u_305))) u_76 p0 r_1)) ∧ (¬ k_113 = 9 → (((k_113 = 10 → (vp_in p0 256 ∧ (vp_in ((xg_curVal u_76) p0.toNatClampNeg) 16 ∧ (wpX_emitNode (fun u_345 => ((xv_contract_100 post r_1 u_345))) u_76 ((xg_entryBody u_76) ((xg_curVal u_76) p0.toNatClampNeg).toNatClampNeg) p1)))) ∧ (¬ k_113 = 10 → (True))))))))))))))))))) u_39 0 p0)) u (xg_weightLimit u))) u p0) := rfl
def xv_normCurrent_2 (post : Int32 → SX → Prop) (n : Nat) (x1 : Int32) (u : SX) : Prop := wX_normCurrent_2 post n x1 u.1 u.2.1 u.2.2.1 u.2.2.2.1 u.2.2.2.2.1 u.2.2.2.2.2.1 u.2.2.2.2.2.2.1 u.2.2.2.2.2.2.2.1 u.2.2.2.2.2.2.2.2.1 u.2.2.2.2.2.2.2.2.2.1 u.2.2.2.2.2.2.2.2.2.2.1 u.2.2.2.2.2.2.2.2.2.2.2.1 u.2.2.2.2.2.2.2.2.2.2.2.2.1 u.2.2.2.2.2.2.2.2.2.2.2.2.2.1 u.2.2.2.2.2.2.2.2.2.2.2.2.2.2.1 u.2.2.2.2.2.2.2.2.2.2.2.2.2.2.2.1 u.2.2.2.2.2.2.2.2.2.2.2.2.2.2.2.2.1 u.2.2.2.2.2.2.2.2.2.2.2.2.2.2.2.2.2.1 u.2.2.2.2.2.2.2.2.2.2.2.2.2.2.2.2.2.2.1 u.2.2.2.2.2.2.2.2.2.2.2.2.2.2.2.2.2.2.2.1 u.2.2.2.2.2.2.2.2.2.2.2.2.2.2.2.2.2.2.2.2.1 u.2.2.2.2.2.2.2.2.2.2.2.2.2.2.2.2.2.2.2.2.2.1 u.2.2.2.2.2.2.2.2.2.2.2.2.2.2.2.2.2.2.2.2.2.2.1 u.2.2.2.2.2.2.2.2.2.2.2.2.2.2.2.2.2.2.2.2.2.2.2.1 u.2.2.2.2.2.2.2.2.2.2.2.2.2.2.2.2.2.2.2.2.2.2.2.2.1 u.2.2.2.2.2.2.2.2.2.2.2.2.2.2.2.2.2.2.2.2.2.2.2.2.2.1 u.2.2.2.2.2.2.2.2.2.2.2.2.2.2.2.2.2.2.2.2.2.2.2.2.2.2.1 u.2.2.2.2.2.2.2.2.2.2.2.2.2.2.2.2.2.2.2.2.2.2.2.2.2.2.2.1 u.2.2.2.2.2.2.2.2.2.2.2.2.2.2.2.2.2.2.2.2.2.2.2.2.2.2.2.2.1 u.2.2.2.2.2.2.2.2.2.2.2.2.2.2.2.2.2.2.2.2.2.2.2.2.2.2.2.2.2.1 u.2.2.2.2.2.2.2.2.2.2.2.2.2.2.2.2.2.2.2.2.2.2.2.2.2.2.2.2.2.2.1 u.2.2.2.2.2.2.2.2.2.2.2.2.2.2.2.2.2.2.2.2.2.2.2.2.2.2.2.2.2.2.2.1 u.2.2.2.2.2.2.2.2.2.2.2.2.2.2.2.2.2.2.2.2.2.2.2.2.2.2.2.2.2.2.2.2.1 u.2.2.2.2.2.2.2.2.2.2.2.2.2.2.2.2.2.2.2.2.2.2.2.2.2.2.2.2.2.2.2.2.2.1 u.2.2.2.2.2.2.2.2.2.2.2.2.2.2.2.2.2.2.2.2.2.2.2.2.2.2.2.2.2.2.2.2.2.2.1 u.2.2.2.2.2.2.2.2.2.2.2.2.2.2.2.2.2.2.2.2.2.2.2.2.2.2.2.2.2.2.2.2.2.2.2
theorem xe_normCurrent_2 {post : Int32 → SX → Prop} {n : Nat} {x1 : Int32} {u : SX} : xv_normCurrent_2 post (n + 1) x1 u = ((((xg_fuelLimit u) < x1 → (post (-4) u)) ∧ (¬ (xg_fuelLimit u) < x1 → (wpX_findRedex (fun r_2 => (((0 ≤ r_2 → ((((xg_tickCount u) < (xg_fuelLimit u) → (∀ f_tickCount_41 : Int32, f_tickCount_41 = (xg_tickCount u) + 1 → (wpX_contract (fun r_42 u_43 => (((r_42 = 0 → (post (-3) u_43)) ∧ (¬ r_42 = 0 → (∀ x1_80 : Int32, x1_80 = x1 + 1 → ((xv_normCurrent_2 post n x1_80 u_43))))))) (xs_tickCount f_tickCount_41 u) r_2 1))) ∧ (¬ (xg_tickCount u) < (xg_fuelLimit u) → (post (-4) u))))) ∧ (¬ 0 ≤ r_2 → (wpX_enter (fun r_81 u_82 => (post r_81 u_82)) u))))) u 0 1)))) := rfl
theorem xe_normCurrent {post : Int32 → SX → Prop} {u : SX} : wpX_normCurrent post u = (∃ n2 : Nat, (xv_normCurrent_2 post n2 0 u)) := rfl
theorem xe_normNode {post : Int32 → SX → Prop} {u : SX} {p0 : Int32} : wpX_normNode post u p0 = (wpX_load (fun u_2 => (wpX_normCurrent (fun r_38 u_39 => (post r_38 u_39)) u_2)) u p0 1) := rfl
theorem xe_pushContext {post : SX → Prop} {u : SX} {p0 : Int32} : wpX_pushContext post u p0 = (((256 ≤ (xg_contextLen u) → (post u)) ∧ (¬ 256 ≤ (xg_contextLen u) → (vp_in (xg_contextLen u) 256 ∧ ∀ a_context_3 : Nat → Int32, a_context_3 = upd (xg_context u) (xg_contextLen u).toNatClampNeg p0 → (∀ f_contextLen_4 : Int32, f_contextLen_4 = (xg_contextLen u) + 1 → (post (xs_contextLen_context f_contextLen_4 a_context_3 u))))))) := rfl
theorem xe_popContext {post : SX → Prop} {u : SX} : wpX_popContext post u = ((((xg_contextLen u) ≤ 0 → (post u)) ∧ (¬ (xg_contextLen u) ≤ 0 → (∀ f_contextLen_2 : Int32, f_contextLen_2 = (xg_contextLen u) - 1 → (post (xs_contextLen f_contextLen_2 u)))))) := rfl
theorem xe_enterProduct {post : Int32 → SX → Prop} {u : SX} {p0 : Int32} {p1 : Int32} : wpX_enterProduct post u p0 p1 = (wpX_begin (fun u_2 => (wpX_emit (fun u_39 => (wpX_emitNode (fun u_76 => (wpX_emitNode (fun u_113 => (wpX_commit (fun r_149 u_150 => (((r_149 = 0 → (post (-3) u_150)) ∧ (¬ r_149 = 0 → (wpX_enter (fun r_187 u_188 => (post r_187 u_188)) u_150))))) u_113)) u_76 p1 0)) u_39 p0 0)) u_2 6 0)) u (xg_weightLimit u)) := rfl
theorem xe_stepBinder {post : Int32 → SX → Prop} {u : SX} {p0 : Int32} {p1 : Int32} {p2 : Int32} : wpX_stepBinder post u p0 p1 p2 = (((p2 = 0 → (vp_in (4 * p1) 1024 ∧ (wpX_visit (fun r_274 u_275 => (post r_274 u_275)) u ((xg_part u) (4 * p1).toNatClampNeg)))) ∧ (¬ p2 = 0 → (((p2 = 1 → (wpX_isUniverse (fun r_119 => (((r_119 = 0 → (post (-7) u)) ∧ (¬ r_119 = 0 → (vp_in (4 * p1) 1024 ∧ (wpX_normNode (fun r_158 u_159 => (((0 ≤ r_158 → (vp_in p0 256 ∧ ∀ a_frameKeep_197 : Nat → Int32, a_frameKeep_197 = upd (xg_frameKeep u_159) p0.toNatClampNeg r_158 → (wpX_pushContext (fun u_199 => (vp_in ((4 * p1) + 1) 1024 ∧ (wpX_visit (fun r_236 u_237 => (post r_236 u_237)) u_199 ((xg_part u_199) ((4 * p1) + 1).toNatClampNeg)))) (xs_frameKeep a_frameKeep_197 u_159) r_158))) ∧ (¬ 0 ≤ r_158 → (post r_158 u_159))))) u ((xg_part u) (4 * p1).toNatClampNeg))))))) u (xg_answer u))) ∧ (¬ p2 = 1 → (wpX_popContext (fun u_4 => (vp_in p1 256 ∧ (((((xg_kind u_4) p1.toNatClampNeg) = 6 → (wpX_isUniverse (fun r_81 => (((r_81 = 0 → (post (-7) u_4)) ∧ (¬ r_81 = 0 → (post (xg_answer u_4) u_4))))) u_4 (xg_answer u_4))) ∧ (¬ ((xg_kind u_4) p1.toNatClampNeg) = 6 → ((((xg_answer u_4) = 1 → (post (-11) u_4)) ∧ (¬ (xg_answer u_4) = 1 → (vp_in p0 256 ∧ (wpX_enterProduct (fun r_44 u_45 => (post r_44 u_45)) u_4 ((xg_frameKeep u_4) p0.toNatClampNeg) (xg_answer u_4))))))))))) u))))))) := rfl
theorem xe_normInstance {post : Int32 → SX → Prop} {u : SX} {p0 : Int32} {p1 : Int32} : wpX_normInstance post u p0 p1 = (wpX_begin (fun u_2 => (wpX_emit (fun u_39 => (wpX_emit (fun u_76 => (wpX_emitNode (fun u_113 => (wpX_emitNode (fun u_150 => (wpX_commit (fun r_186 u_187 => (((r_186 = 0 → (post (-3) u_187)) ∧ (¬ r_186 = 0 → (wpX_contract (fun r_224 u_225 => (((r_224 = 0 → (post (-3) u_225)) ∧ (¬ r_224 = 0 → (wpX_normCurrent (fun r_262 u_263 => (post r_262 u_263)) u_225))))) u_187 0 1))))) u_150)) u_113 p1 1)) u_76 p0 0)) u_39 11 0)) u_2 8 0)) u 256) := rfl
theorem xe_stepApp {post : Int32 → SX → Prop} {u : SX} {p0 : Int32} {p1 : Int32} {p2 : Int32} : wpX_stepApp post u p0 p1 p2 = (((p2 = 0 → (vp_in (4 * p1) 1024 ∧ (wpX_visit (fun r_89 u_90 => (post r_89 u_90)) u ((xg_part u) (4 * p1).toNatClampNeg)))) ∧ (¬ p2 = 0 → (((p2 = 1 → (vp_in (xg_answer u) 256 ∧ (((((xg_kind u) (xg_answer u).toNatClampNeg) = 6 → (vp_in p0 256 ∧ ∀ a_frameKeep_49 : Nat → Int32, a_frameKeep_49 = upd (xg_frameKeep u) p0.toNatClampNeg (xg_answer u) → (vp_in ((4 * p1) + 1) 1024 ∧ (wpX_visit (fun r_51 u_52 => (post r_51 u_52)) (xs_frameKeep a_frameKeep_49 u) ((xg_part u) ((4 * p1) + 1).toNatClampNeg))))) ∧ (¬ ((xg_kind u) (xg_answer u).toNatClampNeg) = 6 → (post (-8) u)))))) ∧ (¬ p2 = 1 → (vp_in p0 256 ∧ (∀ x4_4 : Int32, x4_4 = (xg_frameKeep u) p0.toNatClampNeg → (vp_in (4 * x4_4) 1024 ∧ ((((xg_answer u) = ((xg_part u) (4 * x4_4).toNatClampNeg) → (vp_in ((4 * x4_4) + 1) 1024 ∧ (vp_in ((4 * p1) + 1) 1024 ∧ (wpX_normInstance (fun r_9 u_10 => (post r_9 u_10)) u ((xg_part u) ((4 * x4_4) + 1).toNatClampNeg) ((xg_part u) ((4 * p1) + 1).toNatClampNeg))))) ∧ (¬ (xg_answer u) = ((xg_part u) (4 * x4_4).toNatClampNeg) → (post (-9) u))))))))))))) := rfl
def xv_normStepType_84 (post : Int32 → SX → Prop) (J45 : Int32 → SX → Prop) (x2 : Int32) (x3 : Int32) (u : SX) : Prop := wX_normStepType_84 post (fun x2' f_pending' f_nodeLimit' f_weightLimit' f_fuelLimit' f_entryLimit' f_count' f_base' f_entryCount' f_tickCount' f_blameNode' f_curLen' f_outLen' f_outCap' f_outOver' f_frameTop' f_answer' f_contextLen' a_kind' a_part' a_heavy' a_entryBody' a_entryClaim' a_entryType' a_curKind' a_curVal' a_curDepth' a_outKind' a_outVal' a_pend' a_openPos' a_openLeft' a_made' a_frameNode' a_frameStep' a_frameKeep' a_context' => J45 x2' (f_pending', f_nodeLimit', f_weightLimit', f_fuelLimit', f_entryLimit', f_count', f_base', f_entryCount', f_tickCount', f_blameNode', f_curLen', f_outLen', f_outCap', f_outOver', f_frameTop', f_answer', f_contextLen', a_kind', a_part', a_heavy', a_entryBody', a_entryClaim', a_entryType', a_curKind', a_curVal', a_curDepth', a_outKind', a_outVal', a_pend', a_openPos', a_openLeft', a_made', a_frameNode', a_frameStep', a_frameKeep', a_context')) x2 x3 u.1 u.2.1 u.2.2.1 u.2.2.2.1 u.2.2.2.2.1 u.2.2.2.2.2.1 u.2.2.2.2.2.2.1 u.2.2.2.2.2.2.2.1 u.2.2.2.2.2.2.2.2.1 u.2.2.2.2.2.2.2.2.2.1 u.2.2.2.2.2.2.2.2.2.2.1 u.2.2.2.2.2.2.2.2.2.2.2.1 u.2.2.2.2.2.2.2.2.2.2.2.2.1 u.2.2.2.2.2.2.2.2.2.2.2.2.2.1 u.2.2.2.2.2.2.2.2.2.2.2.2.2.2.1 u.2.2.2.2.2.2.2.2.2.2.2.2.2.2.2.1 u.2.2.2.2.2.2.2.2.2.2.2.2.2.2.2.2.1 u.2.2.2.2.2.2.2.2.2.2.2.2.2.2.2.2.2.1 u.2.2.2.2.2.2.2.2.2.2.2.2.2.2.2.2.2.2.1 u.2.2.2.2.2.2.2.2.2.2.2.2.2.2.2.2.2.2.2.1 u.2.2.2.2.2.2.2.2.2.2.2.2.2.2.2.2.2.2.2.2.1 u.2.2.2.2.2.2.2.2.2.2.2.2.2.2.2.2.2.2.2.2.2.1 u.2.2.2.2.2.2.2.2.2.2.2.2.2.2.2.2.2.2.2.2.2.2.1 u.2.2.2.2.2.2.2.2.2.2.2.2.2.2.2.2.2.2.2.2.2.2.2.1 u.2.2.2.2.2.2.2.2.2.2.2.2.2.2.2.2.2.2.2.2.2.2.2.2.1 u.2.2.2.2.2.2.2.2.2.2.2.2.2.2.2.2.2.2.2.2.2.2.2.2.2.1 u.2.2.2.2.2.2.2.2.2.2.2.2.2.2.2.2.2.2.2.2.2.2.2.2.2.2.1 u.2.2.2.2.2.2.2.2.2.2.2.2.2.2.2.2.2.2.2.2.2.2.2.2.2.2.2.1 u.2.2.2.2.2.2.2.2.2.2.2.2.2.2.2.2.2.2.2.2.2.2.2.2.2.2.2.2.1 u.2.2.2.2.2.2.2.2.2.2.2.2.2.2.2.2.2.2.2.2.2.2.2.2.2.2.2.2.2.1 u.2.2.2.2.2.2.2.2.2.2.2.2.2.2.2.2.2.2.2.2.2.2.2.2.2.2.2.2.2.2.1 u.2.2.2.2.2.2.2.2.2.2.2.2.2.2.2.2.2.2.2.2.2.2.2.2.2.2.2.2.2.2.2.1 u.2.2.2.2.2.2.2.2.2.2.2.2.2.2.2.2.2.2.2.2.2.2.2.2.2.2.2.2.2.2.2.2.1 u.2.2.2.2.2.2.2.2.2.2.2.2.2.2.2.2.2.2.2.2.2.2.2.2.2.2.2.2.2.2.2.2.2.1 u.2.2.2.2.2.2.2.2.2.2.2.2.2.2.2.2.2.2.2.2.2.2.2.2.2.2.2.2.2.2.2.2.2.2.1 u.2.2.2.2.2.2.2.2.2.2.2.2.2.2.2.2.2.2.2.2.2.2.2.2.2.2.2.2.2.2.2.2.2.2.2
theorem xe_normStepType_84 {post : Int32 → SX → Prop} {J45 : Int32 → SX → Prop} {x2 : Int32} {x3 : Int32} {u : SX} : xv_normStepType_84 post J45 x2 x3 u = (vp_in x2 256 ∧ (wpX_emit (fun u_307 => (∀ x2_343 : Int32, x2_343 = x2 + 1 → ((J45 x2_343 u_307)))) u ((xg_curKind u) x2.toNatClampNeg) x3)) := rfl
def xv_normStepType_45 (post : Int32 → SX → Prop) (n : Nat) (x2 : Int32) (u : SX) : Prop := wX_normStepType_45 post n x2 u.1 u.2.1 u.2.2.1 u.2.2.2.1 u.2.2.2.2.1 u.2.2.2.2.2.1 u.2.2.2.2.2.2.1 u.2.2.2.2.2.2.2.1 u.2.2.2.2.2.2.2.2.1 u.2.2.2.2.2.2.2.2.2.1 u.2.2.2.2.2.2.2.2.2.2.1 u.2.2.2.2.2.2.2.2.2.2.2.1 u.2.2.2.2.2.2.2.2.2.2.2.2.1 u.2.2.2.2.2.2.2.2.2.2.2.2.2.1 u.2.2.2.2.2.2.2.2.2.2.2.2.2.2.1 u.2.2.2.2.2.2.2.2.2.2.2.2.2.2.2.1 u.2.2.2.2.2.2.2.2.2.2.2.2.2.2.2.2.1 u.2.2.2.2.2.2.2.2.2.2.2.2.2.2.2.2.2.1 u.2.2.2.2.2.2.2.2.2.2.2.2.2.2.2.2.2.2.1 u.2.2.2.2.2.2.2.2.2.2.2.2.2.2.2.2.2.2.2.1 u.2.2.2.2.2.2.2.2.2.2.2.2.2.2.2.2.2.2.2.2.1 u.2.2.2.2.2.2.2.2.2.2.2.2.2.2.2.2.2.2.2.2.2.1 u.2.2.2.2.2.2.2.2.2.2.2.2.2.2.2.2.2.2.2.2.2.2.1 u.2.2.2.2.2.2.2.2.2.2.2.2.2.2.2.2.2.2.2.2.2.2.2.1 u.2.2.2.2.2.2.2.2.2.2.2.2.2.2.2.2.2.2.2.2.2.2.2.2.1 u.2.2.2.2.2.2.2.2.2.2.2.2.2.2.2.2.2.2.2.2.2.2.2.2.2.1 u.2.2.2.2.2.2.2.2.2.2.2.2.2.2.2.2.2.2.2.2.2.2.2.2.2.2.1 u.2.2.2.2.2.2.2.2.2.2.2.2.2.2.2.2.2.2.2.2.2.2.2.2.2.2.2.1 u.2.2.2.2.2.2.2.2.2.2.2.2.2.2.2.2.2.2.2.2.2.2.2.2.2.2.2.2.1 u.2.2.2.2.2.2.2.2.2.2.2.2.2.2.2.2.2.2.2.2.2.2.2.2.2.2.2.2.2.1 u.2.2.2.2.2.2.2.2.2.2.2.2.2.2.2.2.2.2.2.2.2.2.2.2.2.2.2.2.2.2.1 u.2.2.2.2.2.2.2.2.2.2.2.2.2.2.2.2.2.2.2.2.2.2.2.2.2.2.2.2.2.2.2.1 u.2.2.2.2.2.2.2.2.2.2.2.2.2.2.2.2.2.2.2.2.2.2.2.2.2.2.2.2.2.2.2.2.1 u.2.2.2.2.2.2.2.2.2.2.2.2.2.2.2.2.2.2.2.2.2.2.2.2.2.2.2.2.2.2.2.2.2.1 u.2.2.2.2.2.2.2.2.2.2.2.2.2.2.2.2.2.2.2.2.2.2.2.2.2.2.2.2.2.2.2.2.2.2.1 u.2.2.2.2.2.2.2.2.2.2.2.2.2.2.2.2.2.2.2.2.2.2.2.2.2.2.2.2.2.2.2.2.2.2.2
theorem xe_normStepType_45 {post : Int32 → SX → Prop} {n : Nat} {x2 : Int32} {u : SX} : xv_normStepType_45 post (n + 1) x2 u = ((((xg_curLen u) ≤ x2 → (wpX_commit (fun r_224 u_225 => (((r_224 = 0 → (post (-3) u_225)) ∧ (¬ r_224 = 0 → (wpX_normCurrent (fun r_262 u_263 => (post r_262 u_263)) u_225))))) u)) ∧ (¬ (xg_curLen u) ≤ x2 → (vp_in x2 256 ∧ (∀ x3_300 : Int32, x3_300 = (xg_curVal u) x2.toNatClampNeg → (vp_in x2 256 ∧ (∀ x4_302 : Int32, x4_302 = (xg_curDepth u) x2.toNatClampNeg → (vp_in x2 256 ∧ (((((xg_curKind u) x2.toNatClampNeg) = 5 → (((x4_302 ≤ x3_300 → (((x3_300 = x4_302 → (wpX_emit (fun u_385 => (wpX_emit (fun u_422 => (∀ x2_458 : Int32, x2_458 = x2 + 1 → ((xv_normStepType_45 post n x2_458 u_422)))) u_385 5 (x4_302 + 1))) u 4 0)) ∧ (¬ x3_300 = x4_302 → (wpX_emit (fun u_347 => (∀ x2_383 : Int32, x2_383 = x2 + 1 → ((xv_normStepType_45 post n x2_383 u_347)))) u 5 (x3_300 + 1)))))) ∧ (¬ x4_302 ≤ x3_300 → ((xv_normStepType_84 post ((xv_normStepType_45 post n)) x2 x3_300 u)))))) ∧ (¬ ((xg_curKind u) x2.toNatClampNeg) = 5 → ((xv_normStepType_84 post ((xv_normStepType_45 post n)) x2 x3_300 u))))))))))))) := rfl
theorem xe_normStepType {post : Int32 → SX → Prop} {u : SX} {p0 : Int32} : wpX_normStepType post u p0 = (wpX_load (fun u_2 => (wpX_begin (fun u_39 => (wpX_emit (fun u_76 => (wpX_emit (fun u_113 => (wpX_emit (fun u_150 => (wpX_emitRange (fun u_187 => (∃ n45 : Nat, (xv_normStepType_45 post n45 0 u_187))) u_150 0 (xg_curLen u_150))) u_113 6 0)) u_76 2 0)) u_39 6 0)) u_2 (xg_weightLimit u_2))) u p0 0) := rfl
theorem xe_stepRec {post : Int32 → SX → Prop} {u : SX} {p0 : Int32} {p1 : Int32} {p2 : Int32} : wpX_stepRec post u p0 p1 p2 = (((p2 = 0 → (vp_in (4 * p1) 1024 ∧ (wpX_visit (fun r_393 u_394 => (post r_393 u_394)) u ((xg_part u) (4 * p1).toNatClampNeg)))) ∧ (¬ p2 = 0 → (((p2 = 1 → ((((xg_answer u) = 2 → (wpX_pushContext (fun u_318 => (vp_in ((4 * p1) + 1) 1024 ∧ (wpX_visit (fun r_355 u_356 => (post r_355 u_356)) u_318 ((xg_part u_318) ((4 * p1) + 1).toNatClampNeg)))) u 2)) ∧ (¬ (xg_answer u) = 2 → (post (-9) u))))) ∧ (¬ p2 = 1 → (((p2 = 2 → (wpX_popContext (fun u_163 => (wpX_isUniverse (fun r_199 => (((r_199 = 0 → (post (-7) u_163)) ∧ (¬ r_199 = 0 → (vp_in ((4 * p1) + 1) 1024 ∧ (wpX_normNode (fun r_238 u_239 => (((0 ≤ r_238 → (vp_in p0 256 ∧ ∀ a_frameKeep_277 : Nat → Int32, a_frameKeep_277 = upd (xg_frameKeep u_239) p0.toNatClampNeg r_238 → (vp_in ((4 * p1) + 2) 1024 ∧ (wpX_visit (fun r_279 u_280 => (post r_279 u_280)) (xs_frameKeep a_frameKeep_277 u_239) ((xg_part u_239) ((4 * p1) + 2).toNatClampNeg))))) ∧ (¬ 0 ≤ r_238 → (post r_238 u_239))))) u_163 ((xg_part u_163) ((4 * p1) + 1).toNatClampNeg))))))) u_163 (xg_answer u_163))) u)) ∧ (¬ p2 = 2 → (((p2 = 3 → (vp_in p0 256 ∧ (wpX_normInstance (fun r_85 u_86 => (((0 ≤ r_85 → ((((xg_answer u_86) = r_85 → (vp_in ((4 * p1) + 3) 1024 ∧ (wpX_visit (fun r_125 u_126 => (post r_125 u_126)) u_86 ((xg_part u_86) ((4 * p1) + 3).toNatClampNeg)))) ∧ (¬ (xg_answer u_86) = r_85 → (post (-9) u_86))))) ∧ (¬ 0 ≤ r_85 → (post r_85 u_86))))) u ((xg_frameKeep u) p0.toNatClampNeg) 3))) ∧ (¬ p2 = 3 → (vp_in p0 256 ∧ (wpX_normStepType (fun r_6 u_7 => (((0 ≤ r_6 → ((((xg_answer u_7) = r_6 → (vp_in p0 256 ∧ (vp_in (4 * p1) 1024 ∧ (wpX_normInstance (fun r_47 u_48 => (post r_47 u_48)) u_7 ((xg_frameKeep u_7) p0.toNatClampNeg) ((xg_part u_7) (4 * p1).toNatClampNeg))))) ∧ (¬ (xg_answer u_7) = r_6 → (post (-9) u_7))))) ∧ (¬ 0 ≤ r_6 → (post r_6 u_7))))) u ((xg_frameKeep u) p0.toNatClampNeg))))))))))))))) := rfl
def xv_stepVisit_175 (post : Int32 → SX → Prop) (x1 : Int32) (x2 : Int32) (x3 : Int32) (u : SX) : Prop := wX_stepVisit_175 post x1 x2 x3 u.1 u.2.1 u.2.2.1 u.2.2.2.1 u.2.2.2.2.1 u.2.2.2.2.2.1 u.2.2.2.2.2.2.1 u.2.2.2.2.2.2.2.1 u.2.2.2.2.2.2.2.2.1 u.2.2.2.2.2.2.2.2.2.1 u.2.2.2.2.2.2.2.2.2.2.1 u.2.2.2.2.2.2.2.2.2.2.2.1 u.2.2.2.2.2.2.2.2.2.2.2.2.1 u.2.2.2.2.2.2.2.2.2.2.2.2.2.1 u.2.2.2.2.2.2.2.2.2.2.2.2.2.2.1 u.2.2.2.2.2.2.2.2.2.2.2.2.2.2.2.1 u.2.2.2.2.2.2.2.2.2.2.2.2.2.2.2.2.1 u.2.2.2.2.2.2.2.2.2.2.2.2.2.2.2.2.2.1 u.2.2.2.2.2.2.2.2.2.2.2.2.2.2.2.2.2.2.1 u.2.2.2.2.2.2.2.2.2.2.2.2.2.2.2.2.2.2.2.1 u.2.2.2.2.2.2.2.2.2.2.2.2.2.2.2.2.2.2.2.2.1 u.2.2.2.2.2.2.2.2.2.2.2.2.2.2.2.2.2.2.2.2.2.1 u.2.2.2.2.2.2.2.2.2.2.2.2.2.2.2.2.2.2.2.2.2.2.1 u.2.2.2.2.2.2.2.2.2.2.2.2.2.2.2.2.2.2.2.2.2.2.2.1 u.2.2.2.2.2.2.2.2.2.2.2.2.2.2.2.2.2.2.2.2.2.2.2.2.1 u.2.2.2.2.2.2.2.2.2.2.2.2.2.2.2.2.2.2.2.2.2.2.2.2.2.1 u.2.2.2.2.2.2.2.2.2.2.2.2.2.2.2.2.2.2.2.2.2.2.2.2.2.2.1 u.2.2.2.2.2.2.2.2.2.2.2.2.2.2.2.2.2.2.2.2.2.2.2.2.2.2.2.1 u.2.2.2.2.2.2.2.2.2.2.2.2.2.2.2.2.2.2.2.2.2.2.2.2.2.2.2.2.1 u.2.2.2.2.2.2.2.2.2.2.2.2.2.2.2.2.2.2.2.2.2.2.2.2.2.2.2.2.2.1 u.2.2.2.2.2.2.2.2.2.2.2.2.2.2.2.2.2.2.2.2.2.2.2.2.2.2.2.2.2.2.1 u.2.2.2.2.2.2.2.2.2.2.2.2.2.2.2.2.2.2.2.2.2.2.2.2.2.2.2.2.2.2.2.1 u.2.2.2.2.2.2.2.2.2.2.2.2.2.2.2.2.2.2.2.2.2.2.2.2.2.2.2.2.2.2.2.2.1 u.2.2.2.2.2.2.2.2.2.2.2.2.2.2.2.2.2.2.2.2.2.2.2.2.2.2.2.2.2.2.2.2.2.1 u.2.2.2.2.2.2.2.2.2.2.2.2.2.2.2.2.2.2.2.2.2.2.2.2.2.2.2.2.2.2.2.2.2.2.1 u.2.2.2.2.2.2.2.2.2.2.2.2.2.2.2.2.2.2.2.2.2.2.2.2.2.2.2.2.2.2.2.2.2.2.2
theorem xe_stepVisit_175 {post : Int32 → SX → Prop} {x1 : Int32} {x2 : Int32} {x3 : Int32} {u : SX} : xv_stepVisit_175 post x1 x2 x3 u = (wpX_stepBinder (fun r_96 u_97 => (post r_96 u_97)) u x1 x2 x3) := rfl
def xv_stepVisit_58 (post : Int32 → SX → Prop) (x1 : Int32) (x2 : Int32) (x3 : Int32) (u : SX) : Prop := wX_stepVisit_58 post x1 x2 x3 u.1 u.2.1 u.2.2.1 u.2.2.2.1 u.2.2.2.2.1 u.2.2.2.2.2.1 u.2.2.2.2.2.2.1 u.2.2.2.2.2.2.2.1 u.2.2.2.2.2.2.2.2.1 u.2.2.2.2.2.2.2.2.2.1 u.2.2.2.2.2.2.2.2.2.2.1 u.2.2.2.2.2.2.2.2.2.2.2.1 u.2.2.2.2.2.2.2.2.2.2.2.2.1 u.2.2.2.2.2.2.2.2.2.2.2.2.2.1 u.2.2.2.2.2.2.2.2.2.2.2.2.2.2.1 u.2.2.2.2.2.2.2.2.2.2.2.2.2.2.2.1 u.2.2.2.2.2.2.2.2.2.2.2.2.2.2.2.2.1 u.2.2.2.2.2.2.2.2.2.2.2.2.2.2.2.2.2.1 u.2.2.2.2.2.2.2.2.2.2.2.2.2.2.2.2.2.2.1 u.2.2.2.2.2.2.2.2.2.2.2.2.2.2.2.2.2.2.2.1 u.2.2.2.2.2.2.2.2.2.2.2.2.2.2.2.2.2.2.2.2.1 u.2.2.2.2.2.2.2.2.2.2.2.2.2.2.2.2.2.2.2.2.2.1 u.2.2.2.2.2.2.2.2.2.2.2.2.2.2.2.2.2.2.2.2.2.2.1 u.2.2.2.2.2.2.2.2.2.2.2.2.2.2.2.2.2.2.2.2.2.2.2.1 u.2.2.2.2.2.2.2.2.2.2.2.2.2.2.2.2.2.2.2.2.2.2.2.2.1 u.2.2.2.2.2.2.2.2.2.2.2.2.2.2.2.2.2.2.2.2.2.2.2.2.2.1 u.2.2.2.2.2.2.2.2.2.2.2.2.2.2.2.2.2.2.2.2.2.2.2.2.2.2.1 u.2.2.2.2.2.2.2.2.2.2.2.2.2.2.2.2.2.2.2.2.2.2.2.2.2.2.2.1 u.2.2.2.2.2.2.2.2.2.2.2.2.2.2.2.2.2.2.2.2.2.2.2.2.2.2.2.2.1 u.2.2.2.2.2.2.2.2.2.2.2.2.2.2.2.2.2.2.2.2.2.2.2.2.2.2.2.2.2.1 u.2.2.2.2.2.2.2.2.2.2.2.2.2.2.2.2.2.2.2.2.2.2.2.2.2.2.2.2.2.2.1 u.2.2.2.2.2.2.2.2.2.2.2.2.2.2.2.2.2.2.2.2.2.2.2.2.2.2.2.2.2.2.2.1 u.2.2.2.2.2.2.2.2.2.2.2.2.2.2.2.2.2.2.2.2.2.2.2.2.2.2.2.2.2.2.2.2.1 u.2.2.2.2.2.2.2.2.2.2.2.2.2.2.2.2.2.2.2.2.2.2.2.2.2.2.2.2.2.2.2.2.2.1 u.2.2.2.2.2.2.2.2.2.2.2.2.2.2.2.2.2.2.2.2.2.2.2.2.2.2.2.2.2.2.2.2.2.2.1 u.2.2.2.2.2.2.2.2.2.2.2.2.2.2.2.2.2.2.2.2.2.2.2.2.2.2.2.2.2.2.2.2.2.2.2
theorem xe_stepVisit_58 {post : Int32 → SX → Prop} {x1 : Int32} {x2 : Int32} {x3 : Int32} {u : SX} : xv_stepVisit_58 post x1 x2 x3 u = (vp_in x2 256 ∧ (∀ k_10 : Int32, k_10 = (xg_kind u) x2.toNatClampNeg → (((k_10 < 1 → (post (-6) u)) ∧ (¬ k_10 < 1 → (((10 < k_10 → (post (-6) u)) ∧ (¬ 10 < k_10 → (((k_10 = 1 → (vp_in (4 * x2) 1024 ∧ (((((xg_part u) (4 * x2).toNatClampNeg) = 0 → (post 1 u)) ∧ (¬ ((xg_part u) (4 * x2).toNatClampNeg) = 0 → (post (-6) u)))))) ∧ (¬ k_10 = 1 → (((k_10 = 2 → (post 0 u)) ∧ (¬ k_10 = 2 → (((k_10 = 3 → (post 2 u)) ∧ (¬ k_10 = 3 → (((k_10 = 4 → (wpX_stepSuc (fun r_19 u_20 => (post r_19 u_20)) u x2 x3)) ∧ (¬ k_10 = 4 → (((k_10 = 5 → (vp_in (4 * x2) 1024 ∧ (wpX_typeOfVariable (fun r_58 u_59 => (post r_58 u_59)) u ((xg_part u) (4 * x2).toNatClampNeg)))) ∧ (¬ k_10 = 5 → (((k_10 = 6 → ((xv_stepVisit_175 post x1 x2 x3 u))) ∧ (¬ k_10 = 6 → (((k_10 = 7 → ((xv_stepVisit_175 post x1 x2 x3 u))) ∧ (¬ k_10 = 7 → (((k_10 = 8 → (wpX_stepApp (fun r_135 u_136 => (post r_135 u_136)) u x1 x2 x3)) ∧ (¬ k_10 = 8 → (((k_10 = 9 → (wpX_stepRec (fun r_173 u_174 => (post r_173 u_174)) u x1 x2 x3)) ∧ (¬ k_10 = 9 → (((k_10 = 10 → (vp_in (4 * x2) 1024 ∧ (wpX_typeOfEntry (fun r_212 => (post r_212 u)) u ((xg_part u) (4 * x2).toNatClampNeg)))) ∧ (¬ k_10 = 10 → (True))))))))))))))))))))))))))))))))))))))) := rfl
theorem xe_stepVisit {post : Int32 → SX → Prop} {u : SX} : wpX_stepVisit post u = (∀ x1_1 : Int32, x1_1 = (xg_frameTop u) - 1 → (vp_in x1_1 256 ∧ (∀ x2_3 : Int32, x2_3 = (xg_frameNode u) x1_1.toNatClampNeg → (vp_in x1_1 256 ∧ (∀ x3_5 : Int32, x3_5 = (xg_frameStep u) x1_1.toNatClampNeg → (vp_in x1_1 256 ∧ ∀ a_frameStep_7 : Nat → Int32, a_frameStep_7 = upd (xg_frameStep u) x1_1.toNatClampNeg (x3_5 + 1) → (((x3_5 = 0 → ((((xg_tickCount u) < (xg_fuelLimit u) → (∀ f_tickCount_250 : Int32, f_tickCount_250 = (xg_tickCount u) + 1 → ((xv_stepVisit_58 post x1_1 x2_3 x3_5 (xs_tickCount_frameStep f_tickCount_250 a_frameStep_7 u))))) ∧ (¬ (xg_tickCount u) < (xg_fuelLimit u) → (post (-4) (xs_frameStep a_frameStep_7 u)))))) ∧ (¬ x3_5 = 0 → ((xv_stepVisit_58 post x1_1 x2_3 x3_5 (xs_frameStep a_frameStep_7 u)))))))))))) := rfl
def xv_runInfer_21 (post : Int32 → SX → Prop) (n : Nat) (x2 : Int32) (x3 : Int32) (u : SX) : Prop := wX_runInfer_21 post n x2 x3 u.1 u.2.1 u.2.2.1 u.2.2.2.1 u.2.2.2.2.1 u.2.2.2.2.2.1 u.2.2.2.2.2.2.1 u.2.2.2.2.2.2.2.1 u.2.2.2.2.2.2.2.2.1 u.2.2.2.2.2.2.2.2.2.1 u.2.2.2.2.2.2.2.2.2.2.1 u.2.2.2.2.2.2.2.2.2.2.2.1 u.2.2.2.2.2.2.2.2.2.2.2.2.1 u.2.2.2.2.2.2.2.2.2.2.2.2.2.1 u.2.2.2.2.2.2.2.2.2.2.2.2.2.2.1 u.2.2.2.2.2.2.2.2.2.2.2.2.2.2.2.1 u.2.2.2.2.2.2.2.2.2.2.2.2.2.2.2.2.1 u.2.2.2.2.2.2.2.2.2.2.2.2.2.2.2.2.2.1 u.2.2.2.2.2.2.2.2.2.2.2.2.2.2.2.2.2.2.1 u.2.2.2.2.2.2.2.2.2.2.2.2.2.2.2.2.2.2.2.1 u.2.2.2.2.2.2.2.2.2.2.2.2.2.2.2.2.2.2.2.2.1 u.2.2.2.2.2.2.2.2.2.2.2.2.2.2.2.2.2.2.2.2.2.1 u.2.2.2.2.2.2.2.2.2.2.2.2.2.2.2.2.2.2.2.2.2.2.1 u.2.2.2.2.2.2.2.2.2.2.2.2.2.2.2.2.2.2.2.2.2.2.2.1 u.2.2.2.2.2.2.2.2.2.2.2.2.2.2.2.2.2.2.2.2.2.2.2.2.1 u.2.2.2.2.2.2.2.2.2.2.2.2.2.2.2.2.2.2.2.2.2.2.2.2.2.1 u.2.2.2.2.2.2.2.2.2.2.2.2.2.2.2.2.2.2.2.2.2.2.2.2.2.2.1 u.2.2.2.2.2.2.2.2.2.2.2.2.2.2.2.2.2.2.2.2.2.2.2.2.2.2.2.1 u.2.2.2.2.2.2.2.2.2.2.2.2.2.2.2.2.2.2.2.2.2.2.2.2.2.2.2.2.1 u.2.2.2.2.2.2.2.2.2.2.2.2.2.2.2.2.2.2.2.2.2.2.2.2.2.2.2.2.2.1 u.2.2.2.2.2.2.2.2.2.2.2.2.2.2.2.2.2.2.2.2.2.2.2.2.2.2.2.2.2.2.1 u.2.2.2.2.2.2.2.2.2.2.2.2.2.2.2.2.2.2.2.2.2.2.2.2.2.2.2.2.2.2.2.1 u.2.2.2.2.2.2.2.2.2.2.2.2.2.2.2.2.2.2.2.2.2.2.2.2.2.2.2.2.2.2.2.2.1 u.2.2.2.2.2.2.2.2.2.2.2.2.2.2.2.2.2.2.2.2.2.2.2.2.2.2.2.2.2.2.2.2.2.1 u.2.2.2.2.2.2.2.2.2.2.2.2.2.2.2.2.2.2.2.2.2.2.2.2.2.2.2.2.2.2.2.2.2.2.1 u.2.2.2.2.2.2.2.2.2.2.2.2.2.2.2.2.2.2.2.2.2.2.2.2.2.2.2.2.2.2.2.2.2.2.2
theorem xe_runInfer_21 {post : Int32 → SX → Prop} {n : Nat} {x2 : Int32} {x3 : Int32} {u : SX} : xv_runInfer_21 post (n + 1) x2 x3 u = (((4096 ≤ x3 → (post x2 u)) ∧ (¬ 4096 ≤ x3 → ((((xg_frameTop u) ≤ 0 → (post x2 u)) ∧ (¬ (xg_frameTop u) ≤ 0 → (wpX_stepVisit (fun r_40 u_41 => (((r_40 = (-100) → (∀ x3_78 : Int32, x3_78 = x3 + 1 → ((xv_runInfer_21 post n r_40 x3_78 u_41)))) ∧ (¬ r_40 = (-100) → (((0 ≤ r_40 → (∀ f_frameTop_80 : Int32, f_frameTop_80 = (xg_frameTop u_41) - 1 → (∀ x3_81 : Int32, x3_81 = x3 + 1 → ((xv_runInfer_21 post n r_40 x3_81 (xs_frameTop_answer f_frameTop_80 r_40 u_41)))))) ∧ (¬ 0 ≤ r_40 → (vp_in ((xg_frameTop u_41) - 1) 256 ∧ (∀ f_blameNode_83 : Int32, f_blameNode_83 = (xg_frameNode u_41) ((xg_frameTop u_41) - 1).toNatClampNeg → (post r_40 (xs_blameNode f_blameNode_83 u_41))))))))))) u))))))) := rfl
theorem xe_runInfer {post : Int32 → SX → Prop} {u : SX} {p0 : Int32} : wpX_runInfer post u p0 = (wpX_visit (fun r_1 u_2 => (∃ n21 : Nat, (xv_runInfer_21 post n21 (-4) 0 u_2))) (xs_frameTop_contextLen 0 0 u) p0) := rfl
theorem xe_keep {post : Int32 → SX → Prop} {u : SX} {p0 : Int32} : wpX_keep post u p0 = (wpX_load (fun u_2 => (wpX_enter (fun r_38 u_39 => (post r_38 u_39)) (xs_count (xg_base u_2) u_2))) u p0 0) := rfl
theorem xe_infer {post : Int32 → SX → Prop} {u : SX} {p0 : Int32} : wpX_infer post u p0 = (wpX_isNode (fun r_1 => (((r_1 = 0 → (post (-1) u)) ∧ (¬ r_1 = 0 → (wpX_startWork (fun u_40 => (wpX_runInfer (fun r_76 u_77 => (((0 ≤ r_76 → (wpX_keep (fun r_114 u_115 => (post r_114 u_115)) u_77 r_76)) ∧ (¬ 0 ≤ r_76 → (post r_76 (xs_count (xg_base u_77) u_77)))))) u_40 p0)) u))))) u p0) := rfl
def xv_normClaim_33 (post : Int32 → SX → Prop) (x1 : Int32) (u : SX) : Prop := wX_normClaim_33 post x1 u.1 u.2.1 u.2.2.1 u.2.2.2.1 u.2.2.2.2.1 u.2.2.2.2.2.1 u.2.2.2.2.2.2.1 u.2.2.2.2.2.2.2.1 u.2.2.2.2.2.2.2.2.1 u.2.2.2.2.2.2.2.2.2.1 u.2.2.2.2.2.2.2.2.2.2.1 u.2.2.2.2.2.2.2.2.2.2.2.1 u.2.2.2.2.2.2.2.2.2.2.2.2.1 u.2.2.2.2.2.2.2.2.2.2.2.2.2.1 u.2.2.2.2.2.2.2.2.2.2.2.2.2.2.1 u.2.2.2.2.2.2.2.2.2.2.2.2.2.2.2.1 u.2.2.2.2.2.2.2.2.2.2.2.2.2.2.2.2.1 u.2.2.2.2.2.2.2.2.2.2.2.2.2.2.2.2.2.1 u.2.2.2.2.2.2.2.2.2.2.2.2.2.2.2.2.2.2.1 u.2.2.2.2.2.2.2.2.2.2.2.2.2.2.2.2.2.2.2.1 u.2.2.2.2.2.2.2.2.2.2.2.2.2.2.2.2.2.2.2.2.1 u.2.2.2.2.2.2.2.2.2.2.2.2.2.2.2.2.2.2.2.2.2.1 u.2.2.2.2.2.2.2.2.2.2.2.2.2.2.2.2.2.2.2.2.2.2.1 u.2.2.2.2.2.2.2.2.2.2.2.2.2.2.2.2.2.2.2.2.2.2.2.1 u.2.2.2.2.2.2.2.2.2.2.2.2.2.2.2.2.2.2.2.2.2.2.2.2.1 u.2.2.2.2.2.2.2.2.2.2.2.2.2.2.2.2.2.2.2.2.2.2.2.2.2.1 u.2.2.2.2.2.2.2.2.2.2.2.2.2.2.2.2.2.2.2.2.2.2.2.2.2.2.1 u.2.2.2.2.2.2.2.2.2.2.2.2.2.2.2.2.2.2.2.2.2.2.2.2.2.2.2.1 u.2.2.2.2.2.2.2.2.2.2.2.2.2.2.2.2.2.2.2.2.2.2.2.2.2.2.2.2.1 u.2.2.2.2.2.2.2.2.2.2.2.2.2.2.2.2.2.2.2.2.2.2.2.2.2.2.2.2.2.1 u.2.2.2.2.2.2.2.2.2.2.2.2.2.2.2.2.2.2.2.2.2.2.2.2.2.2.2.2.2.2.1 u.2.2.2.2.2.2.2.2.2.2.2.2.2.2.2.2.2.2.2.2.2.2.2.2.2.2.2.2.2.2.2.1 u.2.2.2.2.2.2.2.2.2.2.2.2.2.2.2.2.2.2.2.2.2.2.2.2.2.2.2.2.2.2.2.2.1 u.2.2.2.2.2.2.2.2.2.2.2.2.2.2.2.2.2.2.2.2.2.2.2.2.2.2.2.2.2.2.2.2.2.1 u.2.2.2.2.2.2.2.2.2.2.2.2.2.2.2.2.2.2.2.2.2.2.2.2.2.2.2.2.2.2.2.2.2.2.1 u.2.2.2.2.2.2.2.2.2.2.2.2.2.2.2.2.2.2.2.2.2.2.2.2.2.2.2.2.2.2.2.2.2.2.2
theorem xe_normClaim_33 {post : Int32 → SX → Prop} {x1 : Int32} {u : SX} : xv_normClaim_33 post x1 u = (wpX_normNode (fun r_2 u_3 => (((0 ≤ r_2 → (post r_2 u_3)) ∧ (¬ 0 ≤ r_2 → (post r_2 (xs_blameNode x1 u_3)))))) u x1) := rfl
theorem xe_normClaim {post : Int32 → SX → Prop} {u : SX} {p0 : Int32} : wpX_normClaim post u p0 = (((p0 = 1 → ((xv_normClaim_33 post p0 u))) ∧ (¬ p0 = 1 → (wpX_runInfer (fun r_40 u_41 => (((0 ≤ r_40 → (wpX_isUniverse (fun r_78 => (((r_78 = 0 → (post (-7) (xs_blameNode p0 u_41))) ∧ (¬ r_78 = 0 → ((xv_normClaim_33 post p0 u_41)))))) u_41 r_40)) ∧ (¬ 0 ≤ r_40 → (post r_40 u_41))))) u p0)))) := rfl
theorem xe_checkAgainst {post : Int32 → SX → Prop} {u : SX} {p0 : Int32} {p1 : Int32} : wpX_checkAgainst post u p0 p1 = (wpX_normClaim (fun r_1 u_2 => (((0 ≤ r_1 → (wpX_runInfer (fun r_39 u_40 => (((0 ≤ r_39 → (((r_39 = r_1 → (post r_1 u_40)) ∧ (¬ r_39 = r_1 → (post (-9) (xs_blameNode p0 u_40)))))) ∧ (¬ 0 ≤ r_39 → (post r_39 u_40))))) u_2 p0)) ∧ (¬ 0 ≤ r_1 → (post r_1 u_2))))) u p1) := rfl
theorem xe_check {post : Int32 → SX → Prop} {u : SX} {p0 : Int32} {p1 : Int32} : wpX_check post u p0 p1 = (wpX_isNode (fun r_1 => (((r_1 = 0 → (post (-1) u)) ∧ (¬ r_1 = 0 → (wpX_isNode (fun r_39 => (((r_39 = 0 → (post (-1) u)) ∧ (¬ r_39 = 0 → (wpX_startWork (fun u_78 => (wpX_checkAgainst (fun r_114 u_115 => (((0 ≤ r_114 → (post 1 (xs_count (xg_base u_115) u_115))) ∧ (¬ 0 ≤ r_114 → (post r_114 (xs_count (xg_base u_115) u_115)))))) u_78 p0 p1)) u))))) u p1))))) u p0) := rfl
theorem xe_addEntry {post : Int32 → SX → Prop} {u : SX} {p0 : Int32} {p1 : Int32} {p2 : Int32} : wpX_addEntry post u p0 p1 p2 = (wpX_keep (fun r_1 u_2 => (vp_in (xg_entryCount u_2) 16 ∧ ∀ a_entryBody_39 : Nat → Int32, a_entryBody_39 = upd (xg_entryBody u_2) (xg_entryCount u_2).toNatClampNeg p0 → (vp_in (xg_entryCount u_2) 16 ∧ ∀ a_entryClaim_41 : Nat → Int32, a_entryClaim_41 = upd (xg_entryClaim u_2) (xg_entryCount u_2).toNatClampNeg p1 → (vp_in (xg_entryCount u_2) 16 ∧ ∀ a_entryType_43 : Nat → Int32, a_entryType_43 = upd (xg_entryType u_2) (xg_entryCount u_2).toNatClampNeg r_1 → (∀ f_entryCount_44 : Int32, f_entryCount_44 = (xg_entryCount u_2) + 1 → (post (xg_entryCount u_2) (xs_entryCount_entryBody_entryClaim_entryType f_entryCount_44 a_entryBody_39 a_entryClaim_41 a_entryType_43 u_2))))))) u p2) := rfl
theorem xe_define {post : Int32 → SX → Prop} {u : SX} {p0 : Int32} {p1 : Int32} : wpX_define post u p0 p1 = (wpX_isNode (fun r_1 => (((r_1 = 0 → (post (-1) u)) ∧ (¬ r_1 = 0 → (wpX_isNode (fun r_39 => (((r_39 = 0 → (post (-1) u)) ∧ (¬ r_39 = 0 → ((((xg_entryCount u) < (xg_entryLimit u) → (wpX_startWork (fun u_79 => (wpX_checkAgainst (fun r_115 u_116 => (((0 ≤ r_115 → (wpX_addEntry (fun r_153 u_154 => (post r_153 u_154)) u_116 p0 p1 r_115)) ∧ (¬ 0 ≤ r_115 → (post r_115 (xs_count (xg_base u_116) u_116)))))) u_79 p0 p1)) u)) ∧ (¬ (xg_entryCount u) < (xg_entryLimit u) → (post (-10) u)))))))) u p1))))) u p0) := rfl
theorem xe_postulate {post : Int32 → SX → Prop} {u : SX} {p0 : Int32} : wpX_postulate post u p0 = (wpX_isNode (fun r_1 => (((r_1 = 0 → (post (-1) u)) ∧ (¬ r_1 = 0 → ((((xg_entryCount u) < (xg_entryLimit u) → (wpX_startWork (fun u_41 => (wpX_normClaim (fun r_77 u_78 => (((0 ≤ r_77 → (wpX_addEntry (fun r_115 u_116 => (post r_115 u_116)) u_78 (-13) p0 r_77)) ∧ (¬ 0 ≤ r_77 → (post r_77 (xs_count (xg_base u_78) u_78)))))) u_41 p0)) u)) ∧ (¬ (xg_entryCount u) < (xg_entryLimit u) → (post (-10) u)))))))) u p0) := rfl
theorem xe_normal {post : Int32 → SX → Prop} {u : SX} {p0 : Int32} : wpX_normal post u p0 = (wpX_isNode (fun r_1 => (((r_1 = 0 → (post (-1) u)) ∧ (¬ r_1 = 0 → (wpX_startWork (fun u_40 => (wpX_normNode (fun r_76 u_77 => (((0 ≤ r_76 → (wpX_keep (fun r_114 u_115 => (post r_114 u_115)) u_77 r_76)) ∧ (¬ 0 ≤ r_76 → (post r_76 (xs_count_blameNode (xg_base u_77) p0 u_77)))))) u_40 p0)) u))))) u p0) := rfl
theorem xe_equal {post : Int32 → SX → Prop} {u : SX} {p0 : Int32} {p1 : Int32} : wpX_equal post u p0 p1 = (wpX_isNode (fun r_1 => (((r_1 = 0 → (post (-1) u)) ∧ (¬ r_1 = 0 → (wpX_isNode (fun r_39 => (((r_39 = 0 → (post (-1) u)) ∧ (¬ r_39 = 0 → (wpX_startWork (fun u_78 => (wpX_normNode (fun r_114 u_115 => (((0 ≤ r_114 → (wpX_normNode (fun r_152 u_153 => (((0 ≤ r_152 → (((r_114 = r_152 → (post 1 (xs_count (xg_base u_153) u_153))) ∧ (¬ r_114 = r_152 → (post 0 (xs_count (xg_base u_153) u_153)))))) ∧ (¬ 0 ≤ r_152 → (post r_152 (xs_count_blameNode (xg_base u_153) p1 u_153)))))) u_115 p1)) ∧ (¬ 0 ≤ r_114 → (post r_114 (xs_count_blameNode (xg_base u_115) p0 u_115)))))) u_78 p0)) u))))) u p1))))) u p0) := rfl
def xv_redexes_20 (post : Int32 → SX → Prop) (n : Nat) (x2 : Int32) (x3 : Int32) (u : SX) : Prop := wX_redexes_20 post u.1 u.2.1 u.2.2.1 u.2.2.2.1 u.2.2.2.2.1 u.2.2.2.2.2.1 u.2.2.2.2.2.2.1 u.2.2.2.2.2.2.2.1 u.2.2.2.2.2.2.2.2.1 u.2.2.2.2.2.2.2.2.2.1 u.2.2.2.2.2.2.2.2.2.2.1 u.2.2.2.2.2.2.2.2.2.2.2.1 u.2.2.2.2.2.2.2.2.2.2.2.2.1 u.2.2.2.2.2.2.2.2.2.2.2.2.2.1 u.2.2.2.2.2.2.2.2.2.2.2.2.2.2.1 u.2.2.2.2.2.2.2.2.2.2.2.2.2.2.2.1 u.2.2.2.2.2.2.2.2.2.2.2.2.2.2.2.2.1 u.2.2.2.2.2.2.2.2.2.2.2.2.2.2.2.2.2.1 u.2.2.2.2.2.2.2.2.2.2.2.2.2.2.2.2.2.2.1 u.2.2.2.2.2.2.2.2.2.2.2.2.2.2.2.2.2.2.2.1 u.2.2.2.2.2.2.2.2.2.2.2.2.2.2.2.2.2.2.2.2.1 u.2.2.2.2.2.2.2.2.2.2.2.2.2.2.2.2.2.2.2.2.2.1 u.2.2.2.2.2.2.2.2.2.2.2.2.2.2.2.2.2.2.2.2.2.2.1 u.2.2.2.2.2.2.2.2.2.2.2.2.2.2.2.2.2.2.2.2.2.2.2.1 u.2.2.2.2.2.2.2.2.2.2.2.2.2.2.2.2.2.2.2.2.2.2.2.2.1 u.2.2.2.2.2.2.2.2.2.2.2.2.2.2.2.2.2.2.2.2.2.2.2.2.2.1 u.2.2.2.2.2.2.2.2.2.2.2.2.2.2.2.2.2.2.2.2.2.2.2.2.2.2.1 u.2.2.2.2.2.2.2.2.2.2.2.2.2.2.2.2.2.2.2.2.2.2.2.2.2.2.2.1 u.2.2.2.2.2.2.2.2.2.2.2.2.2.2.2.2.2.2.2.2.2.2.2.2.2.2.2.2.1 u.2.2.2.2.2.2.2.2.2.2.2.2.2.2.2.2.2.2.2.2.2.2.2.2.2.2.2.2.2.1 u.2.2.2.2.2.2.2.2.2.2.2.2.2.2.2.2.2.2.2.2.2.2.2.2.2.2.2.2.2.2.1 u.2.2.2.2.2.2.2.2.2.2.2.2.2.2.2.2.2.2.2.2.2.2.2.2.2.2.2.2.2.2.2.1 u.2.2.2.2.2.2.2.2.2.2.2.2.2.2.2.2.2.2.2.2.2.2.2.2.2.2.2.2.2.2.2.2.1 u.2.2.2.2.2.2.2.2.2.2.2.2.2.2.2.2.2.2.2.2.2.2.2.2.2.2.2.2.2.2.2.2.2.1 u.2.2.2.2.2.2.2.2.2.2.2.2.2.2.2.2.2.2.2.2.2.2.2.2.2.2.2.2.2.2.2.2.2.2.1 u.2.2.2.2.2.2.2.2.2.2.2.2.2.2.2.2.2.2.2.2.2.2.2.2.2.2.2.2.2.2.2.2.2.2.2 n x2 x3
theorem xe_redexes_20 {post : Int32 → SX → Prop} {n : Nat} {x2 : Int32} {x3 : Int32} {u : SX} : xv_redexes_20 post (n + 1) x2 x3 u = ((((xg_curLen u) ≤ x3 → (post x2 u)) ∧ (¬ (xg_curLen u) ≤ x3 → (wpX_isRedex (fun r_77 => (((r_77 = 0 → (∀ x3_115 : Int32, x3_115 = x3 + 1 → ((xv_redexes_20 post n x2 x3_115 u)))) ∧ (¬ r_77 = 0 → (∀ x2_116 : Int32, x2_116 = x2 + 1 → (∀ x3_117 : Int32, x3_117 = x3 + 1 → ((xv_redexes_20 post n x2_116 x3_117 u)))))))) u x3 0)))) := rfl
theorem xe_redexes {post : Int32 → SX → Prop} {u : SX} {p0 : Int32} : wpX_redexes post u p0 = (wpX_isNode (fun r_1 => (((r_1 = 0 → (post (-1) u)) ∧ (¬ r_1 = 0 → (wpX_load (fun u_40 => (∃ n20 : Nat, (xv_redexes_20 post n20 0 0 u_40))) u p0 0))))) u p0) := rfl
theorem xe_reduce {post : Int32 → SX → Prop} {u : SX} {p0 : Int32} {p1 : Int32} : wpX_reduce post u p0 p1 = (wpX_isNode (fun r_1 => (((r_1 = 0 → (post (-1) u)) ∧ (¬ r_1 = 0 → (((0 ≤ p1 → (wpX_load (fun u_41 => (wpX_findRedex (fun r_77 => (((0 ≤ r_77 → (wpX_contract (fun r_115 u_116 => (((r_115 = 0 → (post (-3) u_116)) ∧ (¬ r_115 = 0 → (wpX_enter (fun r_153 u_154 => (((0 ≤ r_153 → (post r_153 u_154)) ∧ (¬ 0 ≤ r_153 → (post r_153 (xs_count (xg_count u_116) u_154)))))) u_116))))) u_41 r_77 0)) ∧ (¬ 0 ≤ r_77 → (post (-2) u_41))))) u_41 p1 0)) u p0 0)) ∧ (¬ 0 ≤ p1 → (post (-2) u)))))))) u p0) := rfl
def xv_release_18 (post : Int32 → SX → Prop) (x1 : Int32) (n : Nat) (x2 : Int32) (u : SX) : Prop := wX_release_18 post x1 u.1 u.2.1 u.2.2.1 u.2.2.2.1 u.2.2.2.2.1 u.2.2.2.2.2.1 u.2.2.2.2.2.2.1 u.2.2.2.2.2.2.2.1 u.2.2.2.2.2.2.2.2.1 u.2.2.2.2.2.2.2.2.2.1 u.2.2.2.2.2.2.2.2.2.2.1 u.2.2.2.2.2.2.2.2.2.2.2.1 u.2.2.2.2.2.2.2.2.2.2.2.2.1 u.2.2.2.2.2.2.2.2.2.2.2.2.2.1 u.2.2.2.2.2.2.2.2.2.2.2.2.2.2.1 u.2.2.2.2.2.2.2.2.2.2.2.2.2.2.2.1 u.2.2.2.2.2.2.2.2.2.2.2.2.2.2.2.2.1 u.2.2.2.2.2.2.2.2.2.2.2.2.2.2.2.2.2.1 u.2.2.2.2.2.2.2.2.2.2.2.2.2.2.2.2.2.2.1 u.2.2.2.2.2.2.2.2.2.2.2.2.2.2.2.2.2.2.2.1 u.2.2.2.2.2.2.2.2.2.2.2.2.2.2.2.2.2.2.2.2.1 u.2.2.2.2.2.2.2.2.2.2.2.2.2.2.2.2.2.2.2.2.2.1 u.2.2.2.2.2.2.2.2.2.2.2.2.2.2.2.2.2.2.2.2.2.2.1 u.2.2.2.2.2.2.2.2.2.2.2.2.2.2.2.2.2.2.2.2.2.2.2.1 u.2.2.2.2.2.2.2.2.2.2.2.2.2.2.2.2.2.2.2.2.2.2.2.2.1 u.2.2.2.2.2.2.2.2.2.2.2.2.2.2.2.2.2.2.2.2.2.2.2.2.2.1 u.2.2.2.2.2.2.2.2.2.2.2.2.2.2.2.2.2.2.2.2.2.2.2.2.2.2.1 u.2.2.2.2.2.2.2.2.2.2.2.2.2.2.2.2.2.2.2.2.2.2.2.2.2.2.2.1 u.2.2.2.2.2.2.2.2.2.2.2.2.2.2.2.2.2.2.2.2.2.2.2.2.2.2.2.2.1 u.2.2.2.2.2.2.2.2.2.2.2.2.2.2.2.2.2.2.2.2.2.2.2.2.2.2.2.2.2.1 u.2.2.2.2.2.2.2.2.2.2.2.2.2.2.2.2.2.2.2.2.2.2.2.2.2.2.2.2.2.2.1 u.2.2.2.2.2.2.2.2.2.2.2.2.2.2.2.2.2.2.2.2.2.2.2.2.2.2.2.2.2.2.2.1 u.2.2.2.2.2.2.2.2.2.2.2.2.2.2.2.2.2.2.2.2.2.2.2.2.2.2.2.2.2.2.2.2.1 u.2.2.2.2.2.2.2.2.2.2.2.2.2.2.2.2.2.2.2.2.2.2.2.2.2.2.2.2.2.2.2.2.2.1 u.2.2.2.2.2.2.2.2.2.2.2.2.2.2.2.2.2.2.2.2.2.2.2.2.2.2.2.2.2.2.2.2.2.2.1 u.2.2.2.2.2.2.2.2.2.2.2.2.2.2.2.2.2.2.2.2.2.2.2.2.2.2.2.2.2.2.2.2.2.2.2 n x2
theorem xe_release_18 {post : Int32 → SX → Prop} {x1 : Int32} {n : Nat} {x2 : Int32} {u : SX} : xv_release_18 post x1 (n + 1) x2 u = ((((xg_entryCount u) ≤ x2 → (post 1 (xs_count_blameNode x1 (-13) u))) ∧ (¬ (xg_entryCount u) ≤ x2 → (vp_in x2 16 ∧ (((x1 ≤ ((xg_entryBody u) x2.toNatClampNeg) → (post (-12) u)) ∧ (¬ x1 ≤ ((xg_entryBody u) x2.toNatClampNeg) → (vp_in x2 16 ∧ (((x1 ≤ ((xg_entryClaim u) x2.toNatClampNeg) → (post (-12) u)) ∧ (¬ x1 ≤ ((xg_entryClaim u) x2.toNatClampNeg) → (vp_in x2 16 ∧ (((((xg_entryType u) x2.toNatClampNeg) < x1 → (∀ x2_10 : Int32, x2_10 = x2 + 1 → ((xv_release_18 post x1 n x2_10 u)))) ∧ (¬ ((xg_entryType u) x2.toNatClampNeg) < x1 → (post (-12) u)))))))))))))))) := rfl
theorem xe_release {post : Int32 → SX → Prop} {u : SX} {p0 : Int32} : wpX_release post u p0 = (((p0 < 4 → (post (-2) u)) ∧ (¬ p0 < 4 → (((p0 ≤ (xg_count u) → (∃ n18 : Nat, (xv_release_18 post p0 n18 0 u))) ∧ (¬ p0 ≤ (xg_count u) → (post (-2) u))))))) := rfl
theorem xe_kindOf {post : Int32 → Prop} {u : SX} {p0 : Int32} : wpX_kindOf post u p0 = (wpX_isNode (fun r_1 => (((r_1 = 0 → (post (-1))) ∧ (¬ r_1 = 0 → (vp_in p0 256 ∧ (post ((xg_kind u) p0.toNatClampNeg))))))) u p0) := rfl
def xv_field_43 (post : Int32 → Prop) (x1 : Int32) (x2 : Int32) (x4 : Int32) (u : SX) : Prop := wX_field_43 post x1 x2 x4 u.1 u.2.1 u.2.2.1 u.2.2.2.1 u.2.2.2.2.1 u.2.2.2.2.2.1 u.2.2.2.2.2.2.1 u.2.2.2.2.2.2.2.1 u.2.2.2.2.2.2.2.2.1 u.2.2.2.2.2.2.2.2.2.1 u.2.2.2.2.2.2.2.2.2.2.1 u.2.2.2.2.2.2.2.2.2.2.2.1 u.2.2.2.2.2.2.2.2.2.2.2.2.1 u.2.2.2.2.2.2.2.2.2.2.2.2.2.1 u.2.2.2.2.2.2.2.2.2.2.2.2.2.2.1 u.2.2.2.2.2.2.2.2.2.2.2.2.2.2.2.1 u.2.2.2.2.2.2.2.2.2.2.2.2.2.2.2.2.1 u.2.2.2.2.2.2.2.2.2.2.2.2.2.2.2.2.2.1 u.2.2.2.2.2.2.2.2.2.2.2.2.2.2.2.2.2.2.1 u.2.2.2.2.2.2.2.2.2.2.2.2.2.2.2.2.2.2.2.1 u.2.2.2.2.2.2.2.2.2.2.2.2.2.2.2.2.2.2.2.2.1 u.2.2.2.2.2.2.2.2.2.2.2.2.2.2.2.2.2.2.2.2.2.1 u.2.2.2.2.2.2.2.2.2.2.2.2.2.2.2.2.2.2.2.2.2.2.1 u.2.2.2.2.2.2.2.2.2.2.2.2.2.2.2.2.2.2.2.2.2.2.2.1 u.2.2.2.2.2.2.2.2.2.2.2.2.2.2.2.2.2.2.2.2.2.2.2.2.1 u.2.2.2.2.2.2.2.2.2.2.2.2.2.2.2.2.2.2.2.2.2.2.2.2.2.1 u.2.2.2.2.2.2.2.2.2.2.2.2.2.2.2.2.2.2.2.2.2.2.2.2.2.2.1 u.2.2.2.2.2.2.2.2.2.2.2.2.2.2.2.2.2.2.2.2.2.2.2.2.2.2.2.1 u.2.2.2.2.2.2.2.2.2.2.2.2.2.2.2.2.2.2.2.2.2.2.2.2.2.2.2.2.1 u.2.2.2.2.2.2.2.2.2.2.2.2.2.2.2.2.2.2.2.2.2.2.2.2.2.2.2.2.2.1 u.2.2.2.2.2.2.2.2.2.2.2.2.2.2.2.2.2.2.2.2.2.2.2.2.2.2.2.2.2.2.1 u.2.2.2.2.2.2.2.2.2.2.2.2.2.2.2.2.2.2.2.2.2.2.2.2.2.2.2.2.2.2.2.1 u.2.2.2.2.2.2.2.2.2.2.2.2.2.2.2.2.2.2.2.2.2.2.2.2.2.2.2.2.2.2.2.2.1 u.2.2.2.2.2.2.2.2.2.2.2.2.2.2.2.2.2.2.2.2.2.2.2.2.2.2.2.2.2.2.2.2.2.1 u.2.2.2.2.2.2.2.2.2.2.2.2.2.2.2.2.2.2.2.2.2.2.2.2.2.2.2.2.2.2.2.2.2.2.1 u.2.2.2.2.2.2.2.2.2.2.2.2.2.2.2.2.2.2.2.2.2.2.2.2.2.2.2.2.2.2.2.2.2.2.2
theorem xe_field_43 {post : Int32 → Prop} {x1 : Int32} {x2 : Int32} {x4 : Int32} {u : SX} : xv_field_43 post x1 x2 x4 u = (((x2 < 0 → (post (-2))) ∧ (¬ x2 < 0 → (((x2 < x4 → (vp_in ((4 * x1) + x2) 1024 ∧ (post ((xg_part u) ((4 * x1) + x2).toNatClampNeg)))) ∧ (¬ x2 < x4 → (post (-2)))))))) := rfl
def xv_field_40 (post : Int32 → Prop) (x1 : Int32) (x2 : Int32) (u : SX) : Prop := wX_field_40 post x1 x2 u.1 u.2.1 u.2.2.1 u.2.2.2.1 u.2.2.2.2.1 u.2.2.2.2.2.1 u.2.2.2.2.2.2.1 u.2.2.2.2.2.2.2.1 u.2.2.2.2.2.2.2.2.1 u.2.2.2.2.2.2.2.2.2.1 u.2.2.2.2.2.2.2.2.2.2.1 u.2.2.2.2.2.2.2.2.2.2.2.1 u.2.2.2.2.2.2.2.2.2.2.2.2.1 u.2.2.2.2.2.2.2.2.2.2.2.2.2.1 u.2.2.2.2.2.2.2.2.2.2.2.2.2.2.1 u.2.2.2.2.2.2.2.2.2.2.2.2.2.2.2.1 u.2.2.2.2.2.2.2.2.2.2.2.2.2.2.2.2.1 u.2.2.2.2.2.2.2.2.2.2.2.2.2.2.2.2.2.1 u.2.2.2.2.2.2.2.2.2.2.2.2.2.2.2.2.2.2.1 u.2.2.2.2.2.2.2.2.2.2.2.2.2.2.2.2.2.2.2.1 u.2.2.2.2.2.2.2.2.2.2.2.2.2.2.2.2.2.2.2.2.1 u.2.2.2.2.2.2.2.2.2.2.2.2.2.2.2.2.2.2.2.2.2.1 u.2.2.2.2.2.2.2.2.2.2.2.2.2.2.2.2.2.2.2.2.2.2.1 u.2.2.2.2.2.2.2.2.2.2.2.2.2.2.2.2.2.2.2.2.2.2.2.1 u.2.2.2.2.2.2.2.2.2.2.2.2.2.2.2.2.2.2.2.2.2.2.2.2.1 u.2.2.2.2.2.2.2.2.2.2.2.2.2.2.2.2.2.2.2.2.2.2.2.2.2.1 u.2.2.2.2.2.2.2.2.2.2.2.2.2.2.2.2.2.2.2.2.2.2.2.2.2.2.1 u.2.2.2.2.2.2.2.2.2.2.2.2.2.2.2.2.2.2.2.2.2.2.2.2.2.2.2.1 u.2.2.2.2.2.2.2.2.2.2.2.2.2.2.2.2.2.2.2.2.2.2.2.2.2.2.2.2.1 u.2.2.2.2.2.2.2.2.2.2.2.2.2.2.2.2.2.2.2.2.2.2.2.2.2.2.2.2.2.1 u.2.2.2.2.2.2.2.2.2.2.2.2.2.2.2.2.2.2.2.2.2.2.2.2.2.2.2.2.2.2.1 u.2.2.2.2.2.2.2.2.2.2.2.2.2.2.2.2.2.2.2.2.2.2.2.2.2.2.2.2.2.2.2.1 u.2.2.2.2.2.2.2.2.2.2.2.2.2.2.2.2.2.2.2.2.2.2.2.2.2.2.2.2.2.2.2.2.1 u.2.2.2.2.2.2.2.2.2.2.2.2.2.2.2.2.2.2.2.2.2.2.2.2.2.2.2.2.2.2.2.2.2.1 u.2.2.2.2.2.2.2.2.2.2.2.2.2.2.2.2.2.2.2.2.2.2.2.2.2.2.2.2.2.2.2.2.2.2.1 u.2.2.2.2.2.2.2.2.2.2.2.2.2.2.2.2.2.2.2.2.2.2.2.2.2.2.2.2.2.2.2.2.2.2.2
theorem xe_field_40 {post : Int32 → Prop} {x1 : Int32} {x2 : Int32} {u : SX} : xv_field_40 post x1 x2 u = ((xv_field_43 post x1 x2 1 u)) := rfl
theorem xe_field {post : Int32 → Prop} {u : SX} {p0 : Int32} {p1 : Int32} : wpX_field post u p0 p1 = (wpX_isNode (fun r_1 => (((r_1 = 0 → (post (-1))) ∧ (¬ r_1 = 0 → (vp_in p0 256 ∧ (∀ x3_40 : Int32, x3_40 = (xg_kind u) p0.toNatClampNeg → (wpX_arity (fun r_41 => (((x3_40 = 1 → ((xv_field_40 post p0 p1 u))) ∧ (¬ x3_40 = 1 → (((x3_40 = 5 → ((xv_field_40 post p0 p1 u))) ∧ (¬ x3_40 = 5 → (((x3_40 = 10 → ((xv_field_40 post p0 p1 u))) ∧ (¬ x3_40 = 10 → ((xv_field_43 post p0 p1 r_41 u)))))))))))) u x3_40))))))) u p0) := rfl
theorem xe_weight {post : Int32 → Prop} {u : SX} {p0 : Int32} : wpX_weight post u p0 = (wpX_isNode (fun r_1 => (((r_1 = 0 → (post (-1))) ∧ (¬ r_1 = 0 → (vp_in p0 256 ∧ (post ((xg_heavy u) p0.toNatClampNeg))))))) u p0) := rfl
def xv_value_53 (post : Int32 → Prop) (x2 : Int32) (x3 : Int32) (u : SX) : Prop := wX_value_53 post x2 x3 u.1 u.2.1 u.2.2.1 u.2.2.2.1 u.2.2.2.2.1 u.2.2.2.2.2.1 u.2.2.2.2.2.2.1 u.2.2.2.2.2.2.2.1 u.2.2.2.2.2.2.2.2.1 u.2.2.2.2.2.2.2.2.2.1 u.2.2.2.2.2.2.2.2.2.2.1 u.2.2.2.2.2.2.2.2.2.2.2.1 u.2.2.2.2.2.2.2.2.2.2.2.2.1 u.2.2.2.2.2.2.2.2.2.2.2.2.2.1 u.2.2.2.2.2.2.2.2.2.2.2.2.2.2.1 u.2.2.2.2.2.2.2.2.2.2.2.2.2.2.2.1 u.2.2.2.2.2.2.2.2.2.2.2.2.2.2.2.2.1 u.2.2.2.2.2.2.2.2.2.2.2.2.2.2.2.2.2.1 u.2.2.2.2.2.2.2.2.2.2.2.2.2.2.2.2.2.2.1 u.2.2.2.2.2.2.2.2.2.2.2.2.2.2.2.2.2.2.2.1 u.2.2.2.2.2.2.2.2.2.2.2.2.2.2.2.2.2.2.2.2.1 u.2.2.2.2.2.2.2.2.2.2.2.2.2.2.2.2.2.2.2.2.2.1 u.2.2.2.2.2.2.2.2.2.2.2.2.2.2.2.2.2.2.2.2.2.2.1 u.2.2.2.2.2.2.2.2.2.2.2.2.2.2.2.2.2.2.2.2.2.2.2.1 u.2.2.2.2.2.2.2.2.2.2.2.2.2.2.2.2.2.2.2.2.2.2.2.2.1 u.2.2.2.2.2.2.2.2.2.2.2.2.2.2.2.2.2.2.2.2.2.2.2.2.2.1 u.2.2.2.2.2.2.2.2.2.2.2.2.2.2.2.2.2.2.2.2.2.2.2.2.2.2.1 u.2.2.2.2.2.2.2.2.2.2.2.2.2.2.2.2.2.2.2.2.2.2.2.2.2.2.2.1 u.2.2.2.2.2.2.2.2.2.2.2.2.2.2.2.2.2.2.2.2.2.2.2.2.2.2.2.2.1 u.2.2.2.2.2.2.2.2.2.2.2.2.2.2.2.2.2.2.2.2.2.2.2.2.2.2.2.2.2.1 u.2.2.2.2.2.2.2.2.2.2.2.2.2.2.2.2.2.2.2.2.2.2.2.2.2.2.2.2.2.2.1 u.2.2.2.2.2.2.2.2.2.2.2.2.2.2.2.2.2.2.2.2.2.2.2.2.2.2.2.2.2.2.2.1 u.2.2.2.2.2.2.2.2.2.2.2.2.2.2.2.2.2.2.2.2.2.2.2.2.2.2.2.2.2.2.2.2.1 u.2.2.2.2.2.2.2.2.2.2.2.2.2.2.2.2.2.2.2.2.2.2.2.2.2.2.2.2.2.2.2.2.2.1 u.2.2.2.2.2.2.2.2.2.2.2.2.2.2.2.2.2.2.2.2.2.2.2.2.2.2.2.2.2.2.2.2.2.2.1 u.2.2.2.2.2.2.2.2.2.2.2.2.2.2.2.2.2.2.2.2.2.2.2.2.2.2.2.2.2.2.2.2.2.2.2
theorem xe_value_53 {post : Int32 → Prop} {x2 : Int32} {x3 : Int32} {u : SX} : xv_value_53 post x2 x3 u = (vp_in x2 256 ∧ (((((xg_kind u) x2.toNatClampNeg) = 3 → (post x3)) ∧ (¬ ((xg_kind u) x2.toNatClampNeg) = 3 → (post (-13)))))) := rfl
def xv_value_17 (post : Int32 → Prop) (n : Nat) (x2 : Int32) (x3 : Int32) (x4 : Int32) (u : SX) : Prop := wX_value_17 post u.1 u.2.1 u.2.2.1 u.2.2.2.1 u.2.2.2.2.1 u.2.2.2.2.2.1 u.2.2.2.2.2.2.1 u.2.2.2.2.2.2.2.1 u.2.2.2.2.2.2.2.2.1 u.2.2.2.2.2.2.2.2.2.1 u.2.2.2.2.2.2.2.2.2.2.1 u.2.2.2.2.2.2.2.2.2.2.2.1 u.2.2.2.2.2.2.2.2.2.2.2.2.1 u.2.2.2.2.2.2.2.2.2.2.2.2.2.1 u.2.2.2.2.2.2.2.2.2.2.2.2.2.2.1 u.2.2.2.2.2.2.2.2.2.2.2.2.2.2.2.1 u.2.2.2.2.2.2.2.2.2.2.2.2.2.2.2.2.1 u.2.2.2.2.2.2.2.2.2.2.2.2.2.2.2.2.2.1 u.2.2.2.2.2.2.2.2.2.2.2.2.2.2.2.2.2.2.1 u.2.2.2.2.2.2.2.2.2.2.2.2.2.2.2.2.2.2.2.1 u.2.2.2.2.2.2.2.2.2.2.2.2.2.2.2.2.2.2.2.2.1 u.2.2.2.2.2.2.2.2.2.2.2.2.2.2.2.2.2.2.2.2.2.1 u.2.2.2.2.2.2.2.2.2.2.2.2.2.2.2.2.2.2.2.2.2.2.1 u.2.2.2.2.2.2.2.2.2.2.2.2.2.2.2.2.2.2.2.2.2.2.2.1 u.2.2.2.2.2.2.2.2.2.2.2.2.2.2.2.2.2.2.2.2.2.2.2.2.1 u.2.2.2.2.2.2.2.2.2.2.2.2.2.2.2.2.2.2.2.2.2.2.2.2.2.1 u.2.2.2.2.2.2.2.2.2.2.2.2.2.2.2.2.2.2.2.2.2.2.2.2.2.2.1 u.2.2.2.2.2.2.2.2.2.2.2.2.2.2.2.2.2.2.2.2.2.2.2.2.2.2.2.1 u.2.2.2.2.2.2.2.2.2.2.2.2.2.2.2.2.2.2.2.2.2.2.2.2.2.2.2.2.1 u.2.2.2.2.2.2.2.2.2.2.2.2.2.2.2.2.2.2.2.2.2.2.2.2.2.2.2.2.2.1 u.2.2.2.2.2.2.2.2.2.2.2.2.2.2.2.2.2.2.2.2.2.2.2.2.2.2.2.2.2.2.1 u.2.2.2.2.2.2.2.2.2.2.2.2.2.2.2.2.2.2.2.2.2.2.2.2.2.2.2.2.2.2.2.1 u.2.2.2.2.2.2.2.2.2.2.2.2.2.2.2.2.2.2.2.2.2.2.2.2.2.2.2.2.2.2.2.2.1 u.2.2.2.2.2.2.2.2.2.2.2.2.2.2.2.2.2.2.2.2.2.2.2.2.2.2.2.2.2.2.2.2.2.1 u.2.2.2.2.2.2.2.2.2.2.2.2.2.2.2.2.2.2.2.2.2.2.2.2.2.2.2.2.2.2.2.2.2.2.1 u.2.2.2.2.2.2.2.2.2.2.2.2.2.2.2.2.2.2.2.2.2.2.2.2.2.2.2.2.2.2.2.2.2.2.2 n x2 x3 x4
theorem xe_value_17 {post : Int32 → Prop} {n : Nat} {x2 : Int32} {x3 : Int32} {x4 : Int32} {u : SX} : xv_value_17 post (n + 1) x2 x3 x4 u = (((256 ≤ x4 → ((xv_value_53 post x2 x3 u))) ∧ (¬ 256 ≤ x4 → (vp_in x2 256 ∧ (((((xg_kind u) x2.toNatClampNeg) = 4 → (vp_in (4 * x2) 1024 ∧ (∀ x2_45 : Int32, x2_45 = (xg_part u) (4 * x2).toNatClampNeg → (∀ x3_46 : Int32, x3_46 = x3 + 1 → (∀ x4_47 : Int32, x4_47 = x4 + 1 → ((xv_value_17 post n x2_45 x3_46 x4_47 u))))))) ∧ (¬ ((xg_kind u) x2.toNatClampNeg) = 4 → ((xv_value_53 post x2 x3 u))))))))) := rfl
theorem xe_value {post : Int32 → Prop} {u : SX} {p0 : Int32} : wpX_value post u p0 = (wpX_isNode (fun r_1 => (((r_1 = 0 → (post (-1))) ∧ (¬ r_1 = 0 → (∃ n17 : Nat, (xv_value_17 post n17 p0 0 0 u)))))) u p0) := rfl
theorem xe_isFree {post : Int32 → SX → Prop} {u : SX} {p0 : Int32} {p1 : Int32} : wpX_isFree post u p0 p1 = (wpX_isNode (fun r_1 => (((r_1 = 0 → (post 0 u)) ∧ (¬ r_1 = 0 → (((0 ≤ p1 → (wpX_load (fun u_41 => (wpX_occurs (fun r_77 => (narrow .boolean (.int r_77) = .int r_77 ∧ (post r_77 u_41))) u_41 0 (xg_curLen u_41) p1)) u p0 0)) ∧ (¬ 0 ≤ p1 → (post 0 u)))))))) u p0) := rfl
theorem xe_nodes {post : Int32 → Prop} {u : SX} : wpX_nodes post u = (post (xg_count u)) := rfl
theorem xe_definitions {post : Int32 → Prop} {u : SX} : wpX_definitions post u = (post (xg_entryCount u)) := rfl
theorem xe_bodyOf {post : Int32 → Prop} {u : SX} {p0 : Int32} : wpX_bodyOf post u p0 = (wpX_isEntry (fun r_1 => (((r_1 = 0 → (post (-2))) ∧ (¬ r_1 = 0 → (vp_in p0 16 ∧ (post ((xg_entryBody u) p0.toNatClampNeg))))))) u p0) := rfl
theorem xe_claimOf {post : Int32 → Prop} {u : SX} {p0 : Int32} : wpX_claimOf post u p0 = (wpX_isEntry (fun r_1 => (((r_1 = 0 → (post (-2))) ∧ (¬ r_1 = 0 → (vp_in p0 16 ∧ (post ((xg_entryClaim u) p0.toNatClampNeg))))))) u p0) := rfl
theorem xe_typeOf {post : Int32 → Prop} {u : SX} {p0 : Int32} : wpX_typeOf post u p0 = (wpX_isEntry (fun r_1 => (((r_1 = 0 → (post (-2))) ∧ (¬ r_1 = 0 → (vp_in p0 16 ∧ (post ((xg_entryType u) p0.toNatClampNeg))))))) u p0) := rfl
theorem xe_ticks {post : Int32 → Prop} {u : SX} : wpX_ticks post u = (post (xg_tickCount u)) := rfl
theorem xe_blame {post : Int32 → Prop} {u : SX} : wpX_blame post u = (post (xg_blameNode u)) := rfl
theorem xe_limit {post : Int32 → Prop} {u : SX} {p0 : Int32} : wpX_limit post u p0 = (((p0 < 0 → (post (-2))) ∧ (¬ p0 < 0 → (((3 < p0 → (post (-2))) ∧ (¬ 3 < p0 → (((p0 = 0 → (post (xg_nodeLimit u))) ∧ (¬ p0 = 0 → (((p0 = 1 → (post (xg_weightLimit u))) ∧ (¬ p0 = 1 → (((p0 = 2 → (post (xg_fuelLimit u))) ∧ (¬ p0 = 2 → (((p0 = 3 → (post (xg_entryLimit u))) ∧ (¬ p0 = 3 → (True))))))))))))))))))) := rfl
end
section
def yg_nodeLimit (u : SY) : Int32 := u.1
def yg_weightLimit (u : SY) : Int32 := u.2.1
def yg_fuelLimit (u : SY) : Int32 := u.2.2.1
def yg_entryLimit (u : SY) : Int32 := u.2.2.2.1
def yg_count (u : SY) : Int32 := u.2.2.2.2.1
def yg_defs (u : SY) : Int32 := u.2.2.2.2.2.1
def yg_ticks (u : SY) : Int32 := u.2.2.2.2.2.2.1
def yg_blame (u : SY) : Int32 := u.2.2.2.2.2.2.2.1
def yg_outLen (u : SY) : Int32 := u.2.2.2.2.2.2.2.2.1
def yg_mark (u : SY) : Int32 := u.2.2.2.2.2.2.2.2.2.1
def yg_mem (u : SY) : Nat → Int64 := u.2.2.2.2.2.2.2.2.2.2.1
def yg_dep (u : SY) : Nat → Int32 := u.2.2.2.2.2.2.2.2.2.2.2.1
def yg_ty (u : SY) : Nat → Int32 := u.2.2.2.2.2.2.2.2.2.2.2.2.1
def yg_aux (u : SY) : Nat → Int32 := u.2.2.2.2.2.2.2.2.2.2.2.2.2.1
def yg_body (u : SY) : Nat → Int32 := u.2.2.2.2.2.2.2.2.2.2.2.2.2.2.1
def yg_claim (u : SY) : Nat → Int32 := u.2.2.2.2.2.2.2.2.2.2.2.2.2.2.2.1
def yg_type (u : SY) : Nat → Int32 := u.2.2.2.2.2.2.2.2.2.2.2.2.2.2.2.2.1
def yg_nmem (u : SY) : Nat := u.2.2.2.2.2.2.2.2.2.2.2.2.2.2.2.2.2.1
def yg_ndep (u : SY) : Nat := u.2.2.2.2.2.2.2.2.2.2.2.2.2.2.2.2.2.2
def ys_nodeLimit (e : Int32) (u : SY) : SY := (e, u.2.1, u.2.2.1, u.2.2.2.1, u.2.2.2.2.1, u.2.2.2.2.2.1, u.2.2.2.2.2.2.1, u.2.2.2.2.2.2.2.1, u.2.2.2.2.2.2.2.2.1, u.2.2.2.2.2.2.2.2.2.1, u.2.2.2.2.2.2.2.2.2.2.1, u.2.2.2.2.2.2.2.2.2.2.2.1, u.2.2.2.2.2.2.2.2.2.2.2.2.1, u.2.2.2.2.2.2.2.2.2.2.2.2.2.1, u.2.2.2.2.2.2.2.2.2.2.2.2.2.2.1, u.2.2.2.2.2.2.2.2.2.2.2.2.2.2.2.1, u.2.2.2.2.2.2.2.2.2.2.2.2.2.2.2.2.1, u.2.2.2.2.2.2.2.2.2.2.2.2.2.2.2.2.2.1, u.2.2.2.2.2.2.2.2.2.2.2.2.2.2.2.2.2.2)
def ys_weightLimit (e : Int32) (u : SY) : SY := (u.1, e, u.2.2.1, u.2.2.2.1, u.2.2.2.2.1, u.2.2.2.2.2.1, u.2.2.2.2.2.2.1, u.2.2.2.2.2.2.2.1, u.2.2.2.2.2.2.2.2.1, u.2.2.2.2.2.2.2.2.2.1, u.2.2.2.2.2.2.2.2.2.2.1, u.2.2.2.2.2.2.2.2.2.2.2.1, u.2.2.2.2.2.2.2.2.2.2.2.2.1, u.2.2.2.2.2.2.2.2.2.2.2.2.2.1, u.2.2.2.2.2.2.2.2.2.2.2.2.2.2.1, u.2.2.2.2.2.2.2.2.2.2.2.2.2.2.2.1, u.2.2.2.2.2.2.2.2.2.2.2.2.2.2.2.2.1, u.2.2.2.2.2.2.2.2.2.2.2.2.2.2.2.2.2.1, u.2.2.2.2.2.2.2.2.2.2.2.2.2.2.2.2.2.2)
def ys_fuelLimit (e : Int32) (u : SY) : SY := (u.1, u.2.1, e, u.2.2.2.1, u.2.2.2.2.1, u.2.2.2.2.2.1, u.2.2.2.2.2.2.1, u.2.2.2.2.2.2.2.1, u.2.2.2.2.2.2.2.2.1, u.2.2.2.2.2.2.2.2.2.1, u.2.2.2.2.2.2.2.2.2.2.1, u.2.2.2.2.2.2.2.2.2.2.2.1, u.2.2.2.2.2.2.2.2.2.2.2.2.1, u.2.2.2.2.2.2.2.2.2.2.2.2.2.1, u.2.2.2.2.2.2.2.2.2.2.2.2.2.2.1, u.2.2.2.2.2.2.2.2.2.2.2.2.2.2.2.1, u.2.2.2.2.2.2.2.2.2.2.2.2.2.2.2.2.1, u.2.2.2.2.2.2.2.2.2.2.2.2.2.2.2.2.2.1, u.2.2.2.2.2.2.2.2.2.2.2.2.2.2.2.2.2.2)
def ys_entryLimit (e : Int32) (u : SY) : SY := (u.1, u.2.1, u.2.2.1, e, u.2.2.2.2.1, u.2.2.2.2.2.1, u.2.2.2.2.2.2.1, u.2.2.2.2.2.2.2.1, u.2.2.2.2.2.2.2.2.1, u.2.2.2.2.2.2.2.2.2.1, u.2.2.2.2.2.2.2.2.2.2.1, u.2.2.2.2.2.2.2.2.2.2.2.1, u.2.2.2.2.2.2.2.2.2.2.2.2.1, u.2.2.2.2.2.2.2.2.2.2.2.2.2.1, u.2.2.2.2.2.2.2.2.2.2.2.2.2.2.1, u.2.2.2.2.2.2.2.2.2.2.2.2.2.2.2.1, u.2.2.2.2.2.2.2.2.2.2.2.2.2.2.2.2.1, u.2.2.2.2.2.2.2.2.2.2.2.2.2.2.2.2.2.1, u.2.2.2.2.2.2.2.2.2.2.2.2.2.2.2.2.2.2)
def ys_count (e : Int32) (u : SY) : SY := (u.1, u.2.1, u.2.2.1, u.2.2.2.1, e, u.2.2.2.2.2.1, u.2.2.2.2.2.2.1, u.2.2.2.2.2.2.2.1, u.2.2.2.2.2.2.2.2.1, u.2.2.2.2.2.2.2.2.2.1, u.2.2.2.2.2.2.2.2.2.2.1, u.2.2.2.2.2.2.2.2.2.2.2.1, u.2.2.2.2.2.2.2.2.2.2.2.2.1, u.2.2.2.2.2.2.2.2.2.2.2.2.2.1, u.2.2.2.2.2.2.2.2.2.2.2.2.2.2.1, u.2.2.2.2.2.2.2.2.2.2.2.2.2.2.2.1, u.2.2.2.2.2.2.2.2.2.2.2.2.2.2.2.2.1, u.2.2.2.2.2.2.2.2.2.2.2.2.2.2.2.2.2.1, u.2.2.2.2.2.2.2.2.2.2.2.2.2.2.2.2.2.2)
def ys_defs (e : Int32) (u : SY) : SY := (u.1, u.2.1, u.2.2.1, u.2.2.2.1, u.2.2.2.2.1, e, u.2.2.2.2.2.2.1, u.2.2.2.2.2.2.2.1, u.2.2.2.2.2.2.2.2.1, u.2.2.2.2.2.2.2.2.2.1, u.2.2.2.2.2.2.2.2.2.2.1, u.2.2.2.2.2.2.2.2.2.2.2.1, u.2.2.2.2.2.2.2.2.2.2.2.2.1, u.2.2.2.2.2.2.2.2.2.2.2.2.2.1, u.2.2.2.2.2.2.2.2.2.2.2.2.2.2.1, u.2.2.2.2.2.2.2.2.2.2.2.2.2.2.2.1, u.2.2.2.2.2.2.2.2.2.2.2.2.2.2.2.2.1, u.2.2.2.2.2.2.2.2.2.2.2.2.2.2.2.2.2.1, u.2.2.2.2.2.2.2.2.2.2.2.2.2.2.2.2.2.2)
def ys_ticks (e : Int32) (u : SY) : SY := (u.1, u.2.1, u.2.2.1, u.2.2.2.1, u.2.2.2.2.1, u.2.2.2.2.2.1, e, u.2.2.2.2.2.2.2.1, u.2.2.2.2.2.2.2.2.1, u.2.2.2.2.2.2.2.2.2.1, u.2.2.2.2.2.2.2.2.2.2.1, u.2.2.2.2.2.2.2.2.2.2.2.1, u.2.2.2.2.2.2.2.2.2.2.2.2.1, u.2.2.2.2.2.2.2.2.2.2.2.2.2.1, u.2.2.2.2.2.2.2.2.2.2.2.2.2.2.1, u.2.2.2.2.2.2.2.2.2.2.2.2.2.2.2.1, u.2.2.2.2.2.2.2.2.2.2.2.2.2.2.2.2.1, u.2.2.2.2.2.2.2.2.2.2.2.2.2.2.2.2.2.1, u.2.2.2.2.2.2.2.2.2.2.2.2.2.2.2.2.2.2)
def ys_blame (e : Int32) (u : SY) : SY := (u.1, u.2.1, u.2.2.1, u.2.2.2.1, u.2.2.2.2.1, u.2.2.2.2.2.1, u.2.2.2.2.2.2.1, e, u.2.2.2.2.2.2.2.2.1, u.2.2.2.2.2.2.2.2.2.1, u.2.2.2.2.2.2.2.2.2.2.1, u.2.2.2.2.2.2.2.2.2.2.2.1, u.2.2.2.2.2.2.2.2.2.2.2.2.1, u.2.2.2.2.2.2.2.2.2.2.2.2.2.1, u.2.2.2.2.2.2.2.2.2.2.2.2.2.2.1, u.2.2.2.2.2.2.2.2.2.2.2.2.2.2.2.1, u.2.2.2.2.2.2.2.2.2.2.2.2.2.2.2.2.1, u.2.2.2.2.2.2.2.2.2.2.2.2.2.2.2.2.2.1, u.2.2.2.2.2.2.2.2.2.2.2.2.2.2.2.2.2.2)
def ys_outLen (e : Int32) (u : SY) : SY := (u.1, u.2.1, u.2.2.1, u.2.2.2.1, u.2.2.2.2.1, u.2.2.2.2.2.1, u.2.2.2.2.2.2.1, u.2.2.2.2.2.2.2.1, e, u.2.2.2.2.2.2.2.2.2.1, u.2.2.2.2.2.2.2.2.2.2.1, u.2.2.2.2.2.2.2.2.2.2.2.1, u.2.2.2.2.2.2.2.2.2.2.2.2.1, u.2.2.2.2.2.2.2.2.2.2.2.2.2.1, u.2.2.2.2.2.2.2.2.2.2.2.2.2.2.1, u.2.2.2.2.2.2.2.2.2.2.2.2.2.2.2.1, u.2.2.2.2.2.2.2.2.2.2.2.2.2.2.2.2.1, u.2.2.2.2.2.2.2.2.2.2.2.2.2.2.2.2.2.1, u.2.2.2.2.2.2.2.2.2.2.2.2.2.2.2.2.2.2)
def ys_mark (e : Int32) (u : SY) : SY := (u.1, u.2.1, u.2.2.1, u.2.2.2.1, u.2.2.2.2.1, u.2.2.2.2.2.1, u.2.2.2.2.2.2.1, u.2.2.2.2.2.2.2.1, u.2.2.2.2.2.2.2.2.1, e, u.2.2.2.2.2.2.2.2.2.2.1, u.2.2.2.2.2.2.2.2.2.2.2.1, u.2.2.2.2.2.2.2.2.2.2.2.2.1, u.2.2.2.2.2.2.2.2.2.2.2.2.2.1, u.2.2.2.2.2.2.2.2.2.2.2.2.2.2.1, u.2.2.2.2.2.2.2.2.2.2.2.2.2.2.2.1, u.2.2.2.2.2.2.2.2.2.2.2.2.2.2.2.2.1, u.2.2.2.2.2.2.2.2.2.2.2.2.2.2.2.2.2.1, u.2.2.2.2.2.2.2.2.2.2.2.2.2.2.2.2.2.2)
def ys_mem (e : Nat → Int64) (u : SY) : SY := (u.1, u.2.1, u.2.2.1, u.2.2.2.1, u.2.2.2.2.1, u.2.2.2.2.2.1, u.2.2.2.2.2.2.1, u.2.2.2.2.2.2.2.1, u.2.2.2.2.2.2.2.2.1, u.2.2.2.2.2.2.2.2.2.1, e, u.2.2.2.2.2.2.2.2.2.2.2.1, u.2.2.2.2.2.2.2.2.2.2.2.2.1, u.2.2.2.2.2.2.2.2.2.2.2.2.2.1, u.2.2.2.2.2.2.2.2.2.2.2.2.2.2.1, u.2.2.2.2.2.2.2.2.2.2.2.2.2.2.2.1, u.2.2.2.2.2.2.2.2.2.2.2.2.2.2.2.2.1, u.2.2.2.2.2.2.2.2.2.2.2.2.2.2.2.2.2.1, u.2.2.2.2.2.2.2.2.2.2.2.2.2.2.2.2.2.2)
def ys_dep (e : Nat → Int32) (u : SY) : SY := (u.1, u.2.1, u.2.2.1, u.2.2.2.1, u.2.2.2.2.1, u.2.2.2.2.2.1, u.2.2.2.2.2.2.1, u.2.2.2.2.2.2.2.1, u.2.2.2.2.2.2.2.2.1, u.2.2.2.2.2.2.2.2.2.1, u.2.2.2.2.2.2.2.2.2.2.1, e, u.2.2.2.2.2.2.2.2.2.2.2.2.1, u.2.2.2.2.2.2.2.2.2.2.2.2.2.1, u.2.2.2.2.2.2.2.2.2.2.2.2.2.2.1, u.2.2.2.2.2.2.2.2.2.2.2.2.2.2.2.1, u.2.2.2.2.2.2.2.2.2.2.2.2.2.2.2.2.1, u.2.2.2.2.2.2.2.2.2.2.2.2.2.2.2.2.2.1, u.2.2.2.2.2.2.2.2.2.2.2.2.2.2.2.2.2.2)
def ys_ty (e : Nat → Int32) (u : SY) : SY := (u.1, u.2.1, u.2.2.1, u.2.2.2.1, u.2.2.2.2.1, u.2.2.2.2.2.1, u.2.2.2.2.2.2.1, u.2.2.2.2.2.2.2.1, u.2.2.2.2.2.2.2.2.1, u.2.2.2.2.2.2.2.2.2.1, u.2.2.2.2.2.2.2.2.2.2.1, u.2.2.2.2.2.2.2.2.2.2.2.1, e, u.2.2.2.2.2.2.2.2.2.2.2.2.2.1, u.2.2.2.2.2.2.2.2.2.2.2.2.2.2.1, u.2.2.2.2.2.2.2.2.2.2.2.2.2.2.2.1, u.2.2.2.2.2.2.2.2.2.2.2.2.2.2.2.2.1, u.2.2.2.2.2.2.2.2.2.2.2.2.2.2.2.2.2.1, u.2.2.2.2.2.2.2.2.2.2.2.2.2.2.2.2.2.2)
def ys_aux (e : Nat → Int32) (u : SY) : SY := (u.1, u.2.1, u.2.2.1, u.2.2.2.1, u.2.2.2.2.1, u.2.2.2.2.2.1, u.2.2.2.2.2.2.1, u.2.2.2.2.2.2.2.1, u.2.2.2.2.2.2.2.2.1, u.2.2.2.2.2.2.2.2.2.1, u.2.2.2.2.2.2.2.2.2.2.1, u.2.2.2.2.2.2.2.2.2.2.2.1, u.2.2.2.2.2.2.2.2.2.2.2.2.1, e, u.2.2.2.2.2.2.2.2.2.2.2.2.2.2.1, u.2.2.2.2.2.2.2.2.2.2.2.2.2.2.2.1, u.2.2.2.2.2.2.2.2.2.2.2.2.2.2.2.2.1, u.2.2.2.2.2.2.2.2.2.2.2.2.2.2.2.2.2.1, u.2.2.2.2.2.2.2.2.2.2.2.2.2.2.2.2.2.2)
def ys_body (e : Nat → Int32) (u : SY) : SY := (u.1, u.2.1, u.2.2.1, u.2.2.2.1, u.2.2.2.2.1, u.2.2.2.2.2.1, u.2.2.2.2.2.2.1, u.2.2.2.2.2.2.2.1, u.2.2.2.2.2.2.2.2.1, u.2.2.2.2.2.2.2.2.2.1, u.2.2.2.2.2.2.2.2.2.2.1, u.2.2.2.2.2.2.2.2.2.2.2.1, u.2.2.2.2.2.2.2.2.2.2.2.2.1, u.2.2.2.2.2.2.2.2.2.2.2.2.2.1, e, u.2.2.2.2.2.2.2.2.2.2.2.2.2.2.2.1, u.2.2.2.2.2.2.2.2.2.2.2.2.2.2.2.2.1, u.2.2.2.2.2.2.2.2.2.2.2.2.2.2.2.2.2.1, u.2.2.2.2.2.2.2.2.2.2.2.2.2.2.2.2.2.2)
def ys_claim (e : Nat → Int32) (u : SY) : SY := (u.1, u.2.1, u.2.2.1, u.2.2.2.1, u.2.2.2.2.1, u.2.2.2.2.2.1, u.2.2.2.2.2.2.1, u.2.2.2.2.2.2.2.1, u.2.2.2.2.2.2.2.2.1, u.2.2.2.2.2.2.2.2.2.1, u.2.2.2.2.2.2.2.2.2.2.1, u.2.2.2.2.2.2.2.2.2.2.2.1, u.2.2.2.2.2.2.2.2.2.2.2.2.1, u.2.2.2.2.2.2.2.2.2.2.2.2.2.1, u.2.2.2.2.2.2.2.2.2.2.2.2.2.2.1, e, u.2.2.2.2.2.2.2.2.2.2.2.2.2.2.2.2.1, u.2.2.2.2.2.2.2.2.2.2.2.2.2.2.2.2.2.1, u.2.2.2.2.2.2.2.2.2.2.2.2.2.2.2.2.2.2)
def ys_type (e : Nat → Int32) (u : SY) : SY := (u.1, u.2.1, u.2.2.1, u.2.2.2.1, u.2.2.2.2.1, u.2.2.2.2.2.1, u.2.2.2.2.2.2.1, u.2.2.2.2.2.2.2.1, u.2.2.2.2.2.2.2.2.1, u.2.2.2.2.2.2.2.2.2.1, u.2.2.2.2.2.2.2.2.2.2.1, u.2.2.2.2.2.2.2.2.2.2.2.1, u.2.2.2.2.2.2.2.2.2.2.2.2.1, u.2.2.2.2.2.2.2.2.2.2.2.2.2.1, u.2.2.2.2.2.2.2.2.2.2.2.2.2.2.1, u.2.2.2.2.2.2.2.2.2.2.2.2.2.2.2.1, e, u.2.2.2.2.2.2.2.2.2.2.2.2.2.2.2.2.2.1, u.2.2.2.2.2.2.2.2.2.2.2.2.2.2.2.2.2.2)
def ys_nmem (e : Nat) (u : SY) : SY := (u.1, u.2.1, u.2.2.1, u.2.2.2.1, u.2.2.2.2.1, u.2.2.2.2.2.1, u.2.2.2.2.2.2.1, u.2.2.2.2.2.2.2.1, u.2.2.2.2.2.2.2.2.1, u.2.2.2.2.2.2.2.2.2.1, u.2.2.2.2.2.2.2.2.2.2.1, u.2.2.2.2.2.2.2.2.2.2.2.1, u.2.2.2.2.2.2.2.2.2.2.2.2.1, u.2.2.2.2.2.2.2.2.2.2.2.2.2.1, u.2.2.2.2.2.2.2.2.2.2.2.2.2.2.1, u.2.2.2.2.2.2.2.2.2.2.2.2.2.2.2.1, u.2.2.2.2.2.2.2.2.2.2.2.2.2.2.2.2.1, e, u.2.2.2.2.2.2.2.2.2.2.2.2.2.2.2.2.2.2)
def ys_ndep (e : Nat) (u : SY) : SY := (u.1, u.2.1, u.2.2.1, u.2.2.2.1, u.2.2.2.2.1, u.2.2.2.2.2.1, u.2.2.2.2.2.2.1, u.2.2.2.2.2.2.2.1, u.2.2.2.2.2.2.2.2.1, u.2.2.2.2.2.2.2.2.2.1, u.2.2.2.2.2.2.2.2.2.2.1, u.2.2.2.2.2.2.2.2.2.2.2.1, u.2.2.2.2.2.2.2.2.2.2.2.2.1, u.2.2.2.2.2.2.2.2.2.2.2.2.2.1, u.2.2.2.2.2.2.2.2.2.2.2.2.2.2.1, u.2.2.2.2.2.2.2.2.2.2.2.2.2.2.2.1, u.2.2.2.2.2.2.2.2.2.2.2.2.2.2.2.2.1, u.2.2.2.2.2.2.2.2.2.2.2.2.2.2.2.2.2.1, e)
def ys_outLen_mem (e_outLen : Int32) (e_mem : Nat → Int64) (u : SY) : SY := (u.1, u.2.1, u.2.2.1, u.2.2.2.1, u.2.2.2.2.1, u.2.2.2.2.2.1, u.2.2.2.2.2.2.1, u.2.2.2.2.2.2.2.1, e_outLen, u.2.2.2.2.2.2.2.2.2.1, e_mem, u.2.2.2.2.2.2.2.2.2.2.2.1, u.2.2.2.2.2.2.2.2.2.2.2.2.1, u.2.2.2.2.2.2.2.2.2.2.2.2.2.1, u.2.2.2.2.2.2.2.2.2.2.2.2.2.2.1, u.2.2.2.2.2.2.2.2.2.2.2.2.2.2.2.1, u.2.2.2.2.2.2.2.2.2.2.2.2.2.2.2.2.1, u.2.2.2.2.2.2.2.2.2.2.2.2.2.2.2.2.2.1, u.2.2.2.2.2.2.2.2.2.2.2.2.2.2.2.2.2.2)
def ys_ticks_blame_mark (e_ticks : Int32) (e_blame : Int32) (e_mark : Int32) (u : SY) : SY := (u.1, u.2.1, u.2.2.1, u.2.2.2.1, u.2.2.2.2.1, u.2.2.2.2.2.1, e_ticks, e_blame, u.2.2.2.2.2.2.2.2.1, e_mark, u.2.2.2.2.2.2.2.2.2.2.1, u.2.2.2.2.2.2.2.2.2.2.2.1, u.2.2.2.2.2.2.2.2.2.2.2.2.1, u.2.2.2.2.2.2.2.2.2.2.2.2.2.1, u.2.2.2.2.2.2.2.2.2.2.2.2.2.2.1, u.2.2.2.2.2.2.2.2.2.2.2.2.2.2.2.1, u.2.2.2.2.2.2.2.2.2.2.2.2.2.2.2.2.1, u.2.2.2.2.2.2.2.2.2.2.2.2.2.2.2.2.2.1, u.2.2.2.2.2.2.2.2.2.2.2.2.2.2.2.2.2.2)
def ys_defs_body_claim_type (e_defs : Int32) (e_body : Nat → Int32) (e_claim : Nat → Int32) (e_type : Nat → Int32) (u : SY) : SY := (u.1, u.2.1, u.2.2.1, u.2.2.2.1, u.2.2.2.2.1, e_defs, u.2.2.2.2.2.2.1, u.2.2.2.2.2.2.2.1, u.2.2.2.2.2.2.2.2.1, u.2.2.2.2.2.2.2.2.2.1, u.2.2.2.2.2.2.2.2.2.2.1, u.2.2.2.2.2.2.2.2.2.2.2.1, u.2.2.2.2.2.2.2.2.2.2.2.2.1, u.2.2.2.2.2.2.2.2.2.2.2.2.2.1, e_body, e_claim, e_type, u.2.2.2.2.2.2.2.2.2.2.2.2.2.2.2.2.2.1, u.2.2.2.2.2.2.2.2.2.2.2.2.2.2.2.2.2.2)
def ys_count_blame (e_count : Int32) (e_blame : Int32) (u : SY) : SY := (u.1, u.2.1, u.2.2.1, u.2.2.2.1, e_count, u.2.2.2.2.2.1, u.2.2.2.2.2.2.1, e_blame, u.2.2.2.2.2.2.2.2.1, u.2.2.2.2.2.2.2.2.2.1, u.2.2.2.2.2.2.2.2.2.2.1, u.2.2.2.2.2.2.2.2.2.2.2.1, u.2.2.2.2.2.2.2.2.2.2.2.2.1, u.2.2.2.2.2.2.2.2.2.2.2.2.2.1, u.2.2.2.2.2.2.2.2.2.2.2.2.2.2.1, u.2.2.2.2.2.2.2.2.2.2.2.2.2.2.2.1, u.2.2.2.2.2.2.2.2.2.2.2.2.2.2.2.2.1, u.2.2.2.2.2.2.2.2.2.2.2.2.2.2.2.2.2.1, u.2.2.2.2.2.2.2.2.2.2.2.2.2.2.2.2.2.2)
theorem ye_clamp {post : Int32 → Prop} {u : SY} {p0 : Int32} {p1 : Int32} {p2 : Int32} : wpY_clamp post u p0 p1 p2 = (((p1 ≤ p0 → (((p0 ≤ p2 → (post p0)) ∧ (¬ p0 ≤ p2 → (post p2))))) ∧ (¬ p1 ≤ p0 → (post p1)))) := rfl
theorem ye_kind {post : Int32 → Prop} {u : SY} {p0 : Int32} : wpY_kind post u p0 = (vp_in p0 (yg_nmem u) ∧ (post ((((yg_mem u) p0.toNatClampNeg) &&& 15).toInt32))) := rfl
theorem ye_val {post : Int32 → Prop} {u : SY} {p0 : Int32} : wpY_val post u p0 = (vp_in p0 (yg_nmem u) ∧ (post ((((yg_mem u) p0.toNatClampNeg) >>> ((4 : Int32).toInt64 &&& 63)).toInt32))) := rfl
theorem ye_bad {post : Int32 → Prop} {u : SY} {p0 : Int32} : wpY_bad post u p0 = (((p0 < 0 → (post 1)) ∧ (¬ p0 < 0 → (((p0 < (yg_count u) → (post 0)) ∧ (¬ p0 < (yg_count u) → (post 1))))))) := rfl
theorem ye_arity {post : Int32 → Prop} {u : SY} {p0 : Int32} : wpY_arity post u p0 = (wpY_kind (fun r_1 => (((r_1 = 9 → (post 4)) ∧ (¬ r_1 = 9 → (((r_1 = 6 → (post 2)) ∧ (¬ r_1 = 6 → (((r_1 = 7 → (post 2)) ∧ (¬ r_1 = 7 → (((r_1 = 8 → (post 2)) ∧ (¬ r_1 = 8 → (((r_1 = 4 → (post 1)) ∧ (¬ r_1 = 4 → (((r_1 = 11 → (post 1)) ∧ (¬ r_1 = 11 → (post 0)))))))))))))))))))) u p0) := rfl
def yv_end_4 (post : Int32 → Prop) (n : Nat) (x2 : Int32) (x3 : Int32) (u : SY) : Prop := wY_end_4 post u.1 u.2.1 u.2.2.1 u.2.2.2.1 u.2.2.2.2.1 u.2.2.2.2.2.1 u.2.2.2.2.2.2.1 u.2.2.2.2.2.2.2.1 u.2.2.2.2.2.2.2.2.1 u.2.2.2.2.2.2.2.2.2.1 u.2.2.2.2.2.2.2.2.2.2.1 u.2.2.2.2.2.2.2.2.2.2.2.1 u.2.2.2.2.2.2.2.2.2.2.2.2.1 u.2.2.2.2.2.2.2.2.2.2.2.2.2.1 u.2.2.2.2.2.2.2.2.2.2.2.2.2.2.1 u.2.2.2.2.2.2.2.2.2.2.2.2.2.2.2.1 u.2.2.2.2.2.2.2.2.2.2.2.2.2.2.2.2.1 u.2.2.2.2.2.2.2.2.2.2.2.2.2.2.2.2.2.1 u.2.2.2.2.2.2.2.2.2.2.2.2.2.2.2.2.2.2 n x2 x3
theorem ye_end_4 {post : Int32 → Prop} {n : Nat} {x2 : Int32} {x3 : Int32} {u : SY} : yv_end_4 post (n + 1) x2 x3 u = (((x3 ≤ 0 → (post x2)) ∧ (¬ x3 ≤ 0 → (((47344 ≤ x2 → (post x2)) ∧ (¬ 47344 ≤ x2 → (wpY_arity (fun r_3 => (∀ x3_23 : Int32, x3_23 = x3 + (r_3 - 1) → (∀ x2_24 : Int32, x2_24 = x2 + 1 → ((yv_end_4 post n x2_24 x3_23 u))))) u x2))))))) := rfl
theorem ye_end {post : Int32 → Prop} {u : SY} {p0 : Int32} : wpY_end post u p0 = (∃ n4 : Nat, (yv_end_4 post n4 p0 1 u)) := rfl
def yv_child_7 (post : Int32 → Prop) (x2 : Int32) (n : Nat) (x3 : Int32) (x4 : Int32) (u : SY) : Prop := wY_child_7 post x2 u.1 u.2.1 u.2.2.1 u.2.2.2.1 u.2.2.2.2.1 u.2.2.2.2.2.1 u.2.2.2.2.2.2.1 u.2.2.2.2.2.2.2.1 u.2.2.2.2.2.2.2.2.1 u.2.2.2.2.2.2.2.2.2.1 u.2.2.2.2.2.2.2.2.2.2.1 u.2.2.2.2.2.2.2.2.2.2.2.1 u.2.2.2.2.2.2.2.2.2.2.2.2.1 u.2.2.2.2.2.2.2.2.2.2.2.2.2.1 u.2.2.2.2.2.2.2.2.2.2.2.2.2.2.1 u.2.2.2.2.2.2.2.2.2.2.2.2.2.2.2.1 u.2.2.2.2.2.2.2.2.2.2.2.2.2.2.2.2.1 u.2.2.2.2.2.2.2.2.2.2.2.2.2.2.2.2.2.1 u.2.2.2.2.2.2.2.2.2.2.2.2.2.2.2.2.2.2 n x3 x4
theorem ye_child_7 {post : Int32 → Prop} {x2 : Int32} {n : Nat} {x3 : Int32} {x4 : Int32} {u : SY} : yv_child_7 post x2 (n + 1) x3 x4 u = (((x2 ≤ x4 → (post x3)) ∧ (¬ x2 ≤ x4 → (wpY_end (fun r_3 => (∀ x4_23 : Int32, x4_23 = x4 + 1 → ((yv_child_7 post x2 n r_3 x4_23 u)))) u x3)))) := rfl
theorem ye_child {post : Int32 → Prop} {u : SY} {p0 : Int32} {p1 : Int32} : wpY_child post u p0 p1 = (∀ x3_1 : Int32, x3_1 = p0 + 1 → (∃ n7 : Nat, (yv_child_7 post p1 n7 x3_1 0 u))) := rfl
def yv_bound_36 (post : Int32 → Prop) (x1 : Int32) (u : SY) : Prop := wY_bound_36 post x1 u.1 u.2.1 u.2.2.1 u.2.2.2.1 u.2.2.2.2.1 u.2.2.2.2.2.1 u.2.2.2.2.2.2.1 u.2.2.2.2.2.2.2.1 u.2.2.2.2.2.2.2.2.1 u.2.2.2.2.2.2.2.2.2.1 u.2.2.2.2.2.2.2.2.2.2.1 u.2.2.2.2.2.2.2.2.2.2.2.1 u.2.2.2.2.2.2.2.2.2.2.2.2.1 u.2.2.2.2.2.2.2.2.2.2.2.2.2.1 u.2.2.2.2.2.2.2.2.2.2.2.2.2.2.1 u.2.2.2.2.2.2.2.2.2.2.2.2.2.2.2.1 u.2.2.2.2.2.2.2.2.2.2.2.2.2.2.2.2.1 u.2.2.2.2.2.2.2.2.2.2.2.2.2.2.2.2.2.1 u.2.2.2.2.2.2.2.2.2.2.2.2.2.2.2.2.2.2
theorem ye_bound_36 {post : Int32 → Prop} {x1 : Int32} {u : SY} : yv_bound_36 post x1 u = (wpY_end (fun r_23 => (post r_23)) u (x1 + 1)) := rfl
theorem ye_bound {post : Int32 → Prop} {u : SY} {p0 : Int32} : wpY_bound post u p0 = (wpY_kind (fun r_1 => (((r_1 = 11 → (post (p0 + 1))) ∧ (¬ r_1 = 11 → (((r_1 = 6 → ((yv_bound_36 post p0 u))) ∧ (¬ r_1 = 6 → (((r_1 = 7 → ((yv_bound_36 post p0 u))) ∧ (¬ r_1 = 7 → (((r_1 = 9 → ((yv_bound_36 post p0 u))) ∧ (¬ r_1 = 9 → (post (-13))))))))))))))) u p0) := rfl
def yv_marks_62 (post : SY → Prop) (J28 : Int32 → SY → Prop) (x2 : Int32) (x3 : Int32) (x5 : Int32) (n : Nat) (x6 : Int32) (u : SY) : Prop := wY_marks_62 post (fun x3' a_mem' a_dep' a_ty' a_aux' a_body' a_claim' a_type' => J28 x3' (u.1, u.2.1, u.2.2.1, u.2.2.2.1, u.2.2.2.2.1, u.2.2.2.2.2.1, u.2.2.2.2.2.2.1, u.2.2.2.2.2.2.2.1, u.2.2.2.2.2.2.2.2.1, u.2.2.2.2.2.2.2.2.2.1, a_mem', a_dep', a_ty', a_aux', a_body', a_claim', a_type', u.2.2.2.2.2.2.2.2.2.2.2.2.2.2.2.2.2.1, u.2.2.2.2.2.2.2.2.2.2.2.2.2.2.2.2.2.2)) x2 x3 x5 u.1 u.2.1 u.2.2.1 u.2.2.2.1 u.2.2.2.2.1 u.2.2.2.2.2.1 u.2.2.2.2.2.2.1 u.2.2.2.2.2.2.2.1 u.2.2.2.2.2.2.2.2.1 u.2.2.2.2.2.2.2.2.2.1 u.2.2.2.2.2.2.2.2.2.2.2.2.2.2.2.2.2.1 u.2.2.2.2.2.2.2.2.2.2.2.2.2.2.2.2.2.2 n x6 u.2.2.2.2.2.2.2.2.2.2.1 u.2.2.2.2.2.2.2.2.2.2.2.1 u.2.2.2.2.2.2.2.2.2.2.2.2.1 u.2.2.2.2.2.2.2.2.2.2.2.2.2.1 u.2.2.2.2.2.2.2.2.2.2.2.2.2.2.1 u.2.2.2.2.2.2.2.2.2.2.2.2.2.2.2.1 u.2.2.2.2.2.2.2.2.2.2.2.2.2.2.2.2.1
theorem ye_marks_62 {post : SY → Prop} {J28 : Int32 → SY → Prop} {x2 : Int32} {x3 : Int32} {x5 : Int32} {n : Nat} {x6 : Int32} {u : SY} : yv_marks_62 post J28 x2 x3 x5 (n + 1) x6 u = (((x5 ≤ x6 → (∀ x3_65 : Int32, x3_65 = x3 + 1 → ((J28 x3_65 u)))) ∧ (¬ x5 ≤ x6 → (vp_in x6 (yg_ndep u) ∧ (vp_in x6 (yg_ndep u) ∧ ∀ a_dep_68 : Nat → Int32, a_dep_68 = upd (yg_dep u) x6.toNatClampNeg (((yg_dep u) x6.toNatClampNeg) + 1) → (∀ x6_69 : Int32, x6_69 = x6 + 1 → ((yv_marks_62 post J28 x2 x3 x5 n x6_69 (ys_dep a_dep_68 u))))))))) := rfl
def yv_marks_28 (post : SY → Prop) (x2 : Int32) (n : Nat) (x3 : Int32) (u : SY) : Prop := wY_marks_28 post x2 u.1 u.2.1 u.2.2.1 u.2.2.2.1 u.2.2.2.2.1 u.2.2.2.2.2.1 u.2.2.2.2.2.2.1 u.2.2.2.2.2.2.2.1 u.2.2.2.2.2.2.2.2.1 u.2.2.2.2.2.2.2.2.2.1 u.2.2.2.2.2.2.2.2.2.2.2.2.2.2.2.2.2.1 u.2.2.2.2.2.2.2.2.2.2.2.2.2.2.2.2.2.2 n x3 u.2.2.2.2.2.2.2.2.2.2.1 u.2.2.2.2.2.2.2.2.2.2.2.1 u.2.2.2.2.2.2.2.2.2.2.2.2.1 u.2.2.2.2.2.2.2.2.2.2.2.2.2.1 u.2.2.2.2.2.2.2.2.2.2.2.2.2.2.1 u.2.2.2.2.2.2.2.2.2.2.2.2.2.2.2.1 u.2.2.2.2.2.2.2.2.2.2.2.2.2.2.2.2.1
theorem ye_marks_28 {post : SY → Prop} {x2 : Int32} {n : Nat} {x3 : Int32} {u : SY} : yv_marks_28 post x2 (n + 1) x3 u = (((x2 ≤ x3 → (post u)) ∧ (¬ x2 ≤ x3 → (wpY_bound (fun r_23 => (((0 ≤ r_23 → (wpY_end (fun r_44 => (∃ n62 : Nat, (yv_marks_62 post ((yv_marks_28 post x2 n)) x2 x3 r_44 n62 r_23 u))) u r_23)) ∧ (¬ 0 ≤ r_23 → (∃ n62 : Nat, (yv_marks_62 post ((yv_marks_28 post x2 n)) x2 x3 r_23 n62 r_23 u)))))) u x3)))) := rfl
def yv_marks_8 (post : SY → Prop) (x1 : Int32) (x2 : Int32) (n : Nat) (x3 : Int32) (u : SY) : Prop := wY_marks_8 post x1 x2 u.1 u.2.1 u.2.2.1 u.2.2.2.1 u.2.2.2.2.1 u.2.2.2.2.2.1 u.2.2.2.2.2.2.1 u.2.2.2.2.2.2.2.1 u.2.2.2.2.2.2.2.2.1 u.2.2.2.2.2.2.2.2.2.1 u.2.2.2.2.2.2.2.2.2.2.2.2.2.2.2.2.2.1 u.2.2.2.2.2.2.2.2.2.2.2.2.2.2.2.2.2.2 n x3 u.2.2.2.2.2.2.2.2.2.2.1 u.2.2.2.2.2.2.2.2.2.2.2.1 u.2.2.2.2.2.2.2.2.2.2.2.2.1 u.2.2.2.2.2.2.2.2.2.2.2.2.2.1 u.2.2.2.2.2.2.2.2.2.2.2.2.2.2.1 u.2.2.2.2.2.2.2.2.2.2.2.2.2.2.2.1 u.2.2.2.2.2.2.2.2.2.2.2.2.2.2.2.2.1
theorem ye_marks_8 {post : SY → Prop} {x1 : Int32} {x2 : Int32} {n : Nat} {x3 : Int32} {u : SY} : yv_marks_8 post x1 x2 (n + 1) x3 u = (((x2 ≤ x3 → (∃ n28 : Nat, (yv_marks_28 post x2 n28 x1 u))) ∧ (¬ x2 ≤ x3 → (vp_in x3 (yg_ndep u) ∧ ∀ a_dep_71 : Nat → Int32, a_dep_71 = upd (yg_dep u) x3.toNatClampNeg 0 → (∀ x3_72 : Int32, x3_72 = x3 + 1 → ((yv_marks_8 post x1 x2 n x3_72 (ys_dep a_dep_71 u)))))))) := rfl
theorem ye_marks {post : SY → Prop} {u : SY} {p0 : Int32} : wpY_marks post u p0 = (wpY_end (fun r_1 => (∃ n8 : Nat, (yv_marks_8 post p0 r_1 n8 p0 u))) u p0) := rfl
theorem ye_put {post : SY → Prop} {u : SY} {p0 : Int32} {p1 : Int32} : wpY_put post u p0 p1 = (((16384 ≤ (yg_outLen u) → (post u)) ∧ (¬ 16384 ≤ (yg_outLen u) → (vp_in (30960 + (yg_outLen u)) (yg_nmem u) ∧ ∀ a_mem_3 : Nat → Int64, a_mem_3 = vp_updL (yg_mem u) (30960 + (yg_outLen u)).toNatClampNeg (p0.toInt64 + (16 * p1.toInt64)) → (∀ f_outLen_4 : Int32, f_outLen_4 = (yg_outLen u) + 1 → (post (ys_outLen_mem f_outLen_4 a_mem_3 u))))))) := rfl
def yv_copy_2 (post : SY → Prop) (x2 : Int32) (n : Nat) (x3 : Int32) (u : SY) : Prop := wY_copy_2 post x2 n x3 u.1 u.2.1 u.2.2.1 u.2.2.2.1 u.2.2.2.2.1 u.2.2.2.2.2.1 u.2.2.2.2.2.2.1 u.2.2.2.2.2.2.2.1 u.2.2.2.2.2.2.2.2.1 u.2.2.2.2.2.2.2.2.2.1 u.2.2.2.2.2.2.2.2.2.2.1 u.2.2.2.2.2.2.2.2.2.2.2.1 u.2.2.2.2.2.2.2.2.2.2.2.2.1 u.2.2.2.2.2.2.2.2.2.2.2.2.2.1 u.2.2.2.2.2.2.2.2.2.2.2.2.2.2.1 u.2.2.2.2.2.2.2.2.2.2.2.2.2.2.2.1 u.2.2.2.2.2.2.2.2.2.2.2.2.2.2.2.2.1 u.2.2.2.2.2.2.2.2.2.2.2.2.2.2.2.2.2.1 u.2.2.2.2.2.2.2.2.2.2.2.2.2.2.2.2.2.2
theorem ye_copy_2 {post : SY → Prop} {x2 : Int32} {n : Nat} {x3 : Int32} {u : SY} : yv_copy_2 post x2 (n + 1) x3 u = (((x2 ≤ x3 → (post u)) ∧ (¬ x2 ≤ x3 → (wpY_kind (fun r_2 => (wpY_val (fun r_22 => (wpY_put (fun u_43 => (∀ x3_62 : Int32, x3_62 = x3 + 1 → ((yv_copy_2 post x2 n x3_62 u_43)))) u r_2 r_22)) u x3)) u x3)))) := rfl
theorem ye_copy {post : SY → Prop} {u : SY} {p0 : Int32} {p1 : Int32} : wpY_copy post u p0 p1 = (∃ n2 : Nat, (yv_copy_2 post p1 n2 p0 u)) := rfl
theorem ye_term {post : SY → Prop} {u : SY} {p0 : Int32} : wpY_term post u p0 = (wpY_end (fun r_1 => (wpY_copy (fun u_22 => (post u_22)) u p0 r_1)) u p0) := rfl
def yv_erase_54 (post : SY → Prop) (J11 : Int32 → Int32 → SY → Prop) (x2 : Int32) (x4 : Int32) (x5 : Int32) (x6 : Int32) (z0 : Int32) (u : SY) : Prop := wY_erase_54 post (fun x3' x4' f_nodeLimit' f_weightLimit' f_fuelLimit' f_entryLimit' f_count' f_defs' f_ticks' f_blame' f_outLen' f_mark' a_mem' a_dep' a_ty' a_aux' a_body' a_claim' a_type' n_mem' n_dep' => J11 x3' x4' (f_nodeLimit', f_weightLimit', f_fuelLimit', f_entryLimit', f_count', f_defs', f_ticks', f_blame', f_outLen', f_mark', a_mem', a_dep', a_ty', a_aux', a_body', a_claim', a_type', n_mem', n_dep')) x2 x4 x5 x6 z0 u.1 u.2.1 u.2.2.1 u.2.2.2.1 u.2.2.2.2.1 u.2.2.2.2.2.1 u.2.2.2.2.2.2.1 u.2.2.2.2.2.2.2.1 u.2.2.2.2.2.2.2.2.1 u.2.2.2.2.2.2.2.2.2.1 u.2.2.2.2.2.2.2.2.2.2.1 u.2.2.2.2.2.2.2.2.2.2.2.1 u.2.2.2.2.2.2.2.2.2.2.2.2.1 u.2.2.2.2.2.2.2.2.2.2.2.2.2.1 u.2.2.2.2.2.2.2.2.2.2.2.2.2.2.1 u.2.2.2.2.2.2.2.2.2.2.2.2.2.2.2.1 u.2.2.2.2.2.2.2.2.2.2.2.2.2.2.2.2.1 u.2.2.2.2.2.2.2.2.2.2.2.2.2.2.2.2.2.1 u.2.2.2.2.2.2.2.2.2.2.2.2.2.2.2.2.2.2
theorem ye_erase_54 {post : SY → Prop} {J11 : Int32 → Int32 → SY → Prop} {x2 : Int32} {x4 : Int32} {x5 : Int32} {x6 : Int32} {z0 : Int32} {u : SY} : yv_erase_54 post J11 x2 x4 x5 x6 z0 u = (wpY_put (fun u_66 => (((x5 = 7 → (wpY_end (fun r_88 => (∀ x4_108 : Int32, x4_108 = x4 + 1 → ((J11 r_88 x4_108 u_66)))) u_66 (x4 + 1))) ∧ (¬ x5 = 7 → (∀ x3_86 : Int32, x3_86 = x4 + 1 → (∀ x4_87 : Int32, x4_87 = x4 + 1 → ((J11 x3_86 x4_87 u_66)))))))) u z0 x6) := rfl
def yv_erase_11 (post : SY → Prop) (x2 : Int32) (n : Nat) (x3 : Int32) (x4 : Int32) (u : SY) : Prop := wY_erase_11 post x2 n x3 x4 u.1 u.2.1 u.2.2.1 u.2.2.2.1 u.2.2.2.2.1 u.2.2.2.2.2.1 u.2.2.2.2.2.2.1 u.2.2.2.2.2.2.2.1 u.2.2.2.2.2.2.2.2.1 u.2.2.2.2.2.2.2.2.2.1 u.2.2.2.2.2.2.2.2.2.2.1 u.2.2.2.2.2.2.2.2.2.2.2.1 u.2.2.2.2.2.2.2.2.2.2.2.2.1 u.2.2.2.2.2.2.2.2.2.2.2.2.2.1 u.2.2.2.2.2.2.2.2.2.2.2.2.2.2.1 u.2.2.2.2.2.2.2.2.2.2.2.2.2.2.2.1 u.2.2.2.2.2.2.2.2.2.2.2.2.2.2.2.2.1 u.2.2.2.2.2.2.2.2.2.2.2.2.2.2.2.2.2.1 u.2.2.2.2.2.2.2.2.2.2.2.2.2.2.2.2.2.2
theorem ye_erase_11 {post : SY → Prop} {x2 : Int32} {n : Nat} {x3 : Int32} {x4 : Int32} {u : SY} : yv_erase_11 post x2 (n + 1) x3 x4 u = (((x2 ≤ x4 → (post u)) ∧ (¬ x2 ≤ x4 → (wpY_kind (fun r_22 => (wpY_val (fun r_42 => (((x4 < x3 → (∀ x4_63 : Int32, x4_63 = x4 + 1 → ((yv_erase_11 post x2 n x3 x4_63 u)))) ∧ (¬ x4 < x3 → (((r_22 = 7 → ((yv_erase_54 post ((yv_erase_11 post x2 n)) x2 x4 r_22 r_42 11 u))) ∧ (¬ r_22 = 7 → ((yv_erase_54 post ((yv_erase_11 post x2 n)) x2 x4 r_22 r_42 r_22 u))))))))) u x4)) u x4)))) := rfl
theorem ye_erase {post : SY → Prop} {u : SY} {p0 : Int32} : wpY_erase post u p0 = (wpY_end (fun r_1 => (∃ n11 : Nat, (yv_erase_11 post r_1 n11 p0 p0 u))) u p0) := rfl
def yv_shift_107 (post : SY → Prop) (J15 : Int32 → SY → Prop) (x2 : Int32) (x3 : Int32) (x4 : Int32) (x5 : Int32) (z0 : Int32) (z1 : Int32) (u : SY) : Prop := wY_shift_107 post (fun x5' f_nodeLimit' f_weightLimit' f_fuelLimit' f_entryLimit' f_count' f_defs' f_ticks' f_blame' f_outLen' f_mark' a_mem' a_dep' a_ty' a_aux' a_body' a_claim' a_type' n_mem' n_dep' => J15 x5' (f_nodeLimit', f_weightLimit', f_fuelLimit', f_entryLimit', f_count', f_defs', f_ticks', f_blame', f_outLen', f_mark', a_mem', a_dep', a_ty', a_aux', a_body', a_claim', a_type', n_mem', n_dep')) x2 x3 x4 x5 z0 z1 u.1 u.2.1 u.2.2.1 u.2.2.2.1 u.2.2.2.2.1 u.2.2.2.2.2.1 u.2.2.2.2.2.2.1 u.2.2.2.2.2.2.2.1 u.2.2.2.2.2.2.2.2.1 u.2.2.2.2.2.2.2.2.2.1 u.2.2.2.2.2.2.2.2.2.2.1 u.2.2.2.2.2.2.2.2.2.2.2.1 u.2.2.2.2.2.2.2.2.2.2.2.2.1 u.2.2.2.2.2.2.2.2.2.2.2.2.2.1 u.2.2.2.2.2.2.2.2.2.2.2.2.2.2.1 u.2.2.2.2.2.2.2.2.2.2.2.2.2.2.2.1 u.2.2.2.2.2.2.2.2.2.2.2.2.2.2.2.2.1 u.2.2.2.2.2.2.2.2.2.2.2.2.2.2.2.2.2.1 u.2.2.2.2.2.2.2.2.2.2.2.2.2.2.2.2.2.2
theorem ye_shift_107 {post : SY → Prop} {J15 : Int32 → SY → Prop} {x2 : Int32} {x3 : Int32} {x4 : Int32} {x5 : Int32} {z0 : Int32} {z1 : Int32} {u : SY} : yv_shift_107 post J15 x2 x3 x4 x5 z0 z1 u = (wpY_put (fun u_86 => (∀ x5_105 : Int32, x5_105 = x5 + 1 → ((J15 x5_105 u_86)))) u z1 z0) := rfl
def yv_shift_90 (post : SY → Prop) (J15 : Int32 → SY → Prop) (x2 : Int32) (x3 : Int32) (x4 : Int32) (x5 : Int32) (x6 : Int32) (x7 : Int32) (x8 : Int32) (u : SY) : Prop := wY_shift_90 post (fun x5' f_nodeLimit' f_weightLimit' f_fuelLimit' f_entryLimit' f_count' f_defs' f_ticks' f_blame' f_outLen' f_mark' a_mem' a_dep' a_ty' a_aux' a_body' a_claim' a_type' n_mem' n_dep' => J15 x5' (f_nodeLimit', f_weightLimit', f_fuelLimit', f_entryLimit', f_count', f_defs', f_ticks', f_blame', f_outLen', f_mark', a_mem', a_dep', a_ty', a_aux', a_body', a_claim', a_type', n_mem', n_dep')) x2 x3 x4 x5 x6 x7 x8 u.1 u.2.1 u.2.2.1 u.2.2.2.1 u.2.2.2.2.1 u.2.2.2.2.2.1 u.2.2.2.2.2.2.1 u.2.2.2.2.2.2.2.1 u.2.2.2.2.2.2.2.2.1 u.2.2.2.2.2.2.2.2.2.1 u.2.2.2.2.2.2.2.2.2.2.1 u.2.2.2.2.2.2.2.2.2.2.2.1 u.2.2.2.2.2.2.2.2.2.2.2.2.1 u.2.2.2.2.2.2.2.2.2.2.2.2.2.1 u.2.2.2.2.2.2.2.2.2.2.2.2.2.2.1 u.2.2.2.2.2.2.2.2.2.2.2.2.2.2.2.1 u.2.2.2.2.2.2.2.2.2.2.2.2.2.2.2.2.1 u.2.2.2.2.2.2.2.2.2.2.2.2.2.2.2.2.2.1 u.2.2.2.2.2.2.2.2.2.2.2.2.2.2.2.2.2.2
theorem ye_shift_90 {post : SY → Prop} {J15 : Int32 → SY → Prop} {x2 : Int32} {x3 : Int32} {x4 : Int32} {x5 : Int32} {x6 : Int32} {x7 : Int32} {x8 : Int32} {u : SY} : yv_shift_90 post J15 x2 x3 x4 x5 x6 x7 x8 u = (((x8 = 0 → ((yv_shift_107 post J15 x2 x3 x4 x5 x7 x6 u))) ∧ (¬ x8 = 0 → ((yv_shift_107 post J15 x2 x3 x4 x5 (x7 + x2) x6 u))))) := rfl
def yv_shift_61 (post : SY → Prop) (J15 : Int32 → SY → Prop) (x2 : Int32) (x3 : Int32) (x4 : Int32) (x5 : Int32) (x6 : Int32) (x7 : Int32) (z0 : Int32) (u : SY) : Prop := wY_shift_61 post (fun x5' f_nodeLimit' f_weightLimit' f_fuelLimit' f_entryLimit' f_count' f_defs' f_ticks' f_blame' f_outLen' f_mark' a_mem' a_dep' a_ty' a_aux' a_body' a_claim' a_type' n_mem' n_dep' => J15 x5' (f_nodeLimit', f_weightLimit', f_fuelLimit', f_entryLimit', f_count', f_defs', f_ticks', f_blame', f_outLen', f_mark', a_mem', a_dep', a_ty', a_aux', a_body', a_claim', a_type', n_mem', n_dep')) x2 x3 x4 x5 x6 x7 z0 u.1 u.2.1 u.2.2.1 u.2.2.2.1 u.2.2.2.2.1 u.2.2.2.2.2.1 u.2.2.2.2.2.2.1 u.2.2.2.2.2.2.2.1 u.2.2.2.2.2.2.2.2.1 u.2.2.2.2.2.2.2.2.2.1 u.2.2.2.2.2.2.2.2.2.2.1 u.2.2.2.2.2.2.2.2.2.2.2.1 u.2.2.2.2.2.2.2.2.2.2.2.2.1 u.2.2.2.2.2.2.2.2.2.2.2.2.2.1 u.2.2.2.2.2.2.2.2.2.2.2.2.2.2.1 u.2.2.2.2.2.2.2.2.2.2.2.2.2.2.2.1 u.2.2.2.2.2.2.2.2.2.2.2.2.2.2.2.2.1 u.2.2.2.2.2.2.2.2.2.2.2.2.2.2.2.2.2.1 u.2.2.2.2.2.2.2.2.2.2.2.2.2.2.2.2.2.2
theorem ye_shift_61 {post : SY → Prop} {J15 : Int32 → SY → Prop} {x2 : Int32} {x3 : Int32} {x4 : Int32} {x5 : Int32} {x6 : Int32} {x7 : Int32} {z0 : Int32} {u : SY} : yv_shift_61 post J15 x2 x3 x4 x5 x6 x7 z0 u = (((z0 = 0 → ((yv_shift_90 post J15 x2 x3 x4 x5 x6 x7 z0 u))) ∧ (¬ z0 = 0 → (((x3 = 0 → ((yv_shift_90 post J15 x2 x3 x4 x5 x6 x7 z0 u))) ∧ (¬ x3 = 0 → (vp_in x5 (yg_ndep u) ∧ (((x7 = ((yg_dep u) x5.toNatClampNeg) → (wpY_put (fun u_110 => ((yv_shift_90 post J15 x2 x3 x4 x5 x6 x7 z0 u_110))) u 4 0)) ∧ (¬ x7 = ((yg_dep u) x5.toNatClampNeg) → ((yv_shift_90 post J15 x2 x3 x4 x5 x6 x7 z0 u)))))))))))) := rfl
def yv_shift_60 (post : SY → Prop) (J15 : Int32 → SY → Prop) (x2 : Int32) (x3 : Int32) (x4 : Int32) (x5 : Int32) (x6 : Int32) (x7 : Int32) (u : SY) : Prop := wY_shift_60 post (fun x5' f_nodeLimit' f_weightLimit' f_fuelLimit' f_entryLimit' f_count' f_defs' f_ticks' f_blame' f_outLen' f_mark' a_mem' a_dep' a_ty' a_aux' a_body' a_claim' a_type' n_mem' n_dep' => J15 x5' (f_nodeLimit', f_weightLimit', f_fuelLimit', f_entryLimit', f_count', f_defs', f_ticks', f_blame', f_outLen', f_mark', a_mem', a_dep', a_ty', a_aux', a_body', a_claim', a_type', n_mem', n_dep')) x2 x3 x4 x5 x6 x7 u.1 u.2.1 u.2.2.1 u.2.2.2.1 u.2.2.2.2.1 u.2.2.2.2.2.1 u.2.2.2.2.2.2.1 u.2.2.2.2.2.2.2.1 u.2.2.2.2.2.2.2.2.1 u.2.2.2.2.2.2.2.2.2.1 u.2.2.2.2.2.2.2.2.2.2.1 u.2.2.2.2.2.2.2.2.2.2.2.1 u.2.2.2.2.2.2.2.2.2.2.2.2.1 u.2.2.2.2.2.2.2.2.2.2.2.2.2.1 u.2.2.2.2.2.2.2.2.2.2.2.2.2.2.1 u.2.2.2.2.2.2.2.2.2.2.2.2.2.2.2.1 u.2.2.2.2.2.2.2.2.2.2.2.2.2.2.2.2.1 u.2.2.2.2.2.2.2.2.2.2.2.2.2.2.2.2.2.1 u.2.2.2.2.2.2.2.2.2.2.2.2.2.2.2.2.2.2
theorem ye_shift_60 {post : SY → Prop} {J15 : Int32 → SY → Prop} {x2 : Int32} {x3 : Int32} {x4 : Int32} {x5 : Int32} {x6 : Int32} {x7 : Int32} {u : SY} : yv_shift_60 post J15 x2 x3 x4 x5 x6 x7 u = ((yv_shift_61 post J15 x2 x3 x4 x5 x6 x7 0 u)) := rfl
def yv_shift_15 (post : SY → Prop) (x2 : Int32) (x3 : Int32) (x4 : Int32) (n : Nat) (x5 : Int32) (u : SY) : Prop := wY_shift_15 post x2 x3 x4 n x5 u.1 u.2.1 u.2.2.1 u.2.2.2.1 u.2.2.2.2.1 u.2.2.2.2.2.1 u.2.2.2.2.2.2.1 u.2.2.2.2.2.2.2.1 u.2.2.2.2.2.2.2.2.1 u.2.2.2.2.2.2.2.2.2.1 u.2.2.2.2.2.2.2.2.2.2.1 u.2.2.2.2.2.2.2.2.2.2.2.1 u.2.2.2.2.2.2.2.2.2.2.2.2.1 u.2.2.2.2.2.2.2.2.2.2.2.2.2.1 u.2.2.2.2.2.2.2.2.2.2.2.2.2.2.1 u.2.2.2.2.2.2.2.2.2.2.2.2.2.2.2.1 u.2.2.2.2.2.2.2.2.2.2.2.2.2.2.2.2.1 u.2.2.2.2.2.2.2.2.2.2.2.2.2.2.2.2.2.1 u.2.2.2.2.2.2.2.2.2.2.2.2.2.2.2.2.2.2
theorem ye_shift_15 {post : SY → Prop} {x2 : Int32} {x3 : Int32} {x4 : Int32} {n : Nat} {x5 : Int32} {u : SY} : yv_shift_15 post x2 x3 x4 (n + 1) x5 u = (((x4 ≤ x5 → (post u)) ∧ (¬ x4 ≤ x5 → (wpY_kind (fun r_42 => (wpY_val (fun r_62 => (((r_42 = 5 → (vp_in x5 (yg_ndep u) ∧ (((r_62 < ((yg_dep u) x5.toNatClampNeg) → ((yv_shift_60 post ((yv_shift_15 post x2 x3 x4 n)) x2 x3 x4 x5 r_42 r_62 u))) ∧ (¬ r_62 < ((yg_dep u) x5.toNatClampNeg) → ((yv_shift_61 post ((yv_shift_15 post x2 x3 x4 n)) x2 x3 x4 x5 r_42 r_62 1 u))))))) ∧ (¬ r_42 = 5 → ((yv_shift_60 post ((yv_shift_15 post x2 x3 x4 n)) x2 x3 x4 x5 r_42 r_62 u)))))) u x5)) u x5)))) := rfl
theorem ye_shift {post : SY → Prop} {u : SY} {p0 : Int32} {p1 : Int32} {p2 : Int32} : wpY_shift post u p0 p1 p2 = (wpY_marks (fun u_2 => (wpY_end (fun r_21 => (∃ n15 : Nat, (yv_shift_15 post p1 p2 r_21 n15 p0 u_2))) u_2 p0)) u p0) := rfl
def yv_subst_94 (post : SY → Prop) (J14 : Int32 → SY → Prop) (x2 : Int32) (x3 : Int32) (x4 : Int32) (z0 : Int32) (z1 : Int32) (u : SY) : Prop := wY_subst_94 post (fun x4' f_nodeLimit' f_weightLimit' f_fuelLimit' f_entryLimit' f_count' f_defs' f_ticks' f_blame' f_outLen' f_mark' a_mem' a_dep' a_ty' a_aux' a_body' a_claim' a_type' n_mem' n_dep' => J14 x4' (f_nodeLimit', f_weightLimit', f_fuelLimit', f_entryLimit', f_count', f_defs', f_ticks', f_blame', f_outLen', f_mark', a_mem', a_dep', a_ty', a_aux', a_body', a_claim', a_type', n_mem', n_dep')) x2 x3 x4 z0 z1 u.1 u.2.1 u.2.2.1 u.2.2.2.1 u.2.2.2.2.1 u.2.2.2.2.2.1 u.2.2.2.2.2.2.1 u.2.2.2.2.2.2.2.1 u.2.2.2.2.2.2.2.2.1 u.2.2.2.2.2.2.2.2.2.1 u.2.2.2.2.2.2.2.2.2.2.1 u.2.2.2.2.2.2.2.2.2.2.2.1 u.2.2.2.2.2.2.2.2.2.2.2.2.1 u.2.2.2.2.2.2.2.2.2.2.2.2.2.1 u.2.2.2.2.2.2.2.2.2.2.2.2.2.2.1 u.2.2.2.2.2.2.2.2.2.2.2.2.2.2.2.1 u.2.2.2.2.2.2.2.2.2.2.2.2.2.2.2.2.1 u.2.2.2.2.2.2.2.2.2.2.2.2.2.2.2.2.2.1 u.2.2.2.2.2.2.2.2.2.2.2.2.2.2.2.2.2.2
theorem ye_subst_94 {post : SY → Prop} {J14 : Int32 → SY → Prop} {x2 : Int32} {x3 : Int32} {x4 : Int32} {z0 : Int32} {z1 : Int32} {u : SY} : yv_subst_94 post J14 x2 x3 x4 z0 z1 u = (wpY_put (fun u_87 => (∀ x4_106 : Int32, x4_106 = x4 + 1 → ((J14 x4_106 u_87)))) u z1 z0) := rfl
def yv_subst_92 (post : SY → Prop) (J14 : Int32 → SY → Prop) (x2 : Int32) (x3 : Int32) (x4 : Int32) (x6 : Int32) (z0 : Int32) (u : SY) : Prop := wY_subst_92 post (fun x4' f_nodeLimit' f_weightLimit' f_fuelLimit' f_entryLimit' f_count' f_defs' f_ticks' f_blame' f_outLen' f_mark' a_mem' a_dep' a_ty' a_aux' a_body' a_claim' a_type' n_mem' n_dep' => J14 x4' (f_nodeLimit', f_weightLimit', f_fuelLimit', f_entryLimit', f_count', f_defs', f_ticks', f_blame', f_outLen', f_mark', a_mem', a_dep', a_ty', a_aux', a_body', a_claim', a_type', n_mem', n_dep')) x2 x3 x4 x6 z0 u.1 u.2.1 u.2.2.1 u.2.2.2.1 u.2.2.2.2.1 u.2.2.2.2.2.1 u.2.2.2.2.2.2.1 u.2.2.2.2.2.2.2.1 u.2.2.2.2.2.2.2.2.1 u.2.2.2.2.2.2.2.2.2.1 u.2.2.2.2.2.2.2.2.2.2.1 u.2.2.2.2.2.2.2.2.2.2.2.1 u.2.2.2.2.2.2.2.2.2.2.2.2.1 u.2.2.2.2.2.2.2.2.2.2.2.2.2.1 u.2.2.2.2.2.2.2.2.2.2.2.2.2.2.1 u.2.2.2.2.2.2.2.2.2.2.2.2.2.2.2.1 u.2.2.2.2.2.2.2.2.2.2.2.2.2.2.2.2.1 u.2.2.2.2.2.2.2.2.2.2.2.2.2.2.2.2.2.1 u.2.2.2.2.2.2.2.2.2.2.2.2.2.2.2.2.2.2
theorem ye_subst_92 {post : SY → Prop} {J14 : Int32 → SY → Prop} {x2 : Int32} {x3 : Int32} {x4 : Int32} {x6 : Int32} {z0 : Int32} {u : SY} : yv_subst_92 post J14 x2 x3 x4 x6 z0 u = ((yv_subst_94 post J14 x2 x3 x4 x6 z0 u)) := rfl
def yv_subst_69 (post : SY → Prop) (J14 : Int32 → SY → Prop) (x2 : Int32) (x3 : Int32) (x4 : Int32) (x5 : Int32) (x6 : Int32) (x7 : Int32) (u : SY) : Prop := wY_subst_69 post (fun x4' f_nodeLimit' f_weightLimit' f_fuelLimit' f_entryLimit' f_count' f_defs' f_ticks' f_blame' f_outLen' f_mark' a_mem' a_dep' a_ty' a_aux' a_body' a_claim' a_type' n_mem' n_dep' => J14 x4' (f_nodeLimit', f_weightLimit', f_fuelLimit', f_entryLimit', f_count', f_defs', f_ticks', f_blame', f_outLen', f_mark', a_mem', a_dep', a_ty', a_aux', a_body', a_claim', a_type', n_mem', n_dep')) x2 x3 x4 x5 x6 x7 u.1 u.2.1 u.2.2.1 u.2.2.2.1 u.2.2.2.2.1 u.2.2.2.2.2.1 u.2.2.2.2.2.2.1 u.2.2.2.2.2.2.2.1 u.2.2.2.2.2.2.2.2.1 u.2.2.2.2.2.2.2.2.2.1 u.2.2.2.2.2.2.2.2.2.2.1 u.2.2.2.2.2.2.2.2.2.2.2.1 u.2.2.2.2.2.2.2.2.2.2.2.2.1 u.2.2.2.2.2.2.2.2.2.2.2.2.2.1 u.2.2.2.2.2.2.2.2.2.2.2.2.2.2.1 u.2.2.2.2.2.2.2.2.2.2.2.2.2.2.2.1 u.2.2.2.2.2.2.2.2.2.2.2.2.2.2.2.2.1 u.2.2.2.2.2.2.2.2.2.2.2.2.2.2.2.2.2.1 u.2.2.2.2.2.2.2.2.2.2.2.2.2.2.2.2.2.2
theorem ye_subst_69 {post : SY → Prop} {J14 : Int32 → SY → Prop} {x2 : Int32} {x3 : Int32} {x4 : Int32} {x5 : Int32} {x6 : Int32} {x7 : Int32} {u : SY} : yv_subst_69 post J14 x2 x3 x4 x5 x6 x7 u = (((x5 = 5 → (((x6 ≤ x7 → ((yv_subst_92 post J14 x2 x3 x4 x6 x5 u))) ∧ (¬ x6 ≤ x7 → ((yv_subst_94 post J14 x2 x3 x4 (x6 - 1) x5 u)))))) ∧ (¬ x5 = 5 → ((yv_subst_92 post J14 x2 x3 x4 x6 x5 u))))) := rfl
def yv_subst_14 (post : SY → Prop) (x2 : Int32) (x3 : Int32) (n : Nat) (x4 : Int32) (u : SY) : Prop := wY_subst_14 post x2 x3 n x4 u.1 u.2.1 u.2.2.1 u.2.2.2.1 u.2.2.2.2.1 u.2.2.2.2.2.1 u.2.2.2.2.2.2.1 u.2.2.2.2.2.2.2.1 u.2.2.2.2.2.2.2.2.1 u.2.2.2.2.2.2.2.2.2.1 u.2.2.2.2.2.2.2.2.2.2.1 u.2.2.2.2.2.2.2.2.2.2.2.1 u.2.2.2.2.2.2.2.2.2.2.2.2.1 u.2.2.2.2.2.2.2.2.2.2.2.2.2.1 u.2.2.2.2.2.2.2.2.2.2.2.2.2.2.1 u.2.2.2.2.2.2.2.2.2.2.2.2.2.2.2.1 u.2.2.2.2.2.2.2.2.2.2.2.2.2.2.2.2.1 u.2.2.2.2.2.2.2.2.2.2.2.2.2.2.2.2.2.1 u.2.2.2.2.2.2.2.2.2.2.2.2.2.2.2.2.2.2
theorem ye_subst_14 {post : SY → Prop} {x2 : Int32} {x3 : Int32} {n : Nat} {x4 : Int32} {u : SY} : yv_subst_14 post x2 x3 (n + 1) x4 u = (((x3 ≤ x4 → (post u)) ∧ (¬ x3 ≤ x4 → (wpY_kind (fun r_42 => (wpY_val (fun r_62 => (vp_in x4 (yg_ndep u) ∧ (∀ x7_83 : Int32, x7_83 = (yg_dep u) x4.toNatClampNeg → (((r_42 = 5 → (((r_62 = x7_83 → (wpY_shift (fun u_110 => (∀ x4_129 : Int32, x4_129 = x4 + 1 → ((yv_subst_14 post x2 x3 n x4_129 u_110)))) u x2 x7_83 0)) ∧ (¬ r_62 = x7_83 → ((yv_subst_69 post ((yv_subst_14 post x2 x3 n)) x2 x3 x4 r_42 r_62 x7_83 u)))))) ∧ (¬ r_42 = 5 → ((yv_subst_69 post ((yv_subst_14 post x2 x3 n)) x2 x3 x4 r_42 r_62 x7_83 u)))))))) u x4)) u x4)))) := rfl
theorem ye_subst {post : SY → Prop} {u : SY} {p0 : Int32} {p1 : Int32} : wpY_subst post u p0 p1 = (wpY_marks (fun u_2 => (wpY_end (fun r_21 => (∃ n14 : Nat, (yv_subst_14 post p1 r_21 n14 p0 u_2))) u_2 p0)) u p0) := rfl
def yv_occurs_17 (post : Int32 → SY → Prop) (x2 : Int32) (x3 : Int32) (n : Nat) (x4 : Int32) (x5 : Int32) (u : SY) : Prop := wY_occurs_17 post x2 x3 u.1 u.2.1 u.2.2.1 u.2.2.2.1 u.2.2.2.2.1 u.2.2.2.2.2.1 u.2.2.2.2.2.2.1 u.2.2.2.2.2.2.2.1 u.2.2.2.2.2.2.2.2.1 u.2.2.2.2.2.2.2.2.2.1 u.2.2.2.2.2.2.2.2.2.2.1 u.2.2.2.2.2.2.2.2.2.2.2.1 u.2.2.2.2.2.2.2.2.2.2.2.2.1 u.2.2.2.2.2.2.2.2.2.2.2.2.2.1 u.2.2.2.2.2.2.2.2.2.2.2.2.2.2.1 u.2.2.2.2.2.2.2.2.2.2.2.2.2.2.2.1 u.2.2.2.2.2.2.2.2.2.2.2.2.2.2.2.2.1 u.2.2.2.2.2.2.2.2.2.2.2.2.2.2.2.2.2.1 u.2.2.2.2.2.2.2.2.2.2.2.2.2.2.2.2.2.2 n x4 x5
theorem ye_occurs_17 {post : Int32 → SY → Prop} {x2 : Int32} {x3 : Int32} {n : Nat} {x4 : Int32} {x5 : Int32} {u : SY} : yv_occurs_17 post x2 x3 (n + 1) x4 x5 u = (((x3 ≤ x5 → (narrow .boolean (.int x4) = .int x4 ∧ (post x4 u))) ∧ (¬ x3 ≤ x5 → (((x4 = 0 → (wpY_kind (fun r_45 => (((r_45 = 5 → (wpY_val (fun r_67 => (vp_in x5 (yg_ndep u) ∧ ((((r_67 - ((yg_dep u) x5.toNatClampNeg)) = x2 → (∀ x5_90 : Int32, x5_90 = x5 + 1 → ((yv_occurs_17 post x2 x3 n 1 x5_90 u)))) ∧ (¬ (r_67 - ((yg_dep u) x5.toNatClampNeg)) = x2 → (∀ x5_89 : Int32, x5_89 = x5 + 1 → ((yv_occurs_17 post x2 x3 n 0 x5_89 u)))))))) u x5)) ∧ (¬ r_45 = 5 → (∀ x5_66 : Int32, x5_66 = x5 + 1 → ((yv_occurs_17 post x2 x3 n 0 x5_66 u))))))) u x5)) ∧ (¬ x4 = 0 → (∀ x5_44 : Int32, x5_44 = x5 + 1 → ((yv_occurs_17 post x2 x3 n 1 x5_44 u))))))))) := rfl
theorem ye_occurs {post : Int32 → SY → Prop} {u : SY} {p0 : Int32} {p1 : Int32} : wpY_occurs post u p0 p1 = (wpY_marks (fun u_2 => (wpY_end (fun r_21 => (∃ n17 : Nat, (yv_occurs_17 post p1 r_21 n17 0 p0 u_2))) u_2 p0)) u p0) := rfl
def yv_find_56 (post : Int32 → Prop) (J8 : Int32 → Prop) (x1 : Int32) (x2 : Int32) (x3 : Int32) (x4 : Int32) (u : SY) : Prop := wY_find_56 post J8 x1 x2 x3 x4 u.1 u.2.1 u.2.2.1 u.2.2.2.1 u.2.2.2.2.1 u.2.2.2.2.2.1 u.2.2.2.2.2.2.1 u.2.2.2.2.2.2.2.1 u.2.2.2.2.2.2.2.2.1 u.2.2.2.2.2.2.2.2.2.1 u.2.2.2.2.2.2.2.2.2.2.1 u.2.2.2.2.2.2.2.2.2.2.2.1 u.2.2.2.2.2.2.2.2.2.2.2.2.1 u.2.2.2.2.2.2.2.2.2.2.2.2.2.1 u.2.2.2.2.2.2.2.2.2.2.2.2.2.2.1 u.2.2.2.2.2.2.2.2.2.2.2.2.2.2.2.1 u.2.2.2.2.2.2.2.2.2.2.2.2.2.2.2.2.1 u.2.2.2.2.2.2.2.2.2.2.2.2.2.2.2.2.2.1 u.2.2.2.2.2.2.2.2.2.2.2.2.2.2.2.2.2.2
theorem ye_find_56 {post : Int32 → Prop} {J8 : Int32 → Prop} {x1 : Int32} {x2 : Int32} {x3 : Int32} {x4 : Int32} {u : SY} : yv_find_56 post J8 x1 x2 x3 x4 u = (((x4 = x2 → (post x3)) ∧ (¬ x4 = x2 → (∀ x3_24 : Int32, x3_24 = x3 + 1 → ((J8 x3_24)))))) := rfl
def yv_find_19 (post : Int32 → Prop) (J8 : Int32 → Prop) (x1 : Int32) (x2 : Int32) (x3 : Int32) (n : Nat) (x4 : Int32) (u : SY) : Prop := wY_find_19 post J8 x1 x2 x3 u.1 u.2.1 u.2.2.1 u.2.2.2.1 u.2.2.2.2.1 u.2.2.2.2.2.1 u.2.2.2.2.2.2.1 u.2.2.2.2.2.2.2.1 u.2.2.2.2.2.2.2.2.1 u.2.2.2.2.2.2.2.2.2.1 u.2.2.2.2.2.2.2.2.2.2.1 u.2.2.2.2.2.2.2.2.2.2.2.1 u.2.2.2.2.2.2.2.2.2.2.2.2.1 u.2.2.2.2.2.2.2.2.2.2.2.2.2.1 u.2.2.2.2.2.2.2.2.2.2.2.2.2.2.1 u.2.2.2.2.2.2.2.2.2.2.2.2.2.2.2.1 u.2.2.2.2.2.2.2.2.2.2.2.2.2.2.2.2.1 u.2.2.2.2.2.2.2.2.2.2.2.2.2.2.2.2.2.1 u.2.2.2.2.2.2.2.2.2.2.2.2.2.2.2.2.2.2 n x4
theorem ye_find_19 {post : Int32 → Prop} {J8 : Int32 → Prop} {x1 : Int32} {x2 : Int32} {x3 : Int32} {n : Nat} {x4 : Int32} {u : SY} : yv_find_19 post J8 x1 x2 x3 (n + 1) x4 u = (((x2 ≤ x4 → ((yv_find_56 post J8 x1 x2 x3 x4 u))) ∧ (¬ x2 ≤ x4 → (vp_in (((x3 * 120) + x4) - x1) (yg_nmem u) ∧ (vp_in x4 (yg_nmem u) ∧ (((((yg_mem u) (((x3 * 120) + x4) - x1).toNatClampNeg) = ((yg_mem u) x4.toNatClampNeg) → (∀ x4_28 : Int32, x4_28 = x4 + 1 → ((yv_find_19 post J8 x1 x2 x3 n x4_28 u)))) ∧ (¬ ((yg_mem u) (((x3 * 120) + x4) - x1).toNatClampNeg) = ((yg_mem u) x4.toNatClampNeg) → ((yv_find_56 post J8 x1 x2 x3 x4 u)))))))))) := rfl
def yv_find_8 (post : Int32 → Prop) (x1 : Int32) (x2 : Int32) (n : Nat) (x3 : Int32) (u : SY) : Prop := wY_find_8 post x1 x2 u.1 u.2.1 u.2.2.1 u.2.2.2.1 u.2.2.2.2.1 u.2.2.2.2.2.1 u.2.2.2.2.2.2.1 u.2.2.2.2.2.2.2.1 u.2.2.2.2.2.2.2.2.1 u.2.2.2.2.2.2.2.2.2.1 u.2.2.2.2.2.2.2.2.2.2.1 u.2.2.2.2.2.2.2.2.2.2.2.1 u.2.2.2.2.2.2.2.2.2.2.2.2.1 u.2.2.2.2.2.2.2.2.2.2.2.2.2.1 u.2.2.2.2.2.2.2.2.2.2.2.2.2.2.1 u.2.2.2.2.2.2.2.2.2.2.2.2.2.2.2.1 u.2.2.2.2.2.2.2.2.2.2.2.2.2.2.2.2.1 u.2.2.2.2.2.2.2.2.2.2.2.2.2.2.2.2.2.1 u.2.2.2.2.2.2.2.2.2.2.2.2.2.2.2.2.2.2 n x3
theorem ye_find_8 {post : Int32 → Prop} {x1 : Int32} {x2 : Int32} {n : Nat} {x3 : Int32} {u : SY} : yv_find_8 post x1 x2 (n + 1) x3 u = ((((yg_count u) ≤ x3 → (post (-13))) ∧ (¬ (yg_count u) ≤ x3 → (∃ n19 : Nat, (yv_find_19 post ((fun x3' => yv_find_8 post x1 x2 n x3' u)) x1 x2 x3 n19 x1 u))))) := rfl
theorem ye_find {post : Int32 → Prop} {u : SY} {p0 : Int32} : wpY_find post u p0 = (wpY_end (fun r_1 => (∃ n8 : Nat, (yv_find_8 post p0 r_1 n8 0 u))) u p0) := rfl
def yv_enter_74 (post : Int32 → SY → Prop) (J18 : Int32 → SY → Prop) (J34 : Int32 → SY → Prop) (x1 : Int32) (x2 : Int32) (n : Nat) (x3 : Int32) (u : SY) : Prop := wY_enter_74 post (fun x1' f_count' a_mem' a_dep' a_ty' a_aux' a_body' a_claim' a_type' => J18 x1' (u.1, u.2.1, u.2.2.1, u.2.2.2.1, f_count', u.2.2.2.2.2.1, u.2.2.2.2.2.2.1, u.2.2.2.2.2.2.2.1, u.2.2.2.2.2.2.2.2.1, u.2.2.2.2.2.2.2.2.2.1, a_mem', a_dep', a_ty', a_aux', a_body', a_claim', a_type', u.2.2.2.2.2.2.2.2.2.2.2.2.2.2.2.2.2.1, u.2.2.2.2.2.2.2.2.2.2.2.2.2.2.2.2.2.2)) (fun x2' f_count' a_mem' a_dep' a_ty' a_aux' a_body' a_claim' a_type' => J34 x2' (u.1, u.2.1, u.2.2.1, u.2.2.2.1, f_count', u.2.2.2.2.2.1, u.2.2.2.2.2.2.1, u.2.2.2.2.2.2.2.1, u.2.2.2.2.2.2.2.2.1, u.2.2.2.2.2.2.2.2.2.1, a_mem', a_dep', a_ty', a_aux', a_body', a_claim', a_type', u.2.2.2.2.2.2.2.2.2.2.2.2.2.2.2.2.2.1, u.2.2.2.2.2.2.2.2.2.2.2.2.2.2.2.2.2.2)) x1 x2 u.1 u.2.1 u.2.2.1 u.2.2.2.1 u.2.2.2.2.1 u.2.2.2.2.2.1 u.2.2.2.2.2.2.1 u.2.2.2.2.2.2.2.1 u.2.2.2.2.2.2.2.2.1 u.2.2.2.2.2.2.2.2.2.1 u.2.2.2.2.2.2.2.2.2.2.2.2.2.2.2.2.2.1 u.2.2.2.2.2.2.2.2.2.2.2.2.2.2.2.2.2.2 n x3 u.2.2.2.2.2.2.2.2.2.2.1 u.2.2.2.2.2.2.2.2.2.2.2.1 u.2.2.2.2.2.2.2.2.2.2.2.2.1 u.2.2.2.2.2.2.2.2.2.2.2.2.2.1 u.2.2.2.2.2.2.2.2.2.2.2.2.2.2.1 u.2.2.2.2.2.2.2.2.2.2.2.2.2.2.2.1 u.2.2.2.2.2.2.2.2.2.2.2.2.2.2.2.2.1
theorem ye_enter_74 {post : Int32 → SY → Prop} {J18 : Int32 → SY → Prop} {J34 : Int32 → SY → Prop} {x1 : Int32} {x2 : Int32} {n : Nat} {x3 : Int32} {u : SY} : yv_enter_74 post J18 J34 x1 x2 (n + 1) x3 u = (((x1 ≤ x3 → (∀ f_count_72 : Int32, f_count_72 = (yg_count u) + 1 → (∀ x2_73 : Int32, x2_73 = x2 + (-1) → ((J34 x2_73 (ys_count f_count_72 u)))))) ∧ (¬ x1 ≤ x3 → (vp_in x3 (yg_nmem u) ∧ (vp_in ((((yg_count u) * 120) + x3) - x2) (yg_nmem u) ∧ ∀ a_mem_76 : Nat → Int64, a_mem_76 = vp_updL (yg_mem u) ((((yg_count u) * 120) + x3) - x2).toNatClampNeg ((yg_mem u) x3.toNatClampNeg) → (∀ x3_77 : Int32, x3_77 = x3 + 1 → ((yv_enter_74 post J18 J34 x1 x2 n x3_77 (ys_mem a_mem_76 u))))))))) := rfl
def yv_enter_34 (post : Int32 → SY → Prop) (J18 : Int32 → SY → Prop) (x1 : Int32) (n : Nat) (x2 : Int32) (u : SY) : Prop := wY_enter_34 post (fun x1' f_count' a_mem' a_dep' a_ty' a_aux' a_body' a_claim' a_type' => J18 x1' (u.1, u.2.1, u.2.2.1, u.2.2.2.1, f_count', u.2.2.2.2.2.1, u.2.2.2.2.2.2.1, u.2.2.2.2.2.2.2.1, u.2.2.2.2.2.2.2.2.1, u.2.2.2.2.2.2.2.2.2.1, a_mem', a_dep', a_ty', a_aux', a_body', a_claim', a_type', u.2.2.2.2.2.2.2.2.2.2.2.2.2.2.2.2.2.1, u.2.2.2.2.2.2.2.2.2.2.2.2.2.2.2.2.2.2)) x1 u.1 u.2.1 u.2.2.1 u.2.2.2.1 u.2.2.2.2.2.1 u.2.2.2.2.2.2.1 u.2.2.2.2.2.2.2.1 u.2.2.2.2.2.2.2.2.1 u.2.2.2.2.2.2.2.2.2.1 u.2.2.2.2.2.2.2.2.2.2.2.2.2.2.2.2.2.1 u.2.2.2.2.2.2.2.2.2.2.2.2.2.2.2.2.2.2 n x2 u.2.2.2.2.1 u.2.2.2.2.2.2.2.2.2.2.1 u.2.2.2.2.2.2.2.2.2.2.2.1 u.2.2.2.2.2.2.2.2.2.2.2.2.1 u.2.2.2.2.2.2.2.2.2.2.2.2.2.1 u.2.2.2.2.2.2.2.2.2.2.2.2.2.2.1 u.2.2.2.2.2.2.2.2.2.2.2.2.2.2.2.1 u.2.2.2.2.2.2.2.2.2.2.2.2.2.2.2.2.1
theorem ye_enter_34 {post : Int32 → SY → Prop} {J18 : Int32 → SY → Prop} {x1 : Int32} {n : Nat} {x2 : Int32} {u : SY} : yv_enter_34 post J18 x1 (n + 1) x2 u = (((x2 < 30960 → (∀ x1_25 : Int32, x1_25 = x1 + 1 → ((J18 x1_25 u)))) ∧ (¬ x2 < 30960 → (wpY_end (fun r_26 => (((r_26 = x1 → (wpY_find (fun r_48 => (((0 ≤ r_48 → (∀ x2_69 : Int32, x2_69 = x2 + (-1) → ((yv_enter_34 post J18 x1 n x2_69 u)))) ∧ (¬ 0 ≤ r_48 → ((((yg_count u) = (yg_nodeLimit u) → (post (-3) u)) ∧ (¬ (yg_count u) = (yg_nodeLimit u) → (∃ n74 : Nat, (yv_enter_74 post J18 ((yv_enter_34 post J18 x1 n)) x1 x2 n74 x2 u))))))))) u x2)) ∧ (¬ r_26 = x1 → (∀ x2_47 : Int32, x2_47 = x2 + (-1) → ((yv_enter_34 post J18 x1 n x2_47 u))))))) u x2)))) := rfl
def yv_enter_18 (post : Int32 → SY → Prop) (n : Nat) (x1 : Int32) (u : SY) : Prop := wY_enter_18 post u.1 u.2.1 u.2.2.1 u.2.2.2.1 u.2.2.2.2.2.1 u.2.2.2.2.2.2.1 u.2.2.2.2.2.2.2.1 u.2.2.2.2.2.2.2.2.1 u.2.2.2.2.2.2.2.2.2.1 u.2.2.2.2.2.2.2.2.2.2.2.2.2.2.2.2.2.1 u.2.2.2.2.2.2.2.2.2.2.2.2.2.2.2.2.2.2 n x1 u.2.2.2.2.1 u.2.2.2.2.2.2.2.2.2.2.1 u.2.2.2.2.2.2.2.2.2.2.2.1 u.2.2.2.2.2.2.2.2.2.2.2.2.1 u.2.2.2.2.2.2.2.2.2.2.2.2.2.1 u.2.2.2.2.2.2.2.2.2.2.2.2.2.2.1 u.2.2.2.2.2.2.2.2.2.2.2.2.2.2.2.1 u.2.2.2.2.2.2.2.2.2.2.2.2.2.2.2.2.1
theorem ye_enter_18 {post : Int32 → SY → Prop} {n : Nat} {x1 : Int32} {u : SY} : yv_enter_18 post (n + 1) x1 u = ((((30960 + (yg_outLen u)) < x1 → (wpY_find (fun r_3 => (post r_3 u)) u 30960)) ∧ (¬ (30960 + (yg_outLen u)) < x1 → (∀ x2_23 : Int32, x2_23 = x1 - 1 → (∃ n34 : Nat, (yv_enter_34 post ((yv_enter_18 post n)) x1 n34 x2_23 u)))))) := rfl
theorem ye_enter {post : Int32 → SY → Prop} {u : SY} : wpY_enter post u = ((((yg_outLen u) ≤ (yg_weightLimit u) → (∃ n18 : Nat, (yv_enter_18 post n18 30961 u))) ∧ (¬ (yg_outLen u) ≤ (yg_weightLimit u) → (post (-3) u)))) := rfl
def yv_rule_100 (post : Int32 → SY → Prop) (x1 : Int32) (x2 : Int32) (x3 : Int32) (u : SY) : Prop := wY_rule_100 post x1 x2 x3 u.1 u.2.1 u.2.2.1 u.2.2.2.1 u.2.2.2.2.1 u.2.2.2.2.2.1 u.2.2.2.2.2.2.1 u.2.2.2.2.2.2.2.1 u.2.2.2.2.2.2.2.2.1 u.2.2.2.2.2.2.2.2.2.1 u.2.2.2.2.2.2.2.2.2.2.1 u.2.2.2.2.2.2.2.2.2.2.2.1 u.2.2.2.2.2.2.2.2.2.2.2.2.1 u.2.2.2.2.2.2.2.2.2.2.2.2.2.1 u.2.2.2.2.2.2.2.2.2.2.2.2.2.2.1 u.2.2.2.2.2.2.2.2.2.2.2.2.2.2.2.1 u.2.2.2.2.2.2.2.2.2.2.2.2.2.2.2.2.1 u.2.2.2.2.2.2.2.2.2.2.2.2.2.2.2.2.2.1 u.2.2.2.2.2.2.2.2.2.2.2.2.2.2.2.2.2.2
theorem ye_rule_100 {post : Int32 → SY → Prop} {x1 : Int32} {x2 : Int32} {x3 : Int32} {u : SY} : yv_rule_100 post x1 x2 x3 u = (((x2 = 11 → (((x3 = 8 → (wpY_end (fun r_66 => (wpY_kind (fun r_86 => (((r_86 = 5 → (wpY_val (fun r_107 => (((r_107 = 0 → (wpY_occurs (fun r_128 u_129 => (((r_128 = 0 → (post 5 u_129)) ∧ (¬ r_128 = 0 → (post 0 u_129))))) u (x1 + 2) 0)) ∧ (¬ r_107 = 0 → (post 0 u))))) u r_66)) ∧ (¬ r_86 = 5 → (post 0 u))))) u r_66)) u (x1 + 2))) ∧ (¬ x3 = 8 → (post 0 u))))) ∧ (¬ x2 = 11 → (post 0 u)))) := rfl
def yv_rule_68 (post : Int32 → SY → Prop) (x1 : Int32) (x2 : Int32) (x3 : Int32) (x4 : Int32) (u : SY) : Prop := wY_rule_68 post x1 x2 x3 x4 u.1 u.2.1 u.2.2.1 u.2.2.2.1 u.2.2.2.2.1 u.2.2.2.2.2.1 u.2.2.2.2.2.2.1 u.2.2.2.2.2.2.2.1 u.2.2.2.2.2.2.2.2.1 u.2.2.2.2.2.2.2.2.2.1 u.2.2.2.2.2.2.2.2.2.2.1 u.2.2.2.2.2.2.2.2.2.2.2.1 u.2.2.2.2.2.2.2.2.2.2.2.2.1 u.2.2.2.2.2.2.2.2.2.2.2.2.2.1 u.2.2.2.2.2.2.2.2.2.2.2.2.2.2.1 u.2.2.2.2.2.2.2.2.2.2.2.2.2.2.2.1 u.2.2.2.2.2.2.2.2.2.2.2.2.2.2.2.2.1 u.2.2.2.2.2.2.2.2.2.2.2.2.2.2.2.2.2.1 u.2.2.2.2.2.2.2.2.2.2.2.2.2.2.2.2.2.2
theorem ye_rule_68 {post : Int32 → SY → Prop} {x1 : Int32} {x2 : Int32} {x3 : Int32} {x4 : Int32} {u : SY} : yv_rule_68 post x1 x2 x3 x4 u = (((x2 = 10 → (((x4 < 0 → ((yv_rule_100 post x1 x2 x3 u))) ∧ (¬ x4 < 0 → ((((yg_defs u) ≤ x4 → ((yv_rule_100 post x1 x2 x3 u))) ∧ (¬ (yg_defs u) ≤ x4 → (vp_in x4 16 ∧ (((((yg_body u) x4.toNatClampNeg) < 0 → ((yv_rule_100 post x1 x2 x3 u))) ∧ (¬ ((yg_body u) x4.toNatClampNeg) < 0 → (post 4 u)))))))))))) ∧ (¬ x2 = 10 → ((yv_rule_100 post x1 x2 x3 u))))) := rfl
def yv_rule_57 (post : Int32 → SY → Prop) (x3 : Int32) (u : SY) : Prop := wY_rule_57 post x3 u.1 u.2.1 u.2.2.1 u.2.2.2.1 u.2.2.2.2.1 u.2.2.2.2.2.1 u.2.2.2.2.2.2.1 u.2.2.2.2.2.2.2.1 u.2.2.2.2.2.2.2.2.1 u.2.2.2.2.2.2.2.2.2.1 u.2.2.2.2.2.2.2.2.2.2.1 u.2.2.2.2.2.2.2.2.2.2.2.1 u.2.2.2.2.2.2.2.2.2.2.2.2.1 u.2.2.2.2.2.2.2.2.2.2.2.2.2.1 u.2.2.2.2.2.2.2.2.2.2.2.2.2.2.1 u.2.2.2.2.2.2.2.2.2.2.2.2.2.2.2.1 u.2.2.2.2.2.2.2.2.2.2.2.2.2.2.2.2.1 u.2.2.2.2.2.2.2.2.2.2.2.2.2.2.2.2.2.1 u.2.2.2.2.2.2.2.2.2.2.2.2.2.2.2.2.2.2
theorem ye_rule_57 {post : Int32 → SY → Prop} {x3 : Int32} {u : SY} : yv_rule_57 post x3 u = (((x3 = 3 → (post 2 u)) ∧ (¬ x3 = 3 → (post 3 u)))) := rfl
def yv_rule_41 (post : Int32 → SY → Prop) (x1 : Int32) (x2 : Int32) (x3 : Int32) (x4 : Int32) (u : SY) : Prop := wY_rule_41 post x1 x2 x3 x4 u.1 u.2.1 u.2.2.1 u.2.2.2.1 u.2.2.2.2.1 u.2.2.2.2.2.1 u.2.2.2.2.2.2.1 u.2.2.2.2.2.2.2.1 u.2.2.2.2.2.2.2.2.1 u.2.2.2.2.2.2.2.2.2.1 u.2.2.2.2.2.2.2.2.2.2.1 u.2.2.2.2.2.2.2.2.2.2.2.1 u.2.2.2.2.2.2.2.2.2.2.2.2.1 u.2.2.2.2.2.2.2.2.2.2.2.2.2.1 u.2.2.2.2.2.2.2.2.2.2.2.2.2.2.1 u.2.2.2.2.2.2.2.2.2.2.2.2.2.2.2.1 u.2.2.2.2.2.2.2.2.2.2.2.2.2.2.2.2.1 u.2.2.2.2.2.2.2.2.2.2.2.2.2.2.2.2.2.1 u.2.2.2.2.2.2.2.2.2.2.2.2.2.2.2.2.2.2
theorem ye_rule_41 {post : Int32 → SY → Prop} {x1 : Int32} {x2 : Int32} {x3 : Int32} {x4 : Int32} {u : SY} : yv_rule_41 post x1 x2 x3 x4 u = (((x2 = 9 → (((x3 = 3 → ((yv_rule_57 post x3 u))) ∧ (¬ x3 = 3 → (((x3 = 4 → ((yv_rule_57 post x3 u))) ∧ (¬ x3 = 4 → ((yv_rule_68 post x1 x2 x3 x4 u))))))))) ∧ (¬ x2 = 9 → ((yv_rule_68 post x1 x2 x3 x4 u))))) := rfl
theorem ye_rule {post : Int32 → SY → Prop} {u : SY} {p0 : Int32} : wpY_rule post u p0 = (wpY_kind (fun r_1 => (wpY_kind (fun r_21 => (wpY_val (fun r_41 => (((r_1 = 8 → (((r_21 = 7 → (post 1 u)) ∧ (¬ r_21 = 7 → (((r_21 = 11 → (post 1 u)) ∧ (¬ r_21 = 11 → ((yv_rule_41 post p0 r_1 r_21 r_41 u))))))))) ∧ (¬ r_1 = 8 → ((yv_rule_41 post p0 r_1 r_21 r_41 u)))))) u p0)) u (p0 + 1))) u p0) := rfl
def yv_replace_228 (post : SY → Prop) (x5 : Int32) (x6 : Int32) (u : SY) : Prop := wY_replace_228 post x5 x6 u.1 u.2.1 u.2.2.1 u.2.2.2.1 u.2.2.2.2.1 u.2.2.2.2.2.1 u.2.2.2.2.2.2.1 u.2.2.2.2.2.2.2.1 u.2.2.2.2.2.2.2.2.1 u.2.2.2.2.2.2.2.2.2.1 u.2.2.2.2.2.2.2.2.2.2.1 u.2.2.2.2.2.2.2.2.2.2.2.1 u.2.2.2.2.2.2.2.2.2.2.2.2.1 u.2.2.2.2.2.2.2.2.2.2.2.2.2.1 u.2.2.2.2.2.2.2.2.2.2.2.2.2.2.1 u.2.2.2.2.2.2.2.2.2.2.2.2.2.2.2.1 u.2.2.2.2.2.2.2.2.2.2.2.2.2.2.2.2.1 u.2.2.2.2.2.2.2.2.2.2.2.2.2.2.2.2.2.1 u.2.2.2.2.2.2.2.2.2.2.2.2.2.2.2.2.2.2
theorem ye_replace_228 {post : SY → Prop} {x5 : Int32} {x6 : Int32} {u : SY} : yv_replace_228 post x5 x6 u = (wpY_copy (fun u_127 => (post u_127)) u x5 x6) := rfl
def yv_replace_213 (post : SY → Prop) (x2 : Int32) (x4 : Int32) (x5 : Int32) (x6 : Int32) (u : SY) : Prop := wY_replace_213 post x2 x4 x5 x6 u.1 u.2.1 u.2.2.1 u.2.2.2.1 u.2.2.2.2.1 u.2.2.2.2.2.1 u.2.2.2.2.2.2.1 u.2.2.2.2.2.2.2.1 u.2.2.2.2.2.2.2.2.1 u.2.2.2.2.2.2.2.2.2.1 u.2.2.2.2.2.2.2.2.2.2.1 u.2.2.2.2.2.2.2.2.2.2.2.1 u.2.2.2.2.2.2.2.2.2.2.2.2.1 u.2.2.2.2.2.2.2.2.2.2.2.2.2.1 u.2.2.2.2.2.2.2.2.2.2.2.2.2.2.1 u.2.2.2.2.2.2.2.2.2.2.2.2.2.2.2.1 u.2.2.2.2.2.2.2.2.2.2.2.2.2.2.2.2.1 u.2.2.2.2.2.2.2.2.2.2.2.2.2.2.2.2.2.1 u.2.2.2.2.2.2.2.2.2.2.2.2.2.2.2.2.2.2
theorem ye_replace_213 {post : SY → Prop} {x2 : Int32} {x4 : Int32} {x5 : Int32} {x6 : Int32} {u : SY} : yv_replace_213 post x2 x4 x5 x6 u = (((x4 = 5 → (wpY_shift (fun u_147 => ((yv_replace_228 post x5 x6 u_147))) u (x2 + 2) (-1) 0)) ∧ (¬ x4 = 5 → ((yv_replace_228 post x5 x6 u))))) := rfl
def yv_replace_172 (post : SY → Prop) (x2 : Int32) (x3 : Int32) (x4 : Int32) (x5 : Int32) (x6 : Int32) (x8 : Int32) (u : SY) : Prop := wY_replace_172 post x2 x3 x4 x5 x6 x8 u.1 u.2.1 u.2.2.1 u.2.2.2.1 u.2.2.2.2.1 u.2.2.2.2.2.1 u.2.2.2.2.2.2.1 u.2.2.2.2.2.2.2.1 u.2.2.2.2.2.2.2.2.1 u.2.2.2.2.2.2.2.2.2.1 u.2.2.2.2.2.2.2.2.2.2.1 u.2.2.2.2.2.2.2.2.2.2.2.1 u.2.2.2.2.2.2.2.2.2.2.2.2.1 u.2.2.2.2.2.2.2.2.2.2.2.2.2.1 u.2.2.2.2.2.2.2.2.2.2.2.2.2.2.1 u.2.2.2.2.2.2.2.2.2.2.2.2.2.2.2.1 u.2.2.2.2.2.2.2.2.2.2.2.2.2.2.2.2.1 u.2.2.2.2.2.2.2.2.2.2.2.2.2.2.2.2.2.1 u.2.2.2.2.2.2.2.2.2.2.2.2.2.2.2.2.2.2
theorem ye_replace_172 {post : SY → Prop} {x2 : Int32} {x3 : Int32} {x4 : Int32} {x5 : Int32} {x6 : Int32} {x8 : Int32} {u : SY} : yv_replace_172 post x2 x3 x4 x5 x6 x8 u = (((x4 = 4 → (((x3 = 0 → (vp_in x8 16 ∧ (wpY_term (fun u_169 => ((yv_replace_213 post x2 x4 x5 x6 u_169))) u (((yg_body u) x8.toNatClampNeg) * 120)))) ∧ (¬ x3 = 0 → (vp_in x8 16 ∧ (wpY_erase (fun u_190 => ((yv_replace_213 post x2 x4 x5 x6 u_190))) u (((yg_body u) x8.toNatClampNeg) * 120))))))) ∧ (¬ x4 = 4 → ((yv_replace_213 post x2 x4 x5 x6 u))))) := rfl
def yv_replace_109 (post : SY → Prop) (x2 : Int32) (x3 : Int32) (x4 : Int32) (x5 : Int32) (x6 : Int32) (x7 : Int32) (x8 : Int32) (u : SY) : Prop := wY_replace_109 post x2 x3 x4 x5 x6 x7 x8 u.1 u.2.1 u.2.2.1 u.2.2.2.1 u.2.2.2.2.1 u.2.2.2.2.2.1 u.2.2.2.2.2.2.1 u.2.2.2.2.2.2.2.1 u.2.2.2.2.2.2.2.2.1 u.2.2.2.2.2.2.2.2.2.1 u.2.2.2.2.2.2.2.2.2.2.1 u.2.2.2.2.2.2.2.2.2.2.2.1 u.2.2.2.2.2.2.2.2.2.2.2.2.1 u.2.2.2.2.2.2.2.2.2.2.2.2.2.1 u.2.2.2.2.2.2.2.2.2.2.2.2.2.2.1 u.2.2.2.2.2.2.2.2.2.2.2.2.2.2.2.1 u.2.2.2.2.2.2.2.2.2.2.2.2.2.2.2.2.1 u.2.2.2.2.2.2.2.2.2.2.2.2.2.2.2.2.2.1 u.2.2.2.2.2.2.2.2.2.2.2.2.2.2.2.2.2.2
theorem ye_replace_109 {post : SY → Prop} {x2 : Int32} {x3 : Int32} {x4 : Int32} {x5 : Int32} {x6 : Int32} {x7 : Int32} {x8 : Int32} {u : SY} : yv_replace_109 post x2 x3 x4 x5 x6 x7 x8 u = (((x4 = 3 → (wpY_child (fun r_209 => (wpY_put (fun u_230 => (wpY_put (fun u_250 => (wpY_term (fun u_270 => (wpY_term (fun u_290 => (wpY_put (fun u_310 => (wpY_term (fun u_330 => (wpY_copy (fun u_350 => ((yv_replace_172 post x2 x3 x4 x5 x6 x8 u_350))) u_330 x7 x5)) u_310 (x2 + 2))) u_290 9 0)) u_270 (x2 + 2))) u_250 r_209)) u_230 8 0)) u 8 0)) u x2 3)) ∧ (¬ x4 = 3 → ((yv_replace_172 post x2 x3 x4 x5 x6 x8 u))))) := rfl
def yv_replace_89 (post : SY → Prop) (x2 : Int32) (x3 : Int32) (x4 : Int32) (x5 : Int32) (x6 : Int32) (x7 : Int32) (x8 : Int32) (u : SY) : Prop := wY_replace_89 post x2 x3 x4 x5 x6 x7 x8 u.1 u.2.1 u.2.2.1 u.2.2.2.1 u.2.2.2.2.1 u.2.2.2.2.2.1 u.2.2.2.2.2.2.1 u.2.2.2.2.2.2.2.1 u.2.2.2.2.2.2.2.2.1 u.2.2.2.2.2.2.2.2.2.1 u.2.2.2.2.2.2.2.2.2.2.1 u.2.2.2.2.2.2.2.2.2.2.2.1 u.2.2.2.2.2.2.2.2.2.2.2.2.1 u.2.2.2.2.2.2.2.2.2.2.2.2.2.1 u.2.2.2.2.2.2.2.2.2.2.2.2.2.2.1 u.2.2.2.2.2.2.2.2.2.2.2.2.2.2.2.1 u.2.2.2.2.2.2.2.2.2.2.2.2.2.2.2.2.1 u.2.2.2.2.2.2.2.2.2.2.2.2.2.2.2.2.2.1 u.2.2.2.2.2.2.2.2.2.2.2.2.2.2.2.2.2.2
theorem ye_replace_89 {post : SY → Prop} {x2 : Int32} {x3 : Int32} {x4 : Int32} {x5 : Int32} {x6 : Int32} {x7 : Int32} {x8 : Int32} {u : SY} : yv_replace_89 post x2 x3 x4 x5 x6 x7 x8 u = (((x4 = 2 → (wpY_child (fun r_369 => (wpY_term (fun u_390 => ((yv_replace_109 post x2 x3 x4 x5 x6 x7 x8 u_390))) u r_369)) u x2 2)) ∧ (¬ x4 = 2 → ((yv_replace_109 post x2 x3 x4 x5 x6 x7 x8 u))))) := rfl
def yv_replace_79 (post : SY → Prop) (x2 : Int32) (x3 : Int32) (x4 : Int32) (x5 : Int32) (x6 : Int32) (x7 : Int32) (x8 : Int32) (z0 : Int32) (u : SY) : Prop := wY_replace_79 post x2 x3 x4 x5 x6 x7 x8 z0 u.1 u.2.1 u.2.2.1 u.2.2.2.1 u.2.2.2.2.1 u.2.2.2.2.2.1 u.2.2.2.2.2.2.1 u.2.2.2.2.2.2.2.1 u.2.2.2.2.2.2.2.2.1 u.2.2.2.2.2.2.2.2.2.1 u.2.2.2.2.2.2.2.2.2.2.1 u.2.2.2.2.2.2.2.2.2.2.2.1 u.2.2.2.2.2.2.2.2.2.2.2.2.1 u.2.2.2.2.2.2.2.2.2.2.2.2.2.1 u.2.2.2.2.2.2.2.2.2.2.2.2.2.2.1 u.2.2.2.2.2.2.2.2.2.2.2.2.2.2.2.1 u.2.2.2.2.2.2.2.2.2.2.2.2.2.2.2.2.1 u.2.2.2.2.2.2.2.2.2.2.2.2.2.2.2.2.2.1 u.2.2.2.2.2.2.2.2.2.2.2.2.2.2.2.2.2.2
theorem ye_replace_79 {post : SY → Prop} {x2 : Int32} {x3 : Int32} {x4 : Int32} {x5 : Int32} {x6 : Int32} {x7 : Int32} {x8 : Int32} {z0 : Int32} {u : SY} : yv_replace_79 post x2 x3 x4 x5 x6 x7 x8 z0 u = (wpY_subst (fun u_431 => ((yv_replace_89 post x2 x3 x4 x5 x6 x7 x8 u_431))) u z0 x7) := rfl
theorem ye_replace {post : SY → Prop} {u : SY} {p0 : Int32} {p1 : Int32} {p2 : Int32} : wpY_replace post u p0 p1 p2 = (wpY_rule (fun r_1 u_2 => (wpY_end (fun r_21 => (wpY_end (fun r_41 => (wpY_end (fun r_61 => (wpY_val (fun r_81 => (wpY_copy (fun u_102 => (((r_1 = 1 → (wpY_kind (fun r_409 => (((r_409 = 7 → (wpY_end (fun r_450 => ((yv_replace_79 post p1 p2 r_1 r_21 r_41 r_61 r_81 r_450 u_102))) u_102 (p1 + 2))) ∧ (¬ r_409 = 7 → ((yv_replace_79 post p1 p2 r_1 r_21 r_41 r_61 r_81 (p1 + 2) u_102)))))) u_102 (p1 + 1))) ∧ (¬ r_1 = 1 → ((yv_replace_89 post p1 p2 r_1 r_21 r_41 r_61 r_81 u_102)))))) (ys_outLen 0 u_2) p0 p1)) u_2 p1)) u_2 (p1 + 1))) u_2 p0)) u_2 p1)) u p1) := rfl
def yv_norm_98 (post : Int32 → SY → Prop) (J2 : Int32 → SY → Prop) (x1 : Int32) (x2 : Int32) (u : SY) : Prop := wY_norm_98 post (fun x1' f_nodeLimit' f_weightLimit' f_fuelLimit' f_entryLimit' f_count' f_defs' f_ticks' f_blame' f_outLen' f_mark' a_mem' a_dep' a_ty' a_aux' a_body' a_claim' a_type' n_mem' n_dep' => J2 x1' (f_nodeLimit', f_weightLimit', f_fuelLimit', f_entryLimit', f_count', f_defs', f_ticks', f_blame', f_outLen', f_mark', a_mem', a_dep', a_ty', a_aux', a_body', a_claim', a_type', n_mem', n_dep')) x1 x2 u.1 u.2.1 u.2.2.1 u.2.2.2.1 u.2.2.2.2.1 u.2.2.2.2.2.1 u.2.2.2.2.2.2.1 u.2.2.2.2.2.2.2.1 u.2.2.2.2.2.2.2.2.1 u.2.2.2.2.2.2.2.2.2.1 u.2.2.2.2.2.2.2.2.2.2.1 u.2.2.2.2.2.2.2.2.2.2.2.1 u.2.2.2.2.2.2.2.2.2.2.2.2.1 u.2.2.2.2.2.2.2.2.2.2.2.2.2.1 u.2.2.2.2.2.2.2.2.2.2.2.2.2.2.1 u.2.2.2.2.2.2.2.2.2.2.2.2.2.2.2.1 u.2.2.2.2.2.2.2.2.2.2.2.2.2.2.2.2.1 u.2.2.2.2.2.2.2.2.2.2.2.2.2.2.2.2.2.1 u.2.2.2.2.2.2.2.2.2.2.2.2.2.2.2.2.2.2
theorem ye_norm_98 {post : Int32 → SY → Prop} {J2 : Int32 → SY → Prop} {x1 : Int32} {x2 : Int32} {u : SY} : yv_norm_98 post J2 x1 x2 u = (((0 ≤ x2 → ((((yg_ticks u) = (yg_fuelLimit u) → (post (-4) u)) ∧ (¬ (yg_ticks u) = (yg_fuelLimit u) → (∀ f_ticks_7 : Int32, f_ticks_7 = (yg_ticks u) + 1 → (wpY_replace (fun u_9 => (∀ x1_28 : Int32, x1_28 = x1 + 1 → ((J2 x1_28 u_9)))) (ys_ticks f_ticks_7 u) 30720 x2 1)))))) ∧ (¬ 0 ≤ x2 → (wpY_enter (fun r_29 u_30 => (post r_29 u_30)) u)))) := rfl
def yv_norm_66 (post : Int32 → SY → Prop) (J2 : Int32 → SY → Prop) (x1 : Int32) (n : Nat) (x2 : Int32) (x3 : Int32) (u : SY) : Prop := wY_norm_66 post (fun x1' f_nodeLimit' f_weightLimit' f_fuelLimit' f_entryLimit' f_count' f_defs' f_ticks' f_blame' f_outLen' f_mark' a_mem' a_dep' a_ty' a_aux' a_body' a_claim' a_type' n_mem' n_dep' => J2 x1' (f_nodeLimit', f_weightLimit', f_fuelLimit', f_entryLimit', f_count', f_defs', f_ticks', f_blame', f_outLen', f_mark', a_mem', a_dep', a_ty', a_aux', a_body', a_claim', a_type', n_mem', n_dep')) x1 n x2 x3 u.1 u.2.1 u.2.2.1 u.2.2.2.1 u.2.2.2.2.1 u.2.2.2.2.2.1 u.2.2.2.2.2.2.1 u.2.2.2.2.2.2.2.1 u.2.2.2.2.2.2.2.2.1 u.2.2.2.2.2.2.2.2.2.1 u.2.2.2.2.2.2.2.2.2.2.1 u.2.2.2.2.2.2.2.2.2.2.2.1 u.2.2.2.2.2.2.2.2.2.2.2.2.1 u.2.2.2.2.2.2.2.2.2.2.2.2.2.1 u.2.2.2.2.2.2.2.2.2.2.2.2.2.2.1 u.2.2.2.2.2.2.2.2.2.2.2.2.2.2.2.1 u.2.2.2.2.2.2.2.2.2.2.2.2.2.2.2.2.1 u.2.2.2.2.2.2.2.2.2.2.2.2.2.2.2.2.2.1 u.2.2.2.2.2.2.2.2.2.2.2.2.2.2.2.2.2.2
theorem ye_norm_66 {post : Int32 → SY → Prop} {J2 : Int32 → SY → Prop} {x1 : Int32} {n : Nat} {x2 : Int32} {x3 : Int32} {u : SY} : yv_norm_66 post J2 x1 (n + 1) x2 x3 u = ((((30720 + (yg_outLen u)) ≤ x3 → ((yv_norm_98 post J2 x1 x2 u))) ∧ (¬ (30720 + (yg_outLen u)) ≤ x3 → (((0 ≤ x2 → ((yv_norm_98 post J2 x1 x2 u))) ∧ (¬ 0 ≤ x2 → (wpY_rule (fun r_50 u_51 => (((r_50 = 0 → (∀ x3_71 : Int32, x3_71 = x3 + 1 → ((yv_norm_66 post J2 x1 n x2 x3_71 u_51)))) ∧ (¬ r_50 = 0 → (∀ x3_72 : Int32, x3_72 = x3 + 1 → ((yv_norm_66 post J2 x1 n x3 x3_72 u_51))))))) u x3))))))) := rfl
def yv_norm_25 (post : Int32 → SY → Prop) (J2 : Int32 → SY → Prop) (x1 : Int32) (n : Nat) (x2 : Int32) (u : SY) : Prop := wY_norm_25 post (fun x1' f_nodeLimit' f_weightLimit' f_fuelLimit' f_entryLimit' f_count' f_defs' f_ticks' f_blame' f_outLen' f_mark' a_mem' a_dep' a_ty' a_aux' a_body' a_claim' a_type' n_mem' n_dep' => J2 x1' (f_nodeLimit', f_weightLimit', f_fuelLimit', f_entryLimit', f_count', f_defs', f_ticks', f_blame', f_outLen', f_mark', a_mem', a_dep', a_ty', a_aux', a_body', a_claim', a_type', n_mem', n_dep')) x1 u.1 u.2.1 u.2.2.1 u.2.2.2.1 u.2.2.2.2.1 u.2.2.2.2.2.1 u.2.2.2.2.2.2.1 u.2.2.2.2.2.2.2.1 u.2.2.2.2.2.2.2.2.1 u.2.2.2.2.2.2.2.2.2.1 u.2.2.2.2.2.2.2.2.2.2.2.2.2.2.2.2.2.1 u.2.2.2.2.2.2.2.2.2.2.2.2.2.2.2.2.2.2 n x2 u.2.2.2.2.2.2.2.2.2.2.1 u.2.2.2.2.2.2.2.2.2.2.2.1 u.2.2.2.2.2.2.2.2.2.2.2.2.1 u.2.2.2.2.2.2.2.2.2.2.2.2.2.1 u.2.2.2.2.2.2.2.2.2.2.2.2.2.2.1 u.2.2.2.2.2.2.2.2.2.2.2.2.2.2.2.1 u.2.2.2.2.2.2.2.2.2.2.2.2.2.2.2.2.1
theorem ye_norm_25 {post : Int32 → SY → Prop} {J2 : Int32 → SY → Prop} {x1 : Int32} {n : Nat} {x2 : Int32} {u : SY} : yv_norm_25 post J2 x1 (n + 1) x2 u = ((((yg_outLen u) ≤ x2 → (∃ n66 : Nat, (yv_norm_66 post J2 x1 n66 (-13) 30720 u))) ∧ (¬ (yg_outLen u) ≤ x2 → (vp_in (30960 + x2) (yg_nmem u) ∧ (vp_in (30720 + x2) (yg_nmem u) ∧ ∀ a_mem_75 : Nat → Int64, a_mem_75 = vp_updL (yg_mem u) (30720 + x2).toNatClampNeg ((yg_mem u) (30960 + x2).toNatClampNeg) → (∀ x2_76 : Int32, x2_76 = x2 + 1 → ((yv_norm_25 post J2 x1 n x2_76 (ys_mem a_mem_75 u))))))))) := rfl
def yv_norm_2 (post : Int32 → SY → Prop) (n : Nat) (x1 : Int32) (u : SY) : Prop := wY_norm_2 post n x1 u.1 u.2.1 u.2.2.1 u.2.2.2.1 u.2.2.2.2.1 u.2.2.2.2.2.1 u.2.2.2.2.2.2.1 u.2.2.2.2.2.2.2.1 u.2.2.2.2.2.2.2.2.1 u.2.2.2.2.2.2.2.2.2.1 u.2.2.2.2.2.2.2.2.2.2.1 u.2.2.2.2.2.2.2.2.2.2.2.1 u.2.2.2.2.2.2.2.2.2.2.2.2.1 u.2.2.2.2.2.2.2.2.2.2.2.2.2.1 u.2.2.2.2.2.2.2.2.2.2.2.2.2.2.1 u.2.2.2.2.2.2.2.2.2.2.2.2.2.2.2.1 u.2.2.2.2.2.2.2.2.2.2.2.2.2.2.2.2.1 u.2.2.2.2.2.2.2.2.2.2.2.2.2.2.2.2.2.1 u.2.2.2.2.2.2.2.2.2.2.2.2.2.2.2.2.2.2
theorem ye_norm_2 {post : Int32 → SY → Prop} {n : Nat} {x1 : Int32} {u : SY} : yv_norm_2 post (n + 1) x1 u = (((200 < x1 → (post (-4) u)) ∧ (¬ 200 < x1 → ((((yg_outLen u) ≤ (yg_weightLimit u) → (∃ n25 : Nat, (yv_norm_25 post ((yv_norm_2 post n)) x1 n25 0 u))) ∧ (¬ (yg_outLen u) ≤ (yg_weightLimit u) → (post (-3) u))))))) := rfl
theorem ye_norm {post : Int32 → SY → Prop} {u : SY} : wpY_norm post u = (∃ n2 : Nat, (yv_norm_2 post n2 0 u)) := rfl
theorem ye_normErased {post : Int32 → SY → Prop} {u : SY} {p0 : Int32} : wpY_normErased post u p0 = (wpY_erase (fun u_2 => (wpY_norm (fun r_21 u_22 => (post r_21 u_22)) u_2)) (ys_outLen 0 u) p0) := rfl
def yv_apply_12 (post : Int32 → SY → Prop) (x1 : Int32) (n : Nat) (x3 : Int32) (u : SY) : Prop := wY_apply_12 post x1 u.1 u.2.1 u.2.2.1 u.2.2.2.1 u.2.2.2.2.1 u.2.2.2.2.2.1 u.2.2.2.2.2.2.1 u.2.2.2.2.2.2.2.1 u.2.2.2.2.2.2.2.2.1 u.2.2.2.2.2.2.2.2.2.1 u.2.2.2.2.2.2.2.2.2.2.2.2.2.2.2.2.2.1 u.2.2.2.2.2.2.2.2.2.2.2.2.2.2.2.2.2.2 n x3 u.2.2.2.2.2.2.2.2.2.2.1 u.2.2.2.2.2.2.2.2.2.2.2.1 u.2.2.2.2.2.2.2.2.2.2.2.2.1 u.2.2.2.2.2.2.2.2.2.2.2.2.2.1 u.2.2.2.2.2.2.2.2.2.2.2.2.2.2.1 u.2.2.2.2.2.2.2.2.2.2.2.2.2.2.2.1 u.2.2.2.2.2.2.2.2.2.2.2.2.2.2.2.2.1
theorem ye_apply_12 {post : Int32 → SY → Prop} {x1 : Int32} {n : Nat} {x3 : Int32} {u : SY} : yv_apply_12 post x1 (n + 1) x3 u = ((((yg_outLen u) ≤ x3 → (wpY_subst (fun u_23 => (wpY_norm (fun r_42 u_43 => (post r_42 u_43)) u_23)) (ys_outLen 0 u) x1 30840)) ∧ (¬ (yg_outLen u) ≤ x3 → (vp_in (30960 + x3) (yg_nmem u) ∧ (vp_in (30840 + x3) (yg_nmem u) ∧ ∀ a_mem_64 : Nat → Int64, a_mem_64 = vp_updL (yg_mem u) (30840 + x3).toNatClampNeg ((yg_mem u) (30960 + x3).toNatClampNeg) → (∀ x3_65 : Int32, x3_65 = x3 + 1 → ((yv_apply_12 post x1 n x3_65 (ys_mem a_mem_64 u))))))))) := rfl
theorem ye_apply {post : Int32 → SY → Prop} {u : SY} {p0 : Int32} {p1 : Int32} : wpY_apply post u p0 p1 = (wpY_erase (fun u_2 => (∃ n12 : Nat, (yv_apply_12 post p0 n12 0 u_2))) (ys_outLen 0 u) p1) := rfl
def yv_parent_4 (post : Int32 → Prop) (x1 : Int32) (x2 : Int32) (n : Nat) (x3 : Int32) (u : SY) : Prop := wY_parent_4 post x1 x2 u.1 u.2.1 u.2.2.1 u.2.2.2.1 u.2.2.2.2.1 u.2.2.2.2.2.1 u.2.2.2.2.2.2.1 u.2.2.2.2.2.2.2.1 u.2.2.2.2.2.2.2.2.1 u.2.2.2.2.2.2.2.2.2.1 u.2.2.2.2.2.2.2.2.2.2.1 u.2.2.2.2.2.2.2.2.2.2.2.1 u.2.2.2.2.2.2.2.2.2.2.2.2.1 u.2.2.2.2.2.2.2.2.2.2.2.2.2.1 u.2.2.2.2.2.2.2.2.2.2.2.2.2.2.1 u.2.2.2.2.2.2.2.2.2.2.2.2.2.2.2.1 u.2.2.2.2.2.2.2.2.2.2.2.2.2.2.2.2.1 u.2.2.2.2.2.2.2.2.2.2.2.2.2.2.2.2.2.1 u.2.2.2.2.2.2.2.2.2.2.2.2.2.2.2.2.2.2 n x3
theorem ye_parent_4 {post : Int32 → Prop} {x1 : Int32} {x2 : Int32} {n : Nat} {x3 : Int32} {u : SY} : yv_parent_4 post x1 x2 (n + 1) x3 u = (((x3 ≤ x1 → (post x3)) ∧ (¬ x3 ≤ x1 → (wpY_end (fun r_3 => (((x2 < r_3 → (post x3)) ∧ (¬ x2 < r_3 → (∀ x3_24 : Int32, x3_24 = x3 + (-1) → ((yv_parent_4 post x1 x2 n x3_24 u))))))) u x3)))) := rfl
theorem ye_parent {post : Int32 → Prop} {u : SY} {p0 : Int32} {p1 : Int32} : wpY_parent post u p0 p1 = (∀ x3_1 : Int32, x3_1 = p1 - 1 → (∃ n4 : Nat, (yv_parent_4 post p0 p1 n4 x3_1 u))) := rfl
theorem ye_typeOf {post : Int32 → Prop} {u : SY} {p0 : Int32} : wpY_typeOf post u p0 = (((p0 < 0 → (post (-2))) ∧ (¬ p0 < 0 → (((p0 < (yg_defs u) → (vp_in p0 16 ∧ (post ((yg_type u) p0.toNatClampNeg)))) ∧ (¬ p0 < (yg_defs u) → (post (-2)))))))) := rfl
def yv_lookup_91 (post : Int32 → SY → Prop) (J8 : Int32 → Int32 → Prop) (x1 : Int32) (x2 : Int32) (x3 : Int32) (x4 : Int32) (x5 : Int32) (x7 : Int32) (u : SY) : Prop := wY_lookup_91 post J8 x1 x2 x3 x4 x5 x7 u.1 u.2.1 u.2.2.1 u.2.2.2.1 u.2.2.2.2.1 u.2.2.2.2.2.1 u.2.2.2.2.2.2.1 u.2.2.2.2.2.2.2.1 u.2.2.2.2.2.2.2.2.1 u.2.2.2.2.2.2.2.2.2.1 u.2.2.2.2.2.2.2.2.2.2.1 u.2.2.2.2.2.2.2.2.2.2.2.1 u.2.2.2.2.2.2.2.2.2.2.2.2.1 u.2.2.2.2.2.2.2.2.2.2.2.2.2.1 u.2.2.2.2.2.2.2.2.2.2.2.2.2.2.1 u.2.2.2.2.2.2.2.2.2.2.2.2.2.2.2.1 u.2.2.2.2.2.2.2.2.2.2.2.2.2.2.2.2.1 u.2.2.2.2.2.2.2.2.2.2.2.2.2.2.2.2.2.1 u.2.2.2.2.2.2.2.2.2.2.2.2.2.2.2.2.2.2
theorem ye_lookup_91 {post : Int32 → SY → Prop} {J8 : Int32 → Int32 → Prop} {x1 : Int32} {x2 : Int32} {x3 : Int32} {x4 : Int32} {x5 : Int32} {x7 : Int32} {u : SY} : yv_lookup_91 post J8 x1 x2 x3 x4 x5 x7 u = (((x7 = 0 → (∀ x5_26 : Int32, x5_26 = x5 + (-1) → ((J8 x4 x5_26)))) ∧ (¬ x7 = 0 → (∀ x4_27 : Int32, x4_27 = x4 + 1 → (∀ x5_28 : Int32, x5_28 = x5 + (-1) → ((J8 x4_27 x5_28))))))) := rfl
def yv_lookup_48 (post : Int32 → SY → Prop) (J8 : Int32 → Int32 → Prop) (x1 : Int32) (x2 : Int32) (x3 : Int32) (x4 : Int32) (x5 : Int32) (z0 : Int32) (u : SY) : Prop := wY_lookup_48 post J8 x1 x2 x3 x4 x5 z0 u.1 u.2.1 u.2.2.1 u.2.2.2.1 u.2.2.2.2.1 u.2.2.2.2.2.1 u.2.2.2.2.2.2.1 u.2.2.2.2.2.2.2.1 u.2.2.2.2.2.2.2.2.1 u.2.2.2.2.2.2.2.2.2.1 u.2.2.2.2.2.2.2.2.2.2.1 u.2.2.2.2.2.2.2.2.2.2.2.1 u.2.2.2.2.2.2.2.2.2.2.2.2.1 u.2.2.2.2.2.2.2.2.2.2.2.2.2.1 u.2.2.2.2.2.2.2.2.2.2.2.2.2.2.1 u.2.2.2.2.2.2.2.2.2.2.2.2.2.2.2.1 u.2.2.2.2.2.2.2.2.2.2.2.2.2.2.2.2.1 u.2.2.2.2.2.2.2.2.2.2.2.2.2.2.2.2.2.1 u.2.2.2.2.2.2.2.2.2.2.2.2.2.2.2.2.2.2
theorem ye_lookup_48 {post : Int32 → SY → Prop} {J8 : Int32 → Int32 → Prop} {x1 : Int32} {x2 : Int32} {x3 : Int32} {x4 : Int32} {x5 : Int32} {z0 : Int32} {u : SY} : yv_lookup_48 post J8 x1 x2 x3 x4 x5 z0 u = (((z0 = 0 → ((yv_lookup_91 post J8 x1 x2 x3 x4 x5 z0 u))) ∧ (¬ z0 = 0 → (((x4 = x3 → (vp_in (x5 - x1) 120 ∧ (wpY_shift (fun u_32 => (wpY_enter (fun r_51 u_52 => (post r_51 u_52)) u_32)) (ys_outLen 0 u) (((yg_aux u) (x5 - x1).toNatClampNeg) * 120) (x3 + 1) 0))) ∧ (¬ x4 = x3 → ((yv_lookup_91 post J8 x1 x2 x3 x4 x5 z0 u)))))))) := rfl
def yv_lookup_47 (post : Int32 → SY → Prop) (J8 : Int32 → Int32 → Prop) (x1 : Int32) (x2 : Int32) (x3 : Int32) (x4 : Int32) (x5 : Int32) (u : SY) : Prop := wY_lookup_47 post J8 x1 x2 x3 x4 x5 u.1 u.2.1 u.2.2.1 u.2.2.2.1 u.2.2.2.2.1 u.2.2.2.2.2.1 u.2.2.2.2.2.2.1 u.2.2.2.2.2.2.2.1 u.2.2.2.2.2.2.2.2.1 u.2.2.2.2.2.2.2.2.2.1 u.2.2.2.2.2.2.2.2.2.2.1 u.2.2.2.2.2.2.2.2.2.2.2.1 u.2.2.2.2.2.2.2.2.2.2.2.2.1 u.2.2.2.2.2.2.2.2.2.2.2.2.2.1 u.2.2.2.2.2.2.2.2.2.2.2.2.2.2.1 u.2.2.2.2.2.2.2.2.2.2.2.2.2.2.2.1 u.2.2.2.2.2.2.2.2.2.2.2.2.2.2.2.2.1 u.2.2.2.2.2.2.2.2.2.2.2.2.2.2.2.2.2.1 u.2.2.2.2.2.2.2.2.2.2.2.2.2.2.2.2.2.2
theorem ye_lookup_47 {post : Int32 → SY → Prop} {J8 : Int32 → Int32 → Prop} {x1 : Int32} {x2 : Int32} {x3 : Int32} {x4 : Int32} {x5 : Int32} {u : SY} : yv_lookup_47 post J8 x1 x2 x3 x4 x5 u = ((yv_lookup_48 post J8 x1 x2 x3 x4 x5 0 u)) := rfl
def yv_lookup_8 (post : Int32 → SY → Prop) (x1 : Int32) (x2 : Int32) (x3 : Int32) (n : Nat) (x4 : Int32) (x5 : Int32) (u : SY) : Prop := wY_lookup_8 post x1 x2 x3 u.1 u.2.1 u.2.2.1 u.2.2.2.1 u.2.2.2.2.1 u.2.2.2.2.2.1 u.2.2.2.2.2.2.1 u.2.2.2.2.2.2.2.1 u.2.2.2.2.2.2.2.2.1 u.2.2.2.2.2.2.2.2.2.1 u.2.2.2.2.2.2.2.2.2.2.1 u.2.2.2.2.2.2.2.2.2.2.2.1 u.2.2.2.2.2.2.2.2.2.2.2.2.1 u.2.2.2.2.2.2.2.2.2.2.2.2.2.1 u.2.2.2.2.2.2.2.2.2.2.2.2.2.2.1 u.2.2.2.2.2.2.2.2.2.2.2.2.2.2.2.1 u.2.2.2.2.2.2.2.2.2.2.2.2.2.2.2.2.1 u.2.2.2.2.2.2.2.2.2.2.2.2.2.2.2.2.2.1 u.2.2.2.2.2.2.2.2.2.2.2.2.2.2.2.2.2.2 n x4 x5
theorem ye_lookup_8 {post : Int32 → SY → Prop} {x1 : Int32} {x2 : Int32} {x3 : Int32} {n : Nat} {x4 : Int32} {x5 : Int32} {u : SY} : yv_lookup_8 post x1 x2 x3 (n + 1) x4 x5 u = (((x5 < x1 → (post (-5) u)) ∧ (¬ x5 < x1 → (wpY_bound (fun r_3 => (((r_3 < 0 → ((yv_lookup_47 post ((fun x4' x5' => yv_lookup_8 post x1 x2 x3 n x4' x5' u)) x1 x2 x3 x4 x5 u))) ∧ (¬ r_3 < 0 → (((x2 < r_3 → ((yv_lookup_47 post ((fun x4' x5' => yv_lookup_8 post x1 x2 x3 n x4' x5' u)) x1 x2 x3 x4 x5 u))) ∧ (¬ x2 < r_3 → (wpY_end (fun r_72 => (((r_72 ≤ x2 → ((yv_lookup_47 post ((fun x4' x5' => yv_lookup_8 post x1 x2 x3 n x4' x5' u)) x1 x2 x3 x4 x5 u))) ∧ (¬ r_72 ≤ x2 → ((yv_lookup_48 post ((fun x4' x5' => yv_lookup_8 post x1 x2 x3 n x4' x5' u)) x1 x2 x3 x4 x5 1 u)))))) u r_3)))))))) u x5)))) := rfl
theorem ye_lookup {post : Int32 → SY → Prop} {u : SY} {p0 : Int32} {p1 : Int32} {p2 : Int32} : wpY_lookup post u p0 p1 p2 = (∀ x5_1 : Int32, x5_1 = p1 - 1 → (∃ n8 : Nat, (yv_lookup_8 post p0 p1 p2 n8 0 x5_1 u))) := rfl
def yv_finish_40 (post : Int32 → SY → Prop) (x3 : Int32) (u : SY) : Prop := wY_finish_40 post x3 u.1 u.2.1 u.2.2.1 u.2.2.2.1 u.2.2.2.2.1 u.2.2.2.2.2.1 u.2.2.2.2.2.2.1 u.2.2.2.2.2.2.2.1 u.2.2.2.2.2.2.2.2.1 u.2.2.2.2.2.2.2.2.2.1 u.2.2.2.2.2.2.2.2.2.2.1 u.2.2.2.2.2.2.2.2.2.2.2.1 u.2.2.2.2.2.2.2.2.2.2.2.2.1 u.2.2.2.2.2.2.2.2.2.2.2.2.2.1 u.2.2.2.2.2.2.2.2.2.2.2.2.2.2.1 u.2.2.2.2.2.2.2.2.2.2.2.2.2.2.2.1 u.2.2.2.2.2.2.2.2.2.2.2.2.2.2.2.2.1 u.2.2.2.2.2.2.2.2.2.2.2.2.2.2.2.2.2.1 u.2.2.2.2.2.2.2.2.2.2.2.2.2.2.2.2.2.2
theorem ye_finish_40 {post : Int32 → SY → Prop} {x3 : Int32} {u : SY} : yv_finish_40 post x3 u = (((x3 = 2 → (post 0 u)) ∧ (¬ x3 = 2 → (post 2 u)))) := rfl
def yv_finish_62 (post : Int32 → SY → Prop) (x1 : Int32) (x2 : Int32) (x3 : Int32) (x4 : Int32) (u : SY) : Prop := wY_finish_62 post x1 x2 x3 x4 u.1 u.2.1 u.2.2.1 u.2.2.2.1 u.2.2.2.2.1 u.2.2.2.2.2.1 u.2.2.2.2.2.2.1 u.2.2.2.2.2.2.2.1 u.2.2.2.2.2.2.2.2.1 u.2.2.2.2.2.2.2.2.2.1 u.2.2.2.2.2.2.2.2.2.2.1 u.2.2.2.2.2.2.2.2.2.2.2.1 u.2.2.2.2.2.2.2.2.2.2.2.2.1 u.2.2.2.2.2.2.2.2.2.2.2.2.2.1 u.2.2.2.2.2.2.2.2.2.2.2.2.2.2.1 u.2.2.2.2.2.2.2.2.2.2.2.2.2.2.2.1 u.2.2.2.2.2.2.2.2.2.2.2.2.2.2.2.2.1 u.2.2.2.2.2.2.2.2.2.2.2.2.2.2.2.2.2.1 u.2.2.2.2.2.2.2.2.2.2.2.2.2.2.2.2.2.2
theorem ye_finish_62 {post : Int32 → SY → Prop} {x1 : Int32} {x2 : Int32} {x3 : Int32} {x4 : Int32} {u : SY} : yv_finish_62 post x1 x2 x3 x4 u = (((x3 = 10 → (wpY_typeOf (fun r_67 => (post r_67 u)) u x4)) ∧ (¬ x3 = 10 → (wpY_lookup (fun r_47 u_48 => (post r_47 u_48)) u x1 x2 x4)))) := rfl
def yv_finish_237 (post : Int32 → SY → Prop) (x1 : Int32) (x2 : Int32) (x3 : Int32) (x7 : Int32) (x8 : Int32) (u : SY) : Prop := wY_finish_237 post x1 x2 x3 x7 x8 u.1 u.2.1 u.2.2.1 u.2.2.2.1 u.2.2.2.2.1 u.2.2.2.2.2.1 u.2.2.2.2.2.2.1 u.2.2.2.2.2.2.2.1 u.2.2.2.2.2.2.2.2.1 u.2.2.2.2.2.2.2.2.2.1 u.2.2.2.2.2.2.2.2.2.2.1 u.2.2.2.2.2.2.2.2.2.2.2.1 u.2.2.2.2.2.2.2.2.2.2.2.2.1 u.2.2.2.2.2.2.2.2.2.2.2.2.2.1 u.2.2.2.2.2.2.2.2.2.2.2.2.2.2.1 u.2.2.2.2.2.2.2.2.2.2.2.2.2.2.2.1 u.2.2.2.2.2.2.2.2.2.2.2.2.2.2.2.2.1 u.2.2.2.2.2.2.2.2.2.2.2.2.2.2.2.2.2.1 u.2.2.2.2.2.2.2.2.2.2.2.2.2.2.2.2.2.2
theorem ye_finish_237 {post : Int32 → SY → Prop} {x1 : Int32} {x2 : Int32} {x3 : Int32} {x7 : Int32} {x8 : Int32} {u : SY} : yv_finish_237 post x1 x2 x3 x7 x8 u = (wpY_put (fun u_119 => (((x3 = 7 → (wpY_term (fun u_283 => (wpY_term (fun u_303 => (wpY_enter (fun r_322 u_323 => (post r_322 u_323)) u_303)) u_283 (x7 * 120))) u_119 x8)) ∧ (¬ x3 = 7 → (wpY_put (fun u_140 => (wpY_put (fun u_160 => (wpY_term (fun u_180 => (wpY_shift (fun u_200 => (wpY_norm (fun r_219 u_220 => (wpY_child (fun r_239 => (((0 ≤ r_219 → (vp_in (r_239 - x1) 120 ∧ (((((yg_ty u_220) (r_239 - x1).toNatClampNeg) = r_219 → (wpY_apply (fun r_262 u_263 => (post r_262 u_263)) u_220 x8 (x2 + 1))) ∧ (¬ ((yg_ty u_220) (r_239 - x1).toNatClampNeg) = r_219 → (post (-9) u_220)))))) ∧ (¬ 0 ≤ r_219 → (post r_219 u_220))))) u_220 x2 3)) u_200)) u_180 x8 1 1)) u_160 x8)) u_140 6 0)) u_119 2 0))))) (ys_outLen 0 u) 6 0) := rfl
theorem ye_finish {post : Int32 → SY → Prop} {u : SY} {p0 : Int32} {p1 : Int32} : wpY_finish post u p0 p1 = (wpY_kind (fun r_1 => (wpY_val (fun r_21 => (((r_1 = 1 → (((r_21 = 0 → (post 1 u)) ∧ (¬ r_21 = 0 → (post (-6) u))))) ∧ (¬ r_1 = 1 → (((r_1 = 2 → ((yv_finish_40 post r_1 u))) ∧ (¬ r_1 = 2 → (((r_1 = 3 → ((yv_finish_40 post r_1 u))) ∧ (¬ r_1 = 3 → (((r_1 = 10 → ((yv_finish_62 post p0 p1 r_1 r_21 u))) ∧ (¬ r_1 = 10 → (((r_1 = 5 → ((yv_finish_62 post p0 p1 r_1 r_21 u))) ∧ (¬ r_1 = 5 → (vp_in ((p1 + 1) - p0) 120 ∧ (∀ x5_89 : Int32, x5_89 = (yg_ty u) ((p1 + 1) - p0).toNatClampNeg → (((r_1 = 4 → (((x5_89 = 2 → (post 2 u)) ∧ (¬ x5_89 = 2 → (post (-9) u))))) ∧ (¬ r_1 = 4 → (wpY_end (fun r_91 => (vp_in (r_91 - p0) 120 ∧ (∀ x7_112 : Int32, x7_112 = (yg_ty u) (r_91 - p0).toNatClampNeg → (vp_in (p1 - p0) 120 ∧ (∀ x8_114 : Int32, x8_114 = ((yg_aux u) (p1 - p0).toNatClampNeg) * 120 → (((r_1 = 6 → (((x7_112 ≤ 1 → (post x7_112 u)) ∧ (¬ x7_112 ≤ 1 → (post (-7) u))))) ∧ (¬ r_1 = 6 → (((r_1 = 8 → (wpY_end (fun r_343 => (wpY_find (fun r_363 => (((r_363 = x7_112 → (wpY_apply (fun r_384 u_385 => (post r_384 u_385)) u r_343 r_91)) ∧ (¬ r_363 = x7_112 → (post (-9) u))))) u ((x5_89 * 120) + 1))) u ((x5_89 * 120) + 1))) ∧ (¬ r_1 = 8 → (((r_1 = 7 → (((x7_112 = 1 → (post (-11) u)) ∧ (¬ x7_112 = 1 → ((yv_finish_237 post p0 p1 r_1 x7_112 x8_114 u)))))) ∧ (¬ r_1 = 7 → ((yv_finish_237 post p0 p1 r_1 x7_112 x8_114 u)))))))))))))))) u (p1 + 1))))))))))))))))))))))) u p1)) u p1) := rfl
def yv_afterChild_187 (post : Int32 → SY → Prop) (x1 : Int32) (x2 : Int32) (x3 : Int32) (x4 : Int32) (x5 : Int32) (x6 : Int32) (u : SY) : Prop := wY_afterChild_187 post x1 x2 x3 x4 x5 x6 u.1 u.2.1 u.2.2.1 u.2.2.2.1 u.2.2.2.2.1 u.2.2.2.2.2.1 u.2.2.2.2.2.2.1 u.2.2.2.2.2.2.2.1 u.2.2.2.2.2.2.2.2.1 u.2.2.2.2.2.2.2.2.2.1 u.2.2.2.2.2.2.2.2.2.2.1 u.2.2.2.2.2.2.2.2.2.2.2.1 u.2.2.2.2.2.2.2.2.2.2.2.2.1 u.2.2.2.2.2.2.2.2.2.2.2.2.2.1 u.2.2.2.2.2.2.2.2.2.2.2.2.2.2.1 u.2.2.2.2.2.2.2.2.2.2.2.2.2.2.2.1 u.2.2.2.2.2.2.2.2.2.2.2.2.2.2.2.2.1 u.2.2.2.2.2.2.2.2.2.2.2.2.2.2.2.2.2.1 u.2.2.2.2.2.2.2.2.2.2.2.2.2.2.2.2.2.2
theorem ye_afterChild_187 {post : Int32 → SY → Prop} {x1 : Int32} {x2 : Int32} {x3 : Int32} {x4 : Int32} {x5 : Int32} {x6 : Int32} {u : SY} : yv_afterChild_187 post x1 x2 x3 x4 x5 x6 u = (((x4 = 9 → (wpY_end (fun r_51 => (((x3 = r_51 → (vp_in (x2 - x1) 120 ∧ (wpY_subst (fun u_74 => (wpY_norm (fun r_93 u_94 => (((0 ≤ r_93 → (((r_93 = x5 → (post 1 u_94)) ∧ (¬ r_93 = x5 → (post (-9) u_94))))) ∧ (¬ 0 ≤ r_93 → (post r_93 u_94))))) u_74)) (ys_outLen 0 u) (((yg_aux u) (x2 - x1).toNatClampNeg) * 120) 360))) ∧ (¬ x3 = r_51 → (post 1 u))))) u x6)) ∧ (¬ x4 = 9 → (post 1 u)))) := rfl
def yv_afterChild_153 (post : Int32 → SY → Prop) (x1 : Int32) (x2 : Int32) (x3 : Int32) (x4 : Int32) (x5 : Int32) (x6 : Int32) (x7 : Int32) (u : SY) : Prop := wY_afterChild_153 post x1 x2 x3 x4 x5 x6 x7 u.1 u.2.1 u.2.2.1 u.2.2.2.1 u.2.2.2.2.1 u.2.2.2.2.2.1 u.2.2.2.2.2.2.1 u.2.2.2.2.2.2.2.1 u.2.2.2.2.2.2.2.2.1 u.2.2.2.2.2.2.2.2.2.1 u.2.2.2.2.2.2.2.2.2.2.1 u.2.2.2.2.2.2.2.2.2.2.2.1 u.2.2.2.2.2.2.2.2.2.2.2.2.1 u.2.2.2.2.2.2.2.2.2.2.2.2.2.1 u.2.2.2.2.2.2.2.2.2.2.2.2.2.2.1 u.2.2.2.2.2.2.2.2.2.2.2.2.2.2.2.1 u.2.2.2.2.2.2.2.2.2.2.2.2.2.2.2.2.1 u.2.2.2.2.2.2.2.2.2.2.2.2.2.2.2.2.2.1 u.2.2.2.2.2.2.2.2.2.2.2.2.2.2.2.2.2.2
theorem ye_afterChild_153 {post : Int32 → SY → Prop} {x1 : Int32} {x2 : Int32} {x3 : Int32} {x4 : Int32} {x5 : Int32} {x6 : Int32} {x7 : Int32} {u : SY} : yv_afterChild_153 post x1 x2 x3 x4 x5 x6 x7 u = (((x4 = 9 → (((x7 = 0 → ((yv_afterChild_187 post x1 x2 x3 x4 x5 x6 u))) ∧ (¬ x7 = 0 → (vp_in (x2 - x1) 120 ∧ ∀ a_aux_117 : Nat → Int32, a_aux_117 = upd (yg_aux u) (x2 - x1).toNatClampNeg 2 → (((x5 = 2 → (post 1 (ys_aux a_aux_117 u))) ∧ (¬ x5 = 2 → (post (-9) (ys_aux a_aux_117 u)))))))))) ∧ (¬ x4 = 9 → ((yv_afterChild_187 post x1 x2 x3 x4 x5 x6 u))))) := rfl
def yv_afterChild_93 (post : Int32 → SY → Prop) (x1 : Int32) (x2 : Int32) (x3 : Int32) (x4 : Int32) (x5 : Int32) (x6 : Int32) (x7 : Int32) (x8 : Int32) (u : SY) : Prop := wY_afterChild_93 post x1 x2 x3 x4 x5 x6 x7 x8 u.1 u.2.1 u.2.2.1 u.2.2.2.1 u.2.2.2.2.1 u.2.2.2.2.2.1 u.2.2.2.2.2.2.1 u.2.2.2.2.2.2.2.1 u.2.2.2.2.2.2.2.2.1 u.2.2.2.2.2.2.2.2.2.1 u.2.2.2.2.2.2.2.2.2.2.1 u.2.2.2.2.2.2.2.2.2.2.2.1 u.2.2.2.2.2.2.2.2.2.2.2.2.1 u.2.2.2.2.2.2.2.2.2.2.2.2.2.1 u.2.2.2.2.2.2.2.2.2.2.2.2.2.2.1 u.2.2.2.2.2.2.2.2.2.2.2.2.2.2.2.1 u.2.2.2.2.2.2.2.2.2.2.2.2.2.2.2.2.1 u.2.2.2.2.2.2.2.2.2.2.2.2.2.2.2.2.2.1 u.2.2.2.2.2.2.2.2.2.2.2.2.2.2.2.2.2.2
theorem ye_afterChild_93 {post : Int32 → SY → Prop} {x1 : Int32} {x2 : Int32} {x3 : Int32} {x4 : Int32} {x5 : Int32} {x6 : Int32} {x7 : Int32} {x8 : Int32} {u : SY} : yv_afterChild_93 post x1 x2 x3 x4 x5 x6 x7 x8 u = (((x8 = 0 → (((x4 = 8 → (((x7 = 0 → ((yv_afterChild_153 post x1 x2 x3 x4 x5 x6 x7 u))) ∧ (¬ x7 = 0 → (wpY_kind (fun r_120 => (((r_120 = 6 → (post 1 u)) ∧ (¬ r_120 = 6 → (post (-8) u))))) u (x5 * 120)))))) ∧ (¬ x4 = 8 → ((yv_afterChild_153 post x1 x2 x3 x4 x5 x6 x7 u)))))) ∧ (¬ x8 = 0 → (wpY_normErased (fun r_141 u_142 => (vp_in (x2 - x1) 120 ∧ ∀ a_aux_162 : Nat → Int32, a_aux_162 = upd (yg_aux u_142) (x2 - x1).toNatClampNeg r_141 → (vp_in (x2 - x1) 120 ∧ (post (a_aux_162 (x2 - x1).toNatClampNeg) (ys_aux a_aux_162 u_142))))) u x3)))) := rfl
def yv_afterChild_77 (post : Int32 → SY → Prop) (x1 : Int32) (x2 : Int32) (x3 : Int32) (x4 : Int32) (x5 : Int32) (x6 : Int32) (x7 : Int32) (z0 : Int32) (u : SY) : Prop := wY_afterChild_77 post x1 x2 x3 x4 x5 x6 x7 z0 u.1 u.2.1 u.2.2.1 u.2.2.2.1 u.2.2.2.2.1 u.2.2.2.2.2.1 u.2.2.2.2.2.2.1 u.2.2.2.2.2.2.2.1 u.2.2.2.2.2.2.2.2.1 u.2.2.2.2.2.2.2.2.2.1 u.2.2.2.2.2.2.2.2.2.2.1 u.2.2.2.2.2.2.2.2.2.2.2.1 u.2.2.2.2.2.2.2.2.2.2.2.2.1 u.2.2.2.2.2.2.2.2.2.2.2.2.2.1 u.2.2.2.2.2.2.2.2.2.2.2.2.2.2.1 u.2.2.2.2.2.2.2.2.2.2.2.2.2.2.2.1 u.2.2.2.2.2.2.2.2.2.2.2.2.2.2.2.2.1 u.2.2.2.2.2.2.2.2.2.2.2.2.2.2.2.2.2.1 u.2.2.2.2.2.2.2.2.2.2.2.2.2.2.2.2.2.2
theorem ye_afterChild_77 {post : Int32 → SY → Prop} {x1 : Int32} {x2 : Int32} {x3 : Int32} {x4 : Int32} {x5 : Int32} {x6 : Int32} {x7 : Int32} {z0 : Int32} {u : SY} : yv_afterChild_77 post x1 x2 x3 x4 x5 x6 x7 z0 u = (((z0 = 0 → ((yv_afterChild_93 post x1 x2 x3 x4 x5 x6 x7 z0 u))) ∧ (¬ z0 = 0 → (((x5 ≤ 1 → ((yv_afterChild_93 post x1 x2 x3 x4 x5 x6 x7 z0 u))) ∧ (¬ x5 ≤ 1 → (post (-7) u))))))) := rfl
def yv_afterChild_72 (post : Int32 → SY → Prop) (x1 : Int32) (x2 : Int32) (x3 : Int32) (x4 : Int32) (x5 : Int32) (x6 : Int32) (x7 : Int32) (u : SY) : Prop := wY_afterChild_72 post x1 x2 x3 x4 x5 x6 x7 u.1 u.2.1 u.2.2.1 u.2.2.2.1 u.2.2.2.2.1 u.2.2.2.2.2.1 u.2.2.2.2.2.2.1 u.2.2.2.2.2.2.2.1 u.2.2.2.2.2.2.2.2.1 u.2.2.2.2.2.2.2.2.2.1 u.2.2.2.2.2.2.2.2.2.2.1 u.2.2.2.2.2.2.2.2.2.2.2.1 u.2.2.2.2.2.2.2.2.2.2.2.2.1 u.2.2.2.2.2.2.2.2.2.2.2.2.2.1 u.2.2.2.2.2.2.2.2.2.2.2.2.2.2.1 u.2.2.2.2.2.2.2.2.2.2.2.2.2.2.2.1 u.2.2.2.2.2.2.2.2.2.2.2.2.2.2.2.2.1 u.2.2.2.2.2.2.2.2.2.2.2.2.2.2.2.2.2.1 u.2.2.2.2.2.2.2.2.2.2.2.2.2.2.2.2.2.2
theorem ye_afterChild_72 {post : Int32 → SY → Prop} {x1 : Int32} {x2 : Int32} {x3 : Int32} {x4 : Int32} {x5 : Int32} {x6 : Int32} {x7 : Int32} {u : SY} : yv_afterChild_72 post x1 x2 x3 x4 x5 x6 x7 u = ((yv_afterChild_77 post x1 x2 x3 x4 x5 x6 x7 1 u)) := rfl
def yv_afterChild_76 (post : Int32 → SY → Prop) (x1 : Int32) (x2 : Int32) (x3 : Int32) (x4 : Int32) (x5 : Int32) (x6 : Int32) (x7 : Int32) (u : SY) : Prop := wY_afterChild_76 post x1 x2 x3 x4 x5 x6 x7 u.1 u.2.1 u.2.2.1 u.2.2.2.1 u.2.2.2.2.1 u.2.2.2.2.2.1 u.2.2.2.2.2.2.1 u.2.2.2.2.2.2.2.1 u.2.2.2.2.2.2.2.2.1 u.2.2.2.2.2.2.2.2.2.1 u.2.2.2.2.2.2.2.2.2.2.1 u.2.2.2.2.2.2.2.2.2.2.2.1 u.2.2.2.2.2.2.2.2.2.2.2.2.1 u.2.2.2.2.2.2.2.2.2.2.2.2.2.1 u.2.2.2.2.2.2.2.2.2.2.2.2.2.2.1 u.2.2.2.2.2.2.2.2.2.2.2.2.2.2.2.1 u.2.2.2.2.2.2.2.2.2.2.2.2.2.2.2.2.1 u.2.2.2.2.2.2.2.2.2.2.2.2.2.2.2.2.2.1 u.2.2.2.2.2.2.2.2.2.2.2.2.2.2.2.2.2.2
theorem ye_afterChild_76 {post : Int32 → SY → Prop} {x1 : Int32} {x2 : Int32} {x3 : Int32} {x4 : Int32} {x5 : Int32} {x6 : Int32} {x7 : Int32} {u : SY} : yv_afterChild_76 post x1 x2 x3 x4 x5 x6 x7 u = ((yv_afterChild_77 post x1 x2 x3 x4 x5 x6 x7 0 u)) := rfl
def yv_afterChild_59 (post : Int32 → SY → Prop) (x1 : Int32) (x2 : Int32) (x3 : Int32) (x4 : Int32) (x5 : Int32) (x6 : Int32) (x7 : Int32) (u : SY) : Prop := wY_afterChild_59 post x1 x2 x3 x4 x5 x6 x7 u.1 u.2.1 u.2.2.1 u.2.2.2.1 u.2.2.2.2.1 u.2.2.2.2.2.1 u.2.2.2.2.2.2.1 u.2.2.2.2.2.2.2.1 u.2.2.2.2.2.2.2.2.1 u.2.2.2.2.2.2.2.2.2.1 u.2.2.2.2.2.2.2.2.2.2.1 u.2.2.2.2.2.2.2.2.2.2.2.1 u.2.2.2.2.2.2.2.2.2.2.2.2.1 u.2.2.2.2.2.2.2.2.2.2.2.2.2.1 u.2.2.2.2.2.2.2.2.2.2.2.2.2.2.1 u.2.2.2.2.2.2.2.2.2.2.2.2.2.2.2.1 u.2.2.2.2.2.2.2.2.2.2.2.2.2.2.2.2.1 u.2.2.2.2.2.2.2.2.2.2.2.2.2.2.2.2.2.1 u.2.2.2.2.2.2.2.2.2.2.2.2.2.2.2.2.2.2
theorem ye_afterChild_59 {post : Int32 → SY → Prop} {x1 : Int32} {x2 : Int32} {x3 : Int32} {x4 : Int32} {x5 : Int32} {x6 : Int32} {x7 : Int32} {u : SY} : yv_afterChild_59 post x1 x2 x3 x4 x5 x6 x7 u = (((x4 = 9 → (((x3 = x6 → ((yv_afterChild_72 post x1 x2 x3 x4 x5 x6 x7 u))) ∧ (¬ x3 = x6 → ((yv_afterChild_76 post x1 x2 x3 x4 x5 x6 x7 u)))))) ∧ (¬ x4 = 9 → ((yv_afterChild_76 post x1 x2 x3 x4 x5 x6 x7 u))))) := rfl
def yv_afterChild_54 (post : Int32 → SY → Prop) (x1 : Int32) (x2 : Int32) (x3 : Int32) (x4 : Int32) (x5 : Int32) (x6 : Int32) (x7 : Int32) (u : SY) : Prop := wY_afterChild_54 post x1 x2 x3 x4 x5 x6 x7 u.1 u.2.1 u.2.2.1 u.2.2.2.1 u.2.2.2.2.1 u.2.2.2.2.2.1 u.2.2.2.2.2.2.1 u.2.2.2.2.2.2.2.1 u.2.2.2.2.2.2.2.2.1 u.2.2.2.2.2.2.2.2.2.1 u.2.2.2.2.2.2.2.2.2.2.1 u.2.2.2.2.2.2.2.2.2.2.2.1 u.2.2.2.2.2.2.2.2.2.2.2.2.1 u.2.2.2.2.2.2.2.2.2.2.2.2.2.1 u.2.2.2.2.2.2.2.2.2.2.2.2.2.2.1 u.2.2.2.2.2.2.2.2.2.2.2.2.2.2.2.1 u.2.2.2.2.2.2.2.2.2.2.2.2.2.2.2.2.1 u.2.2.2.2.2.2.2.2.2.2.2.2.2.2.2.2.2.1 u.2.2.2.2.2.2.2.2.2.2.2.2.2.2.2.2.2.2
theorem ye_afterChild_54 {post : Int32 → SY → Prop} {x1 : Int32} {x2 : Int32} {x3 : Int32} {x4 : Int32} {x5 : Int32} {x6 : Int32} {x7 : Int32} {u : SY} : yv_afterChild_54 post x1 x2 x3 x4 x5 x6 x7 u = (((x7 = 0 → ((yv_afterChild_59 post x1 x2 x3 x4 x5 x6 x7 u))) ∧ (¬ x7 = 0 → ((yv_afterChild_72 post x1 x2 x3 x4 x5 x6 x7 u))))) := rfl
def yv_afterChild_38 (post : Int32 → SY → Prop) (x1 : Int32) (x2 : Int32) (x3 : Int32) (x4 : Int32) (x5 : Int32) (x6 : Int32) (z0 : Int32) (u : SY) : Prop := wY_afterChild_38 post x1 x2 x3 x4 x5 x6 z0 u.1 u.2.1 u.2.2.1 u.2.2.2.1 u.2.2.2.2.1 u.2.2.2.2.2.1 u.2.2.2.2.2.2.1 u.2.2.2.2.2.2.2.1 u.2.2.2.2.2.2.2.2.1 u.2.2.2.2.2.2.2.2.2.1 u.2.2.2.2.2.2.2.2.2.2.1 u.2.2.2.2.2.2.2.2.2.2.2.1 u.2.2.2.2.2.2.2.2.2.2.2.2.1 u.2.2.2.2.2.2.2.2.2.2.2.2.2.1 u.2.2.2.2.2.2.2.2.2.2.2.2.2.2.1 u.2.2.2.2.2.2.2.2.2.2.2.2.2.2.2.1 u.2.2.2.2.2.2.2.2.2.2.2.2.2.2.2.2.1 u.2.2.2.2.2.2.2.2.2.2.2.2.2.2.2.2.2.1 u.2.2.2.2.2.2.2.2.2.2.2.2.2.2.2.2.2.2
theorem ye_afterChild_38 {post : Int32 → SY → Prop} {x1 : Int32} {x2 : Int32} {x3 : Int32} {x4 : Int32} {x5 : Int32} {x6 : Int32} {z0 : Int32} {u : SY} : yv_afterChild_38 post x1 x2 x3 x4 x5 x6 z0 u = (((x4 = 6 → ((yv_afterChild_54 post x1 x2 x3 x4 x5 x6 z0 u))) ∧ (¬ x4 = 6 → (((x4 = 7 → ((yv_afterChild_54 post x1 x2 x3 x4 x5 x6 z0 u))) ∧ (¬ x4 = 7 → ((yv_afterChild_59 post x1 x2 x3 x4 x5 x6 z0 u)))))))) := rfl
theorem ye_afterChild {post : Int32 → SY → Prop} {u : SY} {p0 : Int32} {p1 : Int32} {p2 : Int32} : wpY_afterChild post u p0 p1 p2 = (wpY_kind (fun r_1 => (vp_in (p2 - p0) 120 ∧ (∀ x5_22 : Int32, x5_22 = (yg_ty u) (p2 - p0).toNatClampNeg → (wpY_end (fun r_23 => (((p2 = (p1 + 1) → ((yv_afterChild_38 post p0 p1 p2 r_1 x5_22 r_23 1 u))) ∧ (¬ p2 = (p1 + 1) → ((yv_afterChild_38 post p0 p1 p2 r_1 x5_22 r_23 0 u)))))) u (p1 + 1))))) u p1) := rfl
def yv_typing_168 (post : Int32 → SY → Prop) (J14 : Int32 → SY → Prop) (x2 : Int32) (x3 : Int32) (x4 : Int32) (x5 : Int32) (x6 : Int32) (u : SY) : Prop := wY_typing_168 post (fun x4' f_nodeLimit' f_weightLimit' f_fuelLimit' f_entryLimit' f_count' f_defs' f_ticks' f_blame' f_outLen' f_mark' a_mem' a_dep' a_ty' a_aux' a_body' a_claim' a_type' n_mem' n_dep' => J14 x4' (f_nodeLimit', f_weightLimit', f_fuelLimit', f_entryLimit', f_count', f_defs', f_ticks', f_blame', f_outLen', f_mark', a_mem', a_dep', a_ty', a_aux', a_body', a_claim', a_type', n_mem', n_dep')) x2 x3 x4 x5 x6 u.1 u.2.1 u.2.2.1 u.2.2.2.1 u.2.2.2.2.1 u.2.2.2.2.2.1 u.2.2.2.2.2.2.1 u.2.2.2.2.2.2.2.1 u.2.2.2.2.2.2.2.2.1 u.2.2.2.2.2.2.2.2.2.1 u.2.2.2.2.2.2.2.2.2.2.1 u.2.2.2.2.2.2.2.2.2.2.2.1 u.2.2.2.2.2.2.2.2.2.2.2.2.1 u.2.2.2.2.2.2.2.2.2.2.2.2.2.1 u.2.2.2.2.2.2.2.2.2.2.2.2.2.2.1 u.2.2.2.2.2.2.2.2.2.2.2.2.2.2.2.1 u.2.2.2.2.2.2.2.2.2.2.2.2.2.2.2.2.1 u.2.2.2.2.2.2.2.2.2.2.2.2.2.2.2.2.2.1 u.2.2.2.2.2.2.2.2.2.2.2.2.2.2.2.2.2.2
theorem ye_typing_168 {post : Int32 → SY → Prop} {J14 : Int32 → SY → Prop} {x2 : Int32} {x3 : Int32} {x4 : Int32} {x5 : Int32} {x6 : Int32} {u : SY} : yv_typing_168 post J14 x2 x3 x4 x5 x6 u = (((0 ≤ x5 → (∀ x4_48 : Int32, x4_48 = x4 + 1 → ((J14 x4_48 u)))) ∧ (¬ 0 ≤ x5 → (wpY_find (fun r_49 => (post x5 (ys_blame r_49 u))) u x6)))) := rfl
def yv_typing_80 (post : Int32 → SY → Prop) (J14 : Int32 → SY → Prop) (x2 : Int32) (x3 : Int32) (x4 : Int32) (n : Nat) (x5 : Int32) (x6 : Int32) (x7 : Int32) (u : SY) : Prop := wY_typing_80 post (fun x4' f_nodeLimit' f_weightLimit' f_fuelLimit' f_entryLimit' f_count' f_defs' f_ticks' f_blame' f_outLen' f_mark' a_mem' a_dep' a_ty' a_aux' a_body' a_claim' a_type' n_mem' n_dep' => J14 x4' (f_nodeLimit', f_weightLimit', f_fuelLimit', f_entryLimit', f_count', f_defs', f_ticks', f_blame', f_outLen', f_mark', a_mem', a_dep', a_ty', a_aux', a_body', a_claim', a_type', n_mem', n_dep')) x2 x3 x4 n x5 x6 x7 u.1 u.2.1 u.2.2.1 u.2.2.2.1 u.2.2.2.2.1 u.2.2.2.2.2.1 u.2.2.2.2.2.2.1 u.2.2.2.2.2.2.2.1 u.2.2.2.2.2.2.2.2.1 u.2.2.2.2.2.2.2.2.2.1 u.2.2.2.2.2.2.2.2.2.2.1 u.2.2.2.2.2.2.2.2.2.2.2.1 u.2.2.2.2.2.2.2.2.2.2.2.2.1 u.2.2.2.2.2.2.2.2.2.2.2.2.2.1 u.2.2.2.2.2.2.2.2.2.2.2.2.2.2.1 u.2.2.2.2.2.2.2.2.2.2.2.2.2.2.2.1 u.2.2.2.2.2.2.2.2.2.2.2.2.2.2.2.2.1 u.2.2.2.2.2.2.2.2.2.2.2.2.2.2.2.2.2.1 u.2.2.2.2.2.2.2.2.2.2.2.2.2.2.2.2.2.2
theorem ye_typing_80 {post : Int32 → SY → Prop} {J14 : Int32 → SY → Prop} {x2 : Int32} {x3 : Int32} {x4 : Int32} {n : Nat} {x5 : Int32} {x6 : Int32} {x7 : Int32} {u : SY} : yv_typing_80 post J14 x2 x3 x4 (n + 1) x5 x6 x7 u = (((x7 < x2 → ((yv_typing_168 post J14 x2 x3 x4 x5 x6 u))) ∧ (¬ x7 < x2 → (((x5 < 0 → ((yv_typing_168 post J14 x2 x3 x4 x5 x6 u))) ∧ (¬ x5 < 0 → (wpY_end (fun r_70 => (((r_70 = (x4 + 1) → (wpY_finish (fun r_91 u_92 => (vp_in (x7 - x2) 120 ∧ ∀ a_ty_112 : Nat → Int32, a_ty_112 = upd (yg_ty u_92) (x7 - x2).toNatClampNeg r_91 → (((r_91 < 0 → (∀ x7_114 : Int32, x7_114 = x7 + (-1) → ((yv_typing_80 post J14 x2 x3 x4 n r_91 x7 x7_114 (ys_ty a_ty_112 u_92))))) ∧ (¬ r_91 < 0 → (((x7 ≤ x2 → (∀ x7_116 : Int32, x7_116 = x7 + (-1) → ((yv_typing_80 post J14 x2 x3 x4 n r_91 x7 x7_116 (ys_ty a_ty_112 u_92))))) ∧ (¬ x7 ≤ x2 → (wpY_parent (fun r_117 => (wpY_afterChild (fun r_137 u_138 => (∀ x7_157 : Int32, x7_157 = x7 + (-1) → ((yv_typing_80 post J14 x2 x3 x4 n r_137 r_117 x7_157 u_138)))) (ys_ty a_ty_112 u_92) x2 r_117 x7)) (ys_ty a_ty_112 u_92) x2 x7))))))))) u x2 x7)) ∧ (¬ r_70 = (x4 + 1) → (∀ x7_158 : Int32, x7_158 = x7 + (-1) → ((yv_typing_80 post J14 x2 x3 x4 n x5 x6 x7_158 u))))))) u x7))))))) := rfl
def yv_typing_53 (post : Int32 → SY → Prop) (J14 : Int32 → SY → Prop) (x2 : Int32) (x3 : Int32) (x4 : Int32) (z0 : Int32) (u : SY) : Prop := wY_typing_53 post (fun x4' f_nodeLimit' f_weightLimit' f_fuelLimit' f_entryLimit' f_count' f_defs' f_ticks' f_blame' f_outLen' f_mark' a_mem' a_dep' a_ty' a_aux' a_body' a_claim' a_type' n_mem' n_dep' => J14 x4' (f_nodeLimit', f_weightLimit', f_fuelLimit', f_entryLimit', f_count', f_defs', f_ticks', f_blame', f_outLen', f_mark', a_mem', a_dep', a_ty', a_aux', a_body', a_claim', a_type', n_mem', n_dep')) x2 x3 x4 z0 u.1 u.2.1 u.2.2.1 u.2.2.2.1 u.2.2.2.2.1 u.2.2.2.2.2.1 u.2.2.2.2.2.2.1 u.2.2.2.2.2.2.2.1 u.2.2.2.2.2.2.2.2.1 u.2.2.2.2.2.2.2.2.2.1 u.2.2.2.2.2.2.2.2.2.2.1 u.2.2.2.2.2.2.2.2.2.2.2.1 u.2.2.2.2.2.2.2.2.2.2.2.2.1 u.2.2.2.2.2.2.2.2.2.2.2.2.2.1 u.2.2.2.2.2.2.2.2.2.2.2.2.2.2.1 u.2.2.2.2.2.2.2.2.2.2.2.2.2.2.2.1 u.2.2.2.2.2.2.2.2.2.2.2.2.2.2.2.2.1 u.2.2.2.2.2.2.2.2.2.2.2.2.2.2.2.2.2.1 u.2.2.2.2.2.2.2.2.2.2.2.2.2.2.2.2.2.2
theorem ye_typing_53 {post : Int32 → SY → Prop} {J14 : Int32 → SY → Prop} {x2 : Int32} {x3 : Int32} {x4 : Int32} {z0 : Int32} {u : SY} : yv_typing_53 post J14 x2 x3 x4 z0 u = (((z0 = (-4) → (∃ n80 : Nat, (yv_typing_80 post J14 x2 x3 x4 n80 z0 x4 x4 u))) ∧ (¬ z0 = (-4) → (∀ f_ticks_159 : Int32, f_ticks_159 = (yg_ticks u) + 1 → (∃ n80 : Nat, (yv_typing_80 post J14 x2 x3 x4 n80 z0 x4 x4 (ys_ticks f_ticks_159 u))))))) := rfl
def yv_typing_14 (post : Int32 → SY → Prop) (x2 : Int32) (x3 : Int32) (n : Nat) (x4 : Int32) (u : SY) : Prop := wY_typing_14 post x2 x3 n x4 u.1 u.2.1 u.2.2.1 u.2.2.2.1 u.2.2.2.2.1 u.2.2.2.2.2.1 u.2.2.2.2.2.2.1 u.2.2.2.2.2.2.2.1 u.2.2.2.2.2.2.2.2.1 u.2.2.2.2.2.2.2.2.2.1 u.2.2.2.2.2.2.2.2.2.2.1 u.2.2.2.2.2.2.2.2.2.2.2.1 u.2.2.2.2.2.2.2.2.2.2.2.2.1 u.2.2.2.2.2.2.2.2.2.2.2.2.2.1 u.2.2.2.2.2.2.2.2.2.2.2.2.2.2.1 u.2.2.2.2.2.2.2.2.2.2.2.2.2.2.2.1 u.2.2.2.2.2.2.2.2.2.2.2.2.2.2.2.2.1 u.2.2.2.2.2.2.2.2.2.2.2.2.2.2.2.2.2.1 u.2.2.2.2.2.2.2.2.2.2.2.2.2.2.2.2.2.2
theorem ye_typing_14 {post : Int32 → SY → Prop} {x2 : Int32} {x3 : Int32} {n : Nat} {x4 : Int32} {u : SY} : yv_typing_14 post x2 x3 (n + 1) x4 u = (((x3 ≤ x4 → (post ((yg_ty u) 0) u)) ∧ (¬ x3 ≤ x4 → ((((yg_ticks u) = (yg_fuelLimit u) → ((yv_typing_53 post ((yv_typing_14 post x2 x3 n)) x2 x3 x4 (-4) u))) ∧ (¬ (yg_ticks u) = (yg_fuelLimit u) → (wpY_kind (fun r_24 => (((r_24 = 11 → ((yv_typing_53 post ((yv_typing_14 post x2 x3 n)) x2 x3 x4 (-6) u))) ∧ (¬ r_24 = 11 → ((yv_typing_53 post ((yv_typing_14 post x2 x3 n)) x2 x3 x4 1 u)))))) u x4))))))) := rfl
theorem ye_typing {post : Int32 → SY → Prop} {u : SY} {p0 : Int32} : wpY_typing post u p0 = (∀ x2_1 : Int32, x2_1 = p0 * 120 → (wpY_end (fun r_2 => (∃ n14 : Nat, (yv_typing_14 post x2_1 r_2 n14 x2_1 u))) u x2_1)) := rfl
theorem ye_start {post : SY → Prop} {u : SY} : wpY_start post u = (post (ys_ticks_blame_mark 0 (-13) (yg_count u) u)) := rfl
theorem ye_normNode {post : Int32 → SY → Prop} {u : SY} {p0 : Int32} : wpY_normNode post u p0 = (wpY_normErased (fun r_1 u_2 => (((0 ≤ r_1 → (post r_1 u_2)) ∧ (¬ 0 ≤ r_1 → (post r_1 (ys_blame p0 u_2)))))) u (p0 * 120)) := rfl
def yv_claimed_25 (post : Int32 → SY → Prop) (x1 : Int32) (x2 : Int32) (u : SY) : Prop := wY_claimed_25 post x1 x2 u.1 u.2.1 u.2.2.1 u.2.2.2.1 u.2.2.2.2.1 u.2.2.2.2.2.1 u.2.2.2.2.2.2.1 u.2.2.2.2.2.2.2.1 u.2.2.2.2.2.2.2.2.1 u.2.2.2.2.2.2.2.2.2.1 u.2.2.2.2.2.2.2.2.2.2.1 u.2.2.2.2.2.2.2.2.2.2.2.1 u.2.2.2.2.2.2.2.2.2.2.2.2.1 u.2.2.2.2.2.2.2.2.2.2.2.2.2.1 u.2.2.2.2.2.2.2.2.2.2.2.2.2.2.1 u.2.2.2.2.2.2.2.2.2.2.2.2.2.2.2.1 u.2.2.2.2.2.2.2.2.2.2.2.2.2.2.2.2.1 u.2.2.2.2.2.2.2.2.2.2.2.2.2.2.2.2.2.1 u.2.2.2.2.2.2.2.2.2.2.2.2.2.2.2.2.2.2
theorem ye_claimed_25 {post : Int32 → SY → Prop} {x1 : Int32} {x2 : Int32} {u : SY} : yv_claimed_25 post x1 x2 u = (((x2 ≤ 1 → (((0 ≤ x2 → (wpY_normNode (fun r_25 u_26 => (post r_25 u_26)) u x1)) ∧ (¬ 0 ≤ x2 → (post x2 u))))) ∧ (¬ x2 ≤ 1 → (post (-7) u)))) := rfl
def yv_claimed_14 (post : Int32 → SY → Prop) (x1 : Int32) (z0 : Int32) (u : SY) : Prop := wY_claimed_14 post x1 z0 u.1 u.2.1 u.2.2.1 u.2.2.2.1 u.2.2.2.2.1 u.2.2.2.2.2.1 u.2.2.2.2.2.2.1 u.2.2.2.2.2.2.2.1 u.2.2.2.2.2.2.2.2.1 u.2.2.2.2.2.2.2.2.2.1 u.2.2.2.2.2.2.2.2.2.2.1 u.2.2.2.2.2.2.2.2.2.2.2.1 u.2.2.2.2.2.2.2.2.2.2.2.2.1 u.2.2.2.2.2.2.2.2.2.2.2.2.2.1 u.2.2.2.2.2.2.2.2.2.2.2.2.2.2.1 u.2.2.2.2.2.2.2.2.2.2.2.2.2.2.2.1 u.2.2.2.2.2.2.2.2.2.2.2.2.2.2.2.2.1 u.2.2.2.2.2.2.2.2.2.2.2.2.2.2.2.2.2.1 u.2.2.2.2.2.2.2.2.2.2.2.2.2.2.2.2.2.2
theorem ye_claimed_14 {post : Int32 → SY → Prop} {x1 : Int32} {z0 : Int32} {u : SY} : yv_claimed_14 post x1 z0 u = (((z0 ≤ 1 → ((yv_claimed_25 post x1 z0 u))) ∧ (¬ z0 ≤ 1 → ((yv_claimed_25 post x1 z0 (ys_blame x1 u)))))) := rfl
theorem ye_claimed {post : Int32 → SY → Prop} {u : SY} {p0 : Int32} : wpY_claimed post u p0 = (((p0 = 1 → ((yv_claimed_14 post p0 0 u))) ∧ (¬ p0 = 1 → (wpY_typing (fun r_2 u_3 => ((yv_claimed_14 post p0 r_2 u_3))) u p0)))) := rfl
def yv_judged_19 (post : Int32 → SY → Prop) (x1 : Int32) (x3 : Int32) (z0 : Int32) (u : SY) : Prop := wY_judged_19 post x1 x3 z0 u.1 u.2.1 u.2.2.1 u.2.2.2.1 u.2.2.2.2.1 u.2.2.2.2.2.1 u.2.2.2.2.2.2.1 u.2.2.2.2.2.2.2.1 u.2.2.2.2.2.2.2.2.1 u.2.2.2.2.2.2.2.2.2.1 u.2.2.2.2.2.2.2.2.2.2.1 u.2.2.2.2.2.2.2.2.2.2.2.1 u.2.2.2.2.2.2.2.2.2.2.2.2.1 u.2.2.2.2.2.2.2.2.2.2.2.2.2.1 u.2.2.2.2.2.2.2.2.2.2.2.2.2.2.1 u.2.2.2.2.2.2.2.2.2.2.2.2.2.2.2.1 u.2.2.2.2.2.2.2.2.2.2.2.2.2.2.2.2.1 u.2.2.2.2.2.2.2.2.2.2.2.2.2.2.2.2.2.1 u.2.2.2.2.2.2.2.2.2.2.2.2.2.2.2.2.2.2
theorem ye_judged_19 {post : Int32 → SY → Prop} {x1 : Int32} {x3 : Int32} {z0 : Int32} {u : SY} : yv_judged_19 post x1 x3 z0 u = (((z0 < 0 → (post z0 u)) ∧ (¬ z0 < 0 → (((z0 = x3 → (post z0 u)) ∧ (¬ z0 = x3 → (post (-9) (ys_blame x1 u)))))))) := rfl
theorem ye_judged {post : Int32 → SY → Prop} {u : SY} {p0 : Int32} {p1 : Int32} : wpY_judged post u p0 p1 = (wpY_claimed (fun r_1 u_2 => (((0 ≤ r_1 → (wpY_typing (fun r_22 u_23 => ((yv_judged_19 post p0 r_1 r_22 u_23))) u_2 p0)) ∧ (¬ 0 ≤ r_1 → ((yv_judged_19 post p0 r_1 r_1 u_2)))))) u p1) := rfl
def yv_keep_17 (post : Int32 → SY → Prop) (x1 : Int32) (u : SY) : Prop := wY_keep_17 post x1 u.1 u.2.1 u.2.2.1 u.2.2.2.1 u.2.2.2.2.1 u.2.2.2.2.2.1 u.2.2.2.2.2.2.1 u.2.2.2.2.2.2.2.1 u.2.2.2.2.2.2.2.2.1 u.2.2.2.2.2.2.2.2.2.1 u.2.2.2.2.2.2.2.2.2.2.1 u.2.2.2.2.2.2.2.2.2.2.2.1 u.2.2.2.2.2.2.2.2.2.2.2.2.1 u.2.2.2.2.2.2.2.2.2.2.2.2.2.1 u.2.2.2.2.2.2.2.2.2.2.2.2.2.2.1 u.2.2.2.2.2.2.2.2.2.2.2.2.2.2.2.1 u.2.2.2.2.2.2.2.2.2.2.2.2.2.2.2.2.1 u.2.2.2.2.2.2.2.2.2.2.2.2.2.2.2.2.2.1 u.2.2.2.2.2.2.2.2.2.2.2.2.2.2.2.2.2.2
theorem ye_keep_17 {post : Int32 → SY → Prop} {x1 : Int32} {u : SY} : yv_keep_17 post x1 u = (((0 ≤ x1 → (wpY_enter (fun r_3 u_4 => (post r_3 u_4)) (ys_count (yg_mark u) u))) ∧ (¬ 0 ≤ x1 → (post x1 (ys_count (yg_mark u) u))))) := rfl
theorem ye_keep {post : Int32 → SY → Prop} {u : SY} {p0 : Int32} : wpY_keep post u p0 = (((p0 < 0 → ((yv_keep_17 post p0 (ys_outLen 0 u)))) ∧ (¬ p0 < 0 → (wpY_term (fun u_24 => ((yv_keep_17 post p0 u_24))) (ys_outLen 0 u) (p0 * 120))))) := rfl
def yv_entry_36 (post : Int32 → SY → Prop) (x1 : Int32) (x2 : Int32) (z0 : Int32) (u : SY) : Prop := wY_entry_36 post x1 x2 z0 u.1 u.2.1 u.2.2.1 u.2.2.2.1 u.2.2.2.2.1 u.2.2.2.2.2.1 u.2.2.2.2.2.2.1 u.2.2.2.2.2.2.2.1 u.2.2.2.2.2.2.2.2.1 u.2.2.2.2.2.2.2.2.2.1 u.2.2.2.2.2.2.2.2.2.2.1 u.2.2.2.2.2.2.2.2.2.2.2.1 u.2.2.2.2.2.2.2.2.2.2.2.2.1 u.2.2.2.2.2.2.2.2.2.2.2.2.2.1 u.2.2.2.2.2.2.2.2.2.2.2.2.2.2.1 u.2.2.2.2.2.2.2.2.2.2.2.2.2.2.2.1 u.2.2.2.2.2.2.2.2.2.2.2.2.2.2.2.2.1 u.2.2.2.2.2.2.2.2.2.2.2.2.2.2.2.2.2.1 u.2.2.2.2.2.2.2.2.2.2.2.2.2.2.2.2.2.2
theorem ye_entry_36 {post : Int32 → SY → Prop} {x1 : Int32} {x2 : Int32} {z0 : Int32} {u : SY} : yv_entry_36 post x1 x2 z0 u = (wpY_keep (fun r_43 u_44 => (((0 ≤ r_43 → (vp_in (yg_defs u_44) 16 ∧ ∀ a_body_65 : Nat → Int32, a_body_65 = upd (yg_body u_44) (yg_defs u_44).toNatClampNeg x1 → (vp_in (yg_defs u_44) 16 ∧ ∀ a_claim_67 : Nat → Int32, a_claim_67 = upd (yg_claim u_44) (yg_defs u_44).toNatClampNeg x2 → (vp_in (yg_defs u_44) 16 ∧ ∀ a_type_69 : Nat → Int32, a_type_69 = upd (yg_type u_44) (yg_defs u_44).toNatClampNeg r_43 → (∀ f_defs_70 : Int32, f_defs_70 = (yg_defs u_44) + 1 → (post (f_defs_70 - 1) (ys_defs_body_claim_type f_defs_70 a_body_65 a_claim_67 a_type_69 u_44))))))) ∧ (¬ 0 ≤ r_43 → (post r_43 u_44))))) u z0) := rfl
theorem ye_entry {post : Int32 → SY → Prop} {u : SY} {p0 : Int32} {p1 : Int32} : wpY_entry post u p0 p1 = ((((yg_defs u) = (yg_entryLimit u) → (post (-10) u)) ∧ (¬ (yg_defs u) = (yg_entryLimit u) → (wpY_start (fun u_3 => (((0 ≤ p0 → (wpY_judged (fun r_23 u_24 => ((yv_entry_36 post p0 p1 r_23 u_24))) u_3 p0 p1)) ∧ (¬ 0 ≤ p0 → (wpY_claimed (fun r_71 u_72 => ((yv_entry_36 post p0 p1 r_71 u_72))) u_3 p1))))) u)))) := rfl
def yv_make_126 (post : Int32 → SY → Prop) (u : SY) : Prop := wY_make_126 post u.1 u.2.1 u.2.2.1 u.2.2.2.1 u.2.2.2.2.1 u.2.2.2.2.2.1 u.2.2.2.2.2.2.1 u.2.2.2.2.2.2.2.1 u.2.2.2.2.2.2.2.2.1 u.2.2.2.2.2.2.2.2.2.1 u.2.2.2.2.2.2.2.2.2.2.1 u.2.2.2.2.2.2.2.2.2.2.2.1 u.2.2.2.2.2.2.2.2.2.2.2.2.1 u.2.2.2.2.2.2.2.2.2.2.2.2.2.1 u.2.2.2.2.2.2.2.2.2.2.2.2.2.2.1 u.2.2.2.2.2.2.2.2.2.2.2.2.2.2.2.1 u.2.2.2.2.2.2.2.2.2.2.2.2.2.2.2.2.1 u.2.2.2.2.2.2.2.2.2.2.2.2.2.2.2.2.2.1 u.2.2.2.2.2.2.2.2.2.2.2.2.2.2.2.2.2.2
theorem ye_make_126 {post : Int32 → SY → Prop} {u : SY} : yv_make_126 post u = (wpY_enter (fun r_47 u_48 => (post r_47 u_48)) u) := rfl
def yv_make_102 (post : Int32 → SY → Prop) (x5 : Int32) (x6 : Int32) (x7 : Int32) (u : SY) : Prop := wY_make_102 post x5 x6 x7 u.1 u.2.1 u.2.2.1 u.2.2.2.1 u.2.2.2.2.1 u.2.2.2.2.2.1 u.2.2.2.2.2.2.1 u.2.2.2.2.2.2.2.1 u.2.2.2.2.2.2.2.2.1 u.2.2.2.2.2.2.2.2.2.1 u.2.2.2.2.2.2.2.2.2.2.1 u.2.2.2.2.2.2.2.2.2.2.2.1 u.2.2.2.2.2.2.2.2.2.2.2.2.1 u.2.2.2.2.2.2.2.2.2.2.2.2.2.1 u.2.2.2.2.2.2.2.2.2.2.2.2.2.2.1 u.2.2.2.2.2.2.2.2.2.2.2.2.2.2.2.1 u.2.2.2.2.2.2.2.2.2.2.2.2.2.2.2.2.1 u.2.2.2.2.2.2.2.2.2.2.2.2.2.2.2.2.2.1 u.2.2.2.2.2.2.2.2.2.2.2.2.2.2.2.2.2.2
theorem ye_make_102 {post : Int32 → SY → Prop} {x5 : Int32} {x6 : Int32} {x7 : Int32} {u : SY} : yv_make_102 post x5 x6 x7 u = (((x7 ≤ 2 → ((yv_make_126 post u))) ∧ (¬ x7 ≤ 2 → (wpY_term (fun u_68 => (wpY_term (fun u_88 => ((yv_make_126 post u_88))) u_68 (x6 * 120))) u (x5 * 120))))) := rfl
def yv_make_87 (post : Int32 → SY → Prop) (x4 : Int32) (x5 : Int32) (x6 : Int32) (x7 : Int32) (u : SY) : Prop := wY_make_87 post x4 x5 x6 x7 u.1 u.2.1 u.2.2.1 u.2.2.2.1 u.2.2.2.2.1 u.2.2.2.2.2.1 u.2.2.2.2.2.2.1 u.2.2.2.2.2.2.2.1 u.2.2.2.2.2.2.2.2.1 u.2.2.2.2.2.2.2.2.2.1 u.2.2.2.2.2.2.2.2.2.2.1 u.2.2.2.2.2.2.2.2.2.2.2.1 u.2.2.2.2.2.2.2.2.2.2.2.2.1 u.2.2.2.2.2.2.2.2.2.2.2.2.2.1 u.2.2.2.2.2.2.2.2.2.2.2.2.2.2.1 u.2.2.2.2.2.2.2.2.2.2.2.2.2.2.2.1 u.2.2.2.2.2.2.2.2.2.2.2.2.2.2.2.2.1 u.2.2.2.2.2.2.2.2.2.2.2.2.2.2.2.2.2.1 u.2.2.2.2.2.2.2.2.2.2.2.2.2.2.2.2.2.2
theorem ye_make_87 {post : Int32 → SY → Prop} {x4 : Int32} {x5 : Int32} {x6 : Int32} {x7 : Int32} {u : SY} : yv_make_87 post x4 x5 x6 x7 u = (((x7 ≤ 1 → ((yv_make_102 post x5 x6 x7 u))) ∧ (¬ x7 ≤ 1 → (wpY_term (fun u_108 => ((yv_make_102 post x5 x6 x7 u_108))) u (x4 * 120))))) := rfl
def yv_make_74 (post : Int32 → SY → Prop) (x3 : Int32) (x4 : Int32) (x5 : Int32) (x6 : Int32) (x7 : Int32) (u : SY) : Prop := wY_make_74 post x3 x4 x5 x6 x7 u.1 u.2.1 u.2.2.1 u.2.2.2.1 u.2.2.2.2.1 u.2.2.2.2.2.1 u.2.2.2.2.2.2.1 u.2.2.2.2.2.2.2.1 u.2.2.2.2.2.2.2.2.1 u.2.2.2.2.2.2.2.2.2.1 u.2.2.2.2.2.2.2.2.2.2.1 u.2.2.2.2.2.2.2.2.2.2.2.1 u.2.2.2.2.2.2.2.2.2.2.2.2.1 u.2.2.2.2.2.2.2.2.2.2.2.2.2.1 u.2.2.2.2.2.2.2.2.2.2.2.2.2.2.1 u.2.2.2.2.2.2.2.2.2.2.2.2.2.2.2.1 u.2.2.2.2.2.2.2.2.2.2.2.2.2.2.2.2.1 u.2.2.2.2.2.2.2.2.2.2.2.2.2.2.2.2.2.1 u.2.2.2.2.2.2.2.2.2.2.2.2.2.2.2.2.2.2
theorem ye_make_74 {post : Int32 → SY → Prop} {x3 : Int32} {x4 : Int32} {x5 : Int32} {x6 : Int32} {x7 : Int32} {u : SY} : yv_make_74 post x3 x4 x5 x6 x7 u = (((x7 ≤ 0 → ((yv_make_87 post x4 x5 x6 x7 u))) ∧ (¬ x7 ≤ 0 → (wpY_term (fun u_128 => ((yv_make_87 post x4 x5 x6 x7 u_128))) u (x3 * 120))))) := rfl
def yv_make_48 (post : Int32 → SY → Prop) (x3 : Int32) (x4 : Int32) (x5 : Int32) (x6 : Int32) (x7 : Int32) (u : SY) : Prop := wY_make_48 post x3 x4 x5 x6 x7 u.1 u.2.1 u.2.2.1 u.2.2.2.1 u.2.2.2.2.1 u.2.2.2.2.2.1 u.2.2.2.2.2.2.1 u.2.2.2.2.2.2.2.1 u.2.2.2.2.2.2.2.2.1 u.2.2.2.2.2.2.2.2.2.1 u.2.2.2.2.2.2.2.2.2.2.1 u.2.2.2.2.2.2.2.2.2.2.2.1 u.2.2.2.2.2.2.2.2.2.2.2.2.1 u.2.2.2.2.2.2.2.2.2.2.2.2.2.1 u.2.2.2.2.2.2.2.2.2.2.2.2.2.2.1 u.2.2.2.2.2.2.2.2.2.2.2.2.2.2.2.1 u.2.2.2.2.2.2.2.2.2.2.2.2.2.2.2.2.1 u.2.2.2.2.2.2.2.2.2.2.2.2.2.2.2.2.2.1 u.2.2.2.2.2.2.2.2.2.2.2.2.2.2.2.2.2.2
theorem ye_make_48 {post : Int32 → SY → Prop} {x3 : Int32} {x4 : Int32} {x5 : Int32} {x6 : Int32} {x7 : Int32} {u : SY} : yv_make_48 post x3 x4 x5 x6 x7 u = (((x7 ≤ 2 → ((yv_make_74 post x3 x4 x5 x6 x7 u))) ∧ (¬ x7 ≤ 2 → (wpY_bad (fun r_147 => (((r_147 = 0 → (wpY_bad (fun r_168 => (((r_168 = 0 → ((yv_make_74 post x3 x4 x5 x6 x7 u))) ∧ (¬ r_168 = 0 → (post (-1) u))))) u x6)) ∧ (¬ r_147 = 0 → (post (-1) u))))) u x5)))) := rfl
def yv_make_33 (post : Int32 → SY → Prop) (x3 : Int32) (x4 : Int32) (x5 : Int32) (x6 : Int32) (x7 : Int32) (u : SY) : Prop := wY_make_33 post x3 x4 x5 x6 x7 u.1 u.2.1 u.2.2.1 u.2.2.2.1 u.2.2.2.2.1 u.2.2.2.2.2.1 u.2.2.2.2.2.2.1 u.2.2.2.2.2.2.2.1 u.2.2.2.2.2.2.2.2.1 u.2.2.2.2.2.2.2.2.2.1 u.2.2.2.2.2.2.2.2.2.2.1 u.2.2.2.2.2.2.2.2.2.2.2.1 u.2.2.2.2.2.2.2.2.2.2.2.2.1 u.2.2.2.2.2.2.2.2.2.2.2.2.2.1 u.2.2.2.2.2.2.2.2.2.2.2.2.2.2.1 u.2.2.2.2.2.2.2.2.2.2.2.2.2.2.2.1 u.2.2.2.2.2.2.2.2.2.2.2.2.2.2.2.2.1 u.2.2.2.2.2.2.2.2.2.2.2.2.2.2.2.2.2.1 u.2.2.2.2.2.2.2.2.2.2.2.2.2.2.2.2.2.2
theorem ye_make_33 {post : Int32 → SY → Prop} {x3 : Int32} {x4 : Int32} {x5 : Int32} {x6 : Int32} {x7 : Int32} {u : SY} : yv_make_33 post x3 x4 x5 x6 x7 u = (((x7 ≤ 1 → ((yv_make_48 post x3 x4 x5 x6 x7 u))) ∧ (¬ x7 ≤ 1 → (wpY_bad (fun r_189 => (((r_189 = 0 → ((yv_make_48 post x3 x4 x5 x6 x7 u))) ∧ (¬ r_189 = 0 → (post (-1) u))))) u x4)))) := rfl
theorem ye_make {post : Int32 → SY → Prop} {u : SY} {p0 : Int32} {p1 : Int32} {p2 : Int32} {p3 : Int32} {p4 : Int32} {p5 : Int32} : wpY_make post u p0 p1 p2 p3 p4 p5 = (wpY_put (fun u_2 => (wpY_arity (fun r_21 => (((r_21 ≤ 0 → ((yv_make_33 post p2 p3 p4 p5 r_21 u_2))) ∧ (¬ r_21 ≤ 0 → (wpY_bad (fun r_210 => (((r_210 = 0 → ((yv_make_33 post p2 p3 p4 p5 r_21 u_2))) ∧ (¬ r_210 = 0 → (post (-1) u_2))))) u_2 p2))))) u_2 30960)) (ys_outLen 0 u) p0 p1) := rfl
theorem ye_var {post : Int32 → SY → Prop} {u : SY} {p0 : Int32} : wpY_var post u p0 = (((p0 < 0 → (post (-2) u)) ∧ (¬ p0 < 0 → (((p0 ≤ 31 → (wpY_make (fun r_3 u_4 => (post r_3 u_4)) u 5 p0 0 0 0 0)) ∧ (¬ p0 ≤ 31 → (post (-2) u))))))) := rfl
theorem ye_suc {post : Int32 → SY → Prop} {u : SY} {p0 : Int32} : wpY_suc post u p0 = (wpY_make (fun r_1 u_2 => (post r_1 u_2)) u 4 0 p0 0 0 0) := rfl
theorem ye_pi {post : Int32 → SY → Prop} {u : SY} {p0 : Int32} {p1 : Int32} : wpY_pi post u p0 p1 = (wpY_make (fun r_1 u_2 => (post r_1 u_2)) u 6 0 p0 p1 0 0) := rfl
theorem ye_lam {post : Int32 → SY → Prop} {u : SY} {p0 : Int32} {p1 : Int32} : wpY_lam post u p0 p1 = (wpY_make (fun r_1 u_2 => (post r_1 u_2)) u 7 0 p0 p1 0 0) := rfl
theorem ye_app {post : Int32 → SY → Prop} {u : SY} {p0 : Int32} {p1 : Int32} : wpY_app post u p0 p1 = (wpY_make (fun r_1 u_2 => (post r_1 u_2)) u 8 0 p0 p1 0 0) := rfl
theorem ye_rec {post : Int32 → SY → Prop} {u : SY} {p0 : Int32} {p1 : Int32} {p2 : Int32} {p3 : Int32} : wpY_rec post u p0 p1 p2 p3 = (wpY_make (fun r_1 u_2 => (post r_1 u_2)) u 9 0 p0 p1 p2 p3) := rfl
theorem ye_def {post : Int32 → SY → Prop} {u : SY} {p0 : Int32} : wpY_def post u p0 = (((p0 < 0 → (post (-2) u)) ∧ (¬ p0 < 0 → (((p0 < (yg_defs u) → (wpY_make (fun r_3 u_4 => (post r_3 u_4)) u 10 p0 0 0 0 0)) ∧ (¬ p0 < (yg_defs u) → (post (-2) u))))))) := rfl
theorem ye_infer {post : Int32 → SY → Prop} {u : SY} {p0 : Int32} : wpY_infer post u p0 = (wpY_bad (fun r_1 => (((r_1 = 0 → (wpY_start (fun u_23 => (wpY_typing (fun r_42 u_43 => (wpY_keep (fun r_62 u_63 => (post r_62 u_63)) u_43 r_42)) u_23 p0)) u)) ∧ (¬ r_1 = 0 → (post (-1) u))))) u p0) := rfl
theorem ye_check {post : Int32 → SY → Prop} {u : SY} {p0 : Int32} {p1 : Int32} : wpY_check post u p0 p1 = (wpY_bad (fun r_1 => (((r_1 = 0 → (wpY_bad (fun r_22 => (((r_22 = 0 → (wpY_start (fun u_44 => (wpY_judged (fun r_63 u_64 => (((0 ≤ r_63 → (post 1 (ys_count (yg_mark u_64) u_64))) ∧ (¬ 0 ≤ r_63 → (post r_63 (ys_count (yg_mark u_64) u_64)))))) u_44 p0 p1)) u)) ∧ (¬ r_22 = 0 → (post (-1) u))))) u p1)) ∧ (¬ r_1 = 0 → (post (-1) u))))) u p0) := rfl
theorem ye_define {post : Int32 → SY → Prop} {u : SY} {p0 : Int32} {p1 : Int32} : wpY_define post u p0 p1 = (wpY_bad (fun r_1 => (((r_1 = 0 → (wpY_bad (fun r_22 => (((r_22 = 0 → (wpY_entry (fun r_43 u_44 => (post r_43 u_44)) u p0 p1)) ∧ (¬ r_22 = 0 → (post (-1) u))))) u p1)) ∧ (¬ r_1 = 0 → (post (-1) u))))) u p0) := rfl
theorem ye_postulate {post : Int32 → SY → Prop} {u : SY} {p0 : Int32} : wpY_postulate post u p0 = (wpY_bad (fun r_1 => (((r_1 = 0 → (wpY_entry (fun r_22 u_23 => (post r_22 u_23)) u (-13) p0)) ∧ (¬ r_1 = 0 → (post (-1) u))))) u p0) := rfl
theorem ye_normal {post : Int32 → SY → Prop} {u : SY} {p0 : Int32} : wpY_normal post u p0 = (wpY_bad (fun r_1 => (((r_1 = 0 → (wpY_start (fun u_23 => (wpY_normNode (fun r_42 u_43 => (wpY_keep (fun r_62 u_63 => (post r_62 u_63)) u_43 r_42)) u_23 p0)) u)) ∧ (¬ r_1 = 0 → (post (-1) u))))) u p0) := rfl
def yv_equal_41 (post : Int32 → SY → Prop) (x3 : Int32) (z0 : Int32) (u : SY) : Prop := wY_equal_41 post x3 z0 u.1 u.2.1 u.2.2.1 u.2.2.2.1 u.2.2.2.2.1 u.2.2.2.2.2.1 u.2.2.2.2.2.2.1 u.2.2.2.2.2.2.2.1 u.2.2.2.2.2.2.2.2.1 u.2.2.2.2.2.2.2.2.2.1 u.2.2.2.2.2.2.2.2.2.2.1 u.2.2.2.2.2.2.2.2.2.2.2.1 u.2.2.2.2.2.2.2.2.2.2.2.2.1 u.2.2.2.2.2.2.2.2.2.2.2.2.2.1 u.2.2.2.2.2.2.2.2.2.2.2.2.2.2.1 u.2.2.2.2.2.2.2.2.2.2.2.2.2.2.2.1 u.2.2.2.2.2.2.2.2.2.2.2.2.2.2.2.2.1 u.2.2.2.2.2.2.2.2.2.2.2.2.2.2.2.2.2.1 u.2.2.2.2.2.2.2.2.2.2.2.2.2.2.2.2.2.2
theorem ye_equal_41 {post : Int32 → SY → Prop} {x3 : Int32} {z0 : Int32} {u : SY} : yv_equal_41 post x3 z0 u = (((0 ≤ z0 → (((x3 = z0 → (post 1 (ys_count (yg_mark u) u))) ∧ (¬ x3 = z0 → (post 0 (ys_count (yg_mark u) u)))))) ∧ (¬ 0 ≤ z0 → (post z0 (ys_count (yg_mark u) u))))) := rfl
theorem ye_equal {post : Int32 → SY → Prop} {u : SY} {p0 : Int32} {p1 : Int32} : wpY_equal post u p0 p1 = (wpY_bad (fun r_1 => (((r_1 = 0 → (wpY_bad (fun r_22 => (((r_22 = 0 → (wpY_start (fun u_44 => (wpY_normNode (fun r_63 u_64 => (((0 ≤ r_63 → (wpY_normNode (fun r_84 u_85 => ((yv_equal_41 post r_63 r_84 u_85))) u_64 p1)) ∧ (¬ 0 ≤ r_63 → ((yv_equal_41 post r_63 r_63 u_64)))))) u_44 p0)) u)) ∧ (¬ r_22 = 0 → (post (-1) u))))) u p1)) ∧ (¬ r_1 = 0 → (post (-1) u))))) u p0) := rfl
def yv_before_5 (post : Int32 → SY → Prop) (x1 : Int32) (x2 : Int32) (n : Nat) (x3 : Int32) (x4 : Int32) (u : SY) : Prop := wY_before_5 post x1 x2 n x3 x4 u.1 u.2.1 u.2.2.1 u.2.2.2.1 u.2.2.2.2.1 u.2.2.2.2.2.1 u.2.2.2.2.2.2.1 u.2.2.2.2.2.2.2.1 u.2.2.2.2.2.2.2.2.1 u.2.2.2.2.2.2.2.2.2.1 u.2.2.2.2.2.2.2.2.2.2.1 u.2.2.2.2.2.2.2.2.2.2.2.1 u.2.2.2.2.2.2.2.2.2.2.2.2.1 u.2.2.2.2.2.2.2.2.2.2.2.2.2.1 u.2.2.2.2.2.2.2.2.2.2.2.2.2.2.1 u.2.2.2.2.2.2.2.2.2.2.2.2.2.2.2.1 u.2.2.2.2.2.2.2.2.2.2.2.2.2.2.2.2.1 u.2.2.2.2.2.2.2.2.2.2.2.2.2.2.2.2.2.1 u.2.2.2.2.2.2.2.2.2.2.2.2.2.2.2.2.2.2
theorem ye_before_5 {post : Int32 → SY → Prop} {x1 : Int32} {x2 : Int32} {n : Nat} {x3 : Int32} {x4 : Int32} {u : SY} : yv_before_5 post x1 x2 (n + 1) x3 x4 u = (((x2 ≤ x4 → (post x3 u)) ∧ (¬ x2 ≤ x4 → (wpY_rule (fun r_2 u_3 => (((r_2 ≤ 0 → (∀ x4_23 : Int32, x4_23 = x4 + 1 → ((yv_before_5 post x1 x2 n x3 x4_23 u_3)))) ∧ (¬ r_2 ≤ 0 → (((5 ≤ r_2 → (∀ x4_25 : Int32, x4_25 = x4 + 1 → ((yv_before_5 post x1 x2 n x3 x4_25 u_3)))) ∧ (¬ 5 ≤ r_2 → (∀ x3_26 : Int32, x3_26 = x3 + 1 → (∀ x4_27 : Int32, x4_27 = x4 + 1 → ((yv_before_5 post x1 x2 n x3_26 x4_27 u_3))))))))))) u ((x1 * 120) + x4))))) := rfl
theorem ye_before {post : Int32 → SY → Prop} {u : SY} {p0 : Int32} {p1 : Int32} : wpY_before post u p0 p1 = (∃ n5 : Nat, (yv_before_5 post p0 p1 n5 0 0 u)) := rfl
theorem ye_weight {post : Int32 → Prop} {u : SY} {p0 : Int32} : wpY_weight post u p0 = (wpY_bad (fun r_1 => (((r_1 = 0 → (wpY_end (fun r_22 => (post (r_22 - (p0 * 120)))) u (p0 * 120))) ∧ (¬ r_1 = 0 → (post (-1)))))) u p0) := rfl
theorem ye_redexes {post : Int32 → SY → Prop} {u : SY} {p0 : Int32} : wpY_redexes post u p0 = (wpY_bad (fun r_1 => (((r_1 = 0 → (wpY_weight (fun r_22 => (wpY_before (fun r_42 u_43 => (post r_42 u_43)) u p0 r_22)) u p0)) ∧ (¬ r_1 = 0 → (post (-1) u))))) u p0) := rfl
def yv_reduce_22 (post : Int32 → SY → Prop) (x3 : Int32) (u : SY) : Prop := wY_reduce_22 post x3 u.1 u.2.1 u.2.2.1 u.2.2.2.1 u.2.2.2.2.1 u.2.2.2.2.2.1 u.2.2.2.2.2.2.1 u.2.2.2.2.2.2.2.1 u.2.2.2.2.2.2.2.2.1 u.2.2.2.2.2.2.2.2.2.1 u.2.2.2.2.2.2.2.2.2.2.1 u.2.2.2.2.2.2.2.2.2.2.2.1 u.2.2.2.2.2.2.2.2.2.2.2.2.1 u.2.2.2.2.2.2.2.2.2.2.2.2.2.1 u.2.2.2.2.2.2.2.2.2.2.2.2.2.2.1 u.2.2.2.2.2.2.2.2.2.2.2.2.2.2.2.1 u.2.2.2.2.2.2.2.2.2.2.2.2.2.2.2.2.1 u.2.2.2.2.2.2.2.2.2.2.2.2.2.2.2.2.2.1 u.2.2.2.2.2.2.2.2.2.2.2.2.2.2.2.2.2.2
theorem ye_reduce_22 {post : Int32 → SY → Prop} {x3 : Int32} {u : SY} : yv_reduce_22 post x3 u = (((0 ≤ x3 → (post (-2) u)) ∧ (¬ 0 ≤ x3 → (post x3 u)))) := rfl
def yv_reduce_59 (post : Int32 → SY → Prop) (x1 : Int32) (x4 : Int32) (u : SY) : Prop := wY_reduce_59 post x1 x4 u.1 u.2.1 u.2.2.1 u.2.2.2.1 u.2.2.2.2.1 u.2.2.2.2.2.1 u.2.2.2.2.2.2.1 u.2.2.2.2.2.2.2.1 u.2.2.2.2.2.2.2.2.1 u.2.2.2.2.2.2.2.2.2.1 u.2.2.2.2.2.2.2.2.2.2.1 u.2.2.2.2.2.2.2.2.2.2.2.1 u.2.2.2.2.2.2.2.2.2.2.2.2.1 u.2.2.2.2.2.2.2.2.2.2.2.2.2.1 u.2.2.2.2.2.2.2.2.2.2.2.2.2.2.1 u.2.2.2.2.2.2.2.2.2.2.2.2.2.2.2.1 u.2.2.2.2.2.2.2.2.2.2.2.2.2.2.2.2.1 u.2.2.2.2.2.2.2.2.2.2.2.2.2.2.2.2.2.1 u.2.2.2.2.2.2.2.2.2.2.2.2.2.2.2.2.2.2
theorem ye_reduce_59 {post : Int32 → SY → Prop} {x1 : Int32} {x4 : Int32} {u : SY} : yv_reduce_59 post x1 x4 u = (wpY_replace (fun u_27 => (wpY_enter (fun r_46 u_47 => (((0 ≤ r_46 → (post r_46 u_47)) ∧ (¬ 0 ≤ r_46 → (post r_46 (ys_count (yg_mark u_47) u_47)))))) u_27)) (ys_mark (yg_count u) u) (x1 * 120) ((x1 * 120) + x4) 0) := rfl
def yv_reduce_33 (post : Int32 → SY → Prop) (x1 : Int32) (x2 : Int32) (n : Nat) (x4 : Int32) (u : SY) : Prop := wY_reduce_33 post x1 x2 n x4 u.1 u.2.1 u.2.2.1 u.2.2.2.1 u.2.2.2.2.1 u.2.2.2.2.2.1 u.2.2.2.2.2.2.1 u.2.2.2.2.2.2.2.1 u.2.2.2.2.2.2.2.2.1 u.2.2.2.2.2.2.2.2.2.1 u.2.2.2.2.2.2.2.2.2.2.1 u.2.2.2.2.2.2.2.2.2.2.2.1 u.2.2.2.2.2.2.2.2.2.2.2.2.1 u.2.2.2.2.2.2.2.2.2.2.2.2.2.1 u.2.2.2.2.2.2.2.2.2.2.2.2.2.2.1 u.2.2.2.2.2.2.2.2.2.2.2.2.2.2.2.1 u.2.2.2.2.2.2.2.2.2.2.2.2.2.2.2.2.1 u.2.2.2.2.2.2.2.2.2.2.2.2.2.2.2.2.2.1 u.2.2.2.2.2.2.2.2.2.2.2.2.2.2.2.2.2.2
theorem ye_reduce_33 {post : Int32 → SY → Prop} {x1 : Int32} {x2 : Int32} {n : Nat} {x4 : Int32} {u : SY} : yv_reduce_33 post x1 x2 (n + 1) x4 u = (((119 ≤ x4 → ((yv_reduce_59 post x1 x4 u))) ∧ (¬ 119 ≤ x4 → (wpY_before (fun r_67 u_68 => (((x2 < r_67 → ((yv_reduce_59 post x1 x4 u_68))) ∧ (¬ x2 < r_67 → (∀ x4_88 : Int32, x4_88 = x4 + 1 → ((yv_reduce_33 post x1 x2 n x4_88 u_68))))))) u x1 (x4 + 1))))) := rfl
theorem ye_reduce {post : Int32 → SY → Prop} {u : SY} {p0 : Int32} {p1 : Int32} : wpY_reduce post u p0 p1 = (wpY_redexes (fun r_1 u_2 => (((r_1 < 0 → ((yv_reduce_22 post r_1 u_2))) ∧ (¬ r_1 < 0 → (((p1 < 0 → ((yv_reduce_22 post r_1 u_2))) ∧ (¬ p1 < 0 → (((p1 < r_1 → (∃ n33 : Nat, (yv_reduce_33 post p0 p1 n33 0 u_2))) ∧ (¬ p1 < r_1 → ((yv_reduce_22 post r_1 u_2)))))))))))) u p0) := rfl
def yv_release_18 (post : Int32 → SY → Prop) (x1 : Int32) (n : Nat) (x2 : Int32) (u : SY) : Prop := wY_release_18 post x1 u.1 u.2.1 u.2.2.1 u.2.2.2.1 u.2.2.2.2.1 u.2.2.2.2.2.1 u.2.2.2.2.2.2.1 u.2.2.2.2.2.2.2.1 u.2.2.2.2.2.2.2.2.1 u.2.2.2.2.2.2.2.2.2.1 u.2.2.2.2.2.2.2.2.2.2.1 u.2.2.2.2.2.2.2.2.2.2.2.1 u.2.2.2.2.2.2.2.2.2.2.2.2.1 u.2.2.2.2.2.2.2.2.2.2.2.2.2.1 u.2.2.2.2.2.2.2.2.2.2.2.2.2.2.1 u.2.2.2.2.2.2.2.2.2.2.2.2.2.2.2.1 u.2.2.2.2.2.2.2.2.2.2.2.2.2.2.2.2.1 u.2.2.2.2.2.2.2.2.2.2.2.2.2.2.2.2.2.1 u.2.2.2.2.2.2.2.2.2.2.2.2.2.2.2.2.2.2 n x2
theorem ye_release_18 {post : Int32 → SY → Prop} {x1 : Int32} {n : Nat} {x2 : Int32} {u : SY} : yv_release_18 post x1 (n + 1) x2 u = ((((yg_defs u) ≤ x2 → (post 1 (ys_count_blame x1 (-13) u))) ∧ (¬ (yg_defs u) ≤ x2 → (vp_in x2 16 ∧ (((x1 ≤ ((yg_body u) x2.toNatClampNeg) → (post (-12) u)) ∧ (¬ x1 ≤ ((yg_body u) x2.toNatClampNeg) → (vp_in x2 16 ∧ (((x1 ≤ ((yg_claim u) x2.toNatClampNeg) → (post (-12) u)) ∧ (¬ x1 ≤ ((yg_claim u) x2.toNatClampNeg) → (vp_in x2 16 ∧ (((((yg_type u) x2.toNatClampNeg) < x1 → (∀ x2_10 : Int32, x2_10 = x2 + 1 → ((yv_release_18 post x1 n x2_10 u)))) ∧ (¬ ((yg_type u) x2.toNatClampNeg) < x1 → (post (-12) u)))))))))))))))) := rfl
theorem ye_release {post : Int32 → SY → Prop} {u : SY} {p0 : Int32} : wpY_release post u p0 = (((p0 < 4 → (post (-2) u)) ∧ (¬ p0 < 4 → (((p0 ≤ (yg_count u) → (∃ n18 : Nat, (yv_release_18 post p0 n18 0 u))) ∧ (¬ p0 ≤ (yg_count u) → (post (-2) u))))))) := rfl
theorem ye_kindOf {post : Int32 → Prop} {u : SY} {p0 : Int32} : wpY_kindOf post u p0 = (wpY_bad (fun r_1 => (((r_1 = 0 → (wpY_kind (fun r_22 => (post r_22)) u (p0 * 120))) ∧ (¬ r_1 = 0 → (post (-1)))))) u p0) := rfl
def yv_field_48 (post : Int32 → Prop) (x1 : Int32) (x2 : Int32) (u : SY) : Prop := wY_field_48 post x1 x2 u.1 u.2.1 u.2.2.1 u.2.2.2.1 u.2.2.2.2.1 u.2.2.2.2.2.1 u.2.2.2.2.2.2.1 u.2.2.2.2.2.2.2.1 u.2.2.2.2.2.2.2.2.1 u.2.2.2.2.2.2.2.2.2.1 u.2.2.2.2.2.2.2.2.2.2.1 u.2.2.2.2.2.2.2.2.2.2.2.1 u.2.2.2.2.2.2.2.2.2.2.2.2.1 u.2.2.2.2.2.2.2.2.2.2.2.2.2.1 u.2.2.2.2.2.2.2.2.2.2.2.2.2.2.1 u.2.2.2.2.2.2.2.2.2.2.2.2.2.2.2.1 u.2.2.2.2.2.2.2.2.2.2.2.2.2.2.2.2.1 u.2.2.2.2.2.2.2.2.2.2.2.2.2.2.2.2.2.1 u.2.2.2.2.2.2.2.2.2.2.2.2.2.2.2.2.2.2
theorem ye_field_48 {post : Int32 → Prop} {x1 : Int32} {x2 : Int32} {u : SY} : yv_field_48 post x1 x2 u = (((x2 < 0 → (post (-2))) ∧ (¬ x2 < 0 → (wpY_arity (fun r_44 => (((x2 < r_44 → (wpY_child (fun r_65 => (wpY_find (fun r_85 => (post r_85)) u r_65)) u (x1 * 120) x2)) ∧ (¬ x2 < r_44 → (post (-2)))))) u (x1 * 120))))) := rfl
def yv_field_39 (post : Int32 → Prop) (x1 : Int32) (u : SY) : Prop := wY_field_39 post x1 u.1 u.2.1 u.2.2.1 u.2.2.2.1 u.2.2.2.2.1 u.2.2.2.2.2.1 u.2.2.2.2.2.2.1 u.2.2.2.2.2.2.2.1 u.2.2.2.2.2.2.2.2.1 u.2.2.2.2.2.2.2.2.2.1 u.2.2.2.2.2.2.2.2.2.2.1 u.2.2.2.2.2.2.2.2.2.2.2.1 u.2.2.2.2.2.2.2.2.2.2.2.2.1 u.2.2.2.2.2.2.2.2.2.2.2.2.2.1 u.2.2.2.2.2.2.2.2.2.2.2.2.2.2.1 u.2.2.2.2.2.2.2.2.2.2.2.2.2.2.2.1 u.2.2.2.2.2.2.2.2.2.2.2.2.2.2.2.2.1 u.2.2.2.2.2.2.2.2.2.2.2.2.2.2.2.2.2.1 u.2.2.2.2.2.2.2.2.2.2.2.2.2.2.2.2.2.2
theorem ye_field_39 {post : Int32 → Prop} {x1 : Int32} {u : SY} : yv_field_39 post x1 u = (wpY_val (fun r_106 => (post r_106)) u (x1 * 120)) := rfl
theorem ye_field {post : Int32 → Prop} {u : SY} {p0 : Int32} {p1 : Int32} : wpY_field post u p0 p1 = (wpY_bad (fun r_1 => (((r_1 = 0 → (wpY_kind (fun r_22 => (((p1 = 0 → (((r_22 = 1 → ((yv_field_39 post p0 u))) ∧ (¬ r_22 = 1 → (((r_22 = 5 → ((yv_field_39 post p0 u))) ∧ (¬ r_22 = 5 → (((r_22 = 10 → ((yv_field_39 post p0 u))) ∧ (¬ r_22 = 10 → ((yv_field_48 post p0 p1 u)))))))))))) ∧ (¬ p1 = 0 → ((yv_field_48 post p0 p1 u)))))) u (p0 * 120))) ∧ (¬ r_1 = 0 → (post (-1)))))) u p0) := rfl
def yv_value_37 (post : Int32 → Prop) (x1 : Int32) (x2 : Int32) (u : SY) : Prop := wY_value_37 post x1 x2 u.1 u.2.1 u.2.2.1 u.2.2.2.1 u.2.2.2.2.1 u.2.2.2.2.2.1 u.2.2.2.2.2.2.1 u.2.2.2.2.2.2.2.1 u.2.2.2.2.2.2.2.2.1 u.2.2.2.2.2.2.2.2.2.1 u.2.2.2.2.2.2.2.2.2.2.1 u.2.2.2.2.2.2.2.2.2.2.2.1 u.2.2.2.2.2.2.2.2.2.2.2.2.1 u.2.2.2.2.2.2.2.2.2.2.2.2.2.1 u.2.2.2.2.2.2.2.2.2.2.2.2.2.2.1 u.2.2.2.2.2.2.2.2.2.2.2.2.2.2.2.1 u.2.2.2.2.2.2.2.2.2.2.2.2.2.2.2.2.1 u.2.2.2.2.2.2.2.2.2.2.2.2.2.2.2.2.2.1 u.2.2.2.2.2.2.2.2.2.2.2.2.2.2.2.2.2.2
theorem ye_value_37 {post : Int32 → Prop} {x1 : Int32} {x2 : Int32} {u : SY} : yv_value_37 post x1 x2 u = (wpY_kind (fun r_24 => (((r_24 = 3 → (post (x2 - (x1 * 120)))) ∧ (¬ r_24 = 3 → (post (-13)))))) u x2) := rfl
def yv_value_15 (post : Int32 → Prop) (x1 : Int32) (n : Nat) (x2 : Int32) (u : SY) : Prop := wY_value_15 post x1 u.1 u.2.1 u.2.2.1 u.2.2.2.1 u.2.2.2.2.1 u.2.2.2.2.2.1 u.2.2.2.2.2.2.1 u.2.2.2.2.2.2.2.1 u.2.2.2.2.2.2.2.2.1 u.2.2.2.2.2.2.2.2.2.1 u.2.2.2.2.2.2.2.2.2.2.1 u.2.2.2.2.2.2.2.2.2.2.2.1 u.2.2.2.2.2.2.2.2.2.2.2.2.1 u.2.2.2.2.2.2.2.2.2.2.2.2.2.1 u.2.2.2.2.2.2.2.2.2.2.2.2.2.2.1 u.2.2.2.2.2.2.2.2.2.2.2.2.2.2.2.1 u.2.2.2.2.2.2.2.2.2.2.2.2.2.2.2.2.1 u.2.2.2.2.2.2.2.2.2.2.2.2.2.2.2.2.2.1 u.2.2.2.2.2.2.2.2.2.2.2.2.2.2.2.2.2.2 n x2
theorem ye_value_15 {post : Int32 → Prop} {x1 : Int32} {n : Nat} {x2 : Int32} {u : SY} : yv_value_15 post x1 (n + 1) x2 u = (((30960 ≤ x2 → ((yv_value_37 post x1 x2 u))) ∧ (¬ 30960 ≤ x2 → (wpY_kind (fun r_45 => (((r_45 = 4 → (∀ x2_66 : Int32, x2_66 = x2 + 1 → ((yv_value_15 post x1 n x2_66 u)))) ∧ (¬ r_45 = 4 → ((yv_value_37 post x1 x2 u)))))) u x2)))) := rfl
theorem ye_value {post : Int32 → Prop} {u : SY} {p0 : Int32} : wpY_value post u p0 = (wpY_bad (fun r_1 => (((r_1 = 0 → (∀ x2_22 : Int32, x2_22 = p0 * 120 → (∃ n15 : Nat, (yv_value_15 post p0 n15 x2_22 u)))) ∧ (¬ r_1 = 0 → (post (-1)))))) u p0) := rfl
theorem ye_isFree {post : Int32 → SY → Prop} {u : SY} {p0 : Int32} {p1 : Int32} : wpY_isFree post u p0 p1 = (wpY_bad (fun r_1 => (((r_1 = 0 → (((p1 < 0 → (post 0 u)) ∧ (¬ p1 < 0 → (wpY_occurs (fun r_23 u_24 => (((r_23 = 0 → (post 0 u_24)) ∧ (¬ r_23 = 0 → (post 1 u_24))))) u (p0 * 120) p1))))) ∧ (¬ r_1 = 0 → (post 0 u))))) u p0) := rfl
theorem ye_nodes {post : Int32 → Prop} {u : SY} : wpY_nodes post u = (post (yg_count u)) := rfl
theorem ye_definitions {post : Int32 → Prop} {u : SY} : wpY_definitions post u = (post (yg_defs u)) := rfl
theorem ye_bodyOf {post : Int32 → Prop} {u : SY} {p0 : Int32} : wpY_bodyOf post u p0 = (((p0 < 0 → (post (-2))) ∧ (¬ p0 < 0 → (((p0 < (yg_defs u) → (vp_in p0 16 ∧ (post ((yg_body u) p0.toNatClampNeg)))) ∧ (¬ p0 < (yg_defs u) → (post (-2)))))))) := rfl
theorem ye_claimOf {post : Int32 → Prop} {u : SY} {p0 : Int32} : wpY_claimOf post u p0 = (((p0 < 0 → (post (-2))) ∧ (¬ p0 < 0 → (((p0 < (yg_defs u) → (vp_in p0 16 ∧ (post ((yg_claim u) p0.toNatClampNeg)))) ∧ (¬ p0 < (yg_defs u) → (post (-2)))))))) := rfl
theorem ye_ticks {post : Int32 → Prop} {u : SY} : wpY_ticks post u = (post (yg_ticks u)) := rfl
theorem ye_blame {post : Int32 → Prop} {u : SY} : wpY_blame post u = (post (yg_blame u)) := rfl
theorem ye_limit {post : Int32 → Prop} {u : SY} {p0 : Int32} : wpY_limit post u p0 = (((p0 = 0 → (post (yg_nodeLimit u))) ∧ (¬ p0 = 0 → (((p0 = 1 → (post (yg_weightLimit u))) ∧ (¬ p0 = 1 → (((p0 = 2 → (post (yg_fuelLimit u))) ∧ (¬ p0 = 2 → (((p0 = 3 → (post (yg_entryLimit u))) ∧ (¬ p0 = 3 → (post (-2)))))))))))))) := rfl
end
section
/-! the globals: node, weight, fuel, entry limits, number of entries, their arrays -/
abbrev dk_G : Type := Nat × Nat × Nat × Nat × Nat × (Nat → Int32) × (Nat → Int32) × (Nat → Int32)
def ga_NL (g : dk_G) : Nat := g.1
def ga_WL (g : dk_G) : Nat := g.2.1
def ga_FL (g : dk_G) : Nat := g.2.2.1
def ga_EL (g : dk_G) : Nat := g.2.2.2.1
def ga_ne (g : dk_G) : Nat := g.2.2.2.2.1
def ga_eb (g : dk_G) : Nat → Int32 := g.2.2.2.2.2.1
def ga_ec (g : dk_G) : Nat → Int32 := g.2.2.2.2.2.2.1
def ga_et (g : dk_G) : Nat → Int32 := g.2.2.2.2.2.2.2
def ga_ok (g : dk_G) : Prop := 16 ≤ ga_NL g ∧ ga_NL g ≤ 256 ∧ 8 ≤ ga_WL g ∧ ga_WL g ≤ 120 ∧ 8 ≤ ga_FL g ∧ ga_FL g ≤ 200 ∧ 1 ≤ ga_EL g ∧ ga_EL g ≤ 16 ∧ ga_ne g ≤ ga_EL g
def dk_kk (k : Int32) : Prop := k = 1 ∨ k = 2 ∨ k = 3 ∨ k = 4 ∨ k = 5 ∨ k = 6 ∨ k = 7 ∨ k = 8 ∨ k = 9 ∨ k = 10 ∨ k = 11
def dk_ok (ne : Nat) (t : dk_T) : Prop := dk_kk t.1 ∧ (0 < dk_ar t.1 → t.2 = 0) ∧ (t.1 = 10 → ∃ j, j < ne ∧ t.2 = nI j)
def dk_gd (ne : Nat) (S : List dk_T) : Prop := dk_fo S 1 ∧ ∀ t ∈ S, dk_ok ne t
/-- kind k and parts pt stand for the term S over the arena A -/
def px_N (A : List (List dk_T)) (k : Int32) (pt : Nat → Int32) (S : List dk_T) : Prop :=
  ∃ cs : List (List dk_T), S = (k, if dk_ar k = 0 then pt 0 else 0) :: cs.flatten ∧ cs.length = dk_ar k ∧ (∀ j c, cs[j]? = some c → dk_fo c 1 ∧ ∃ i, A[i]? = some c ∧ pt j = nI i) ∧ (∀ j, j < 4 → 1 ≤ j → dk_ar k ≤ j → pt j = 0)
/-! the picture of X's state -/
def px_G (g : dk_G) (u : SX) : Prop := xg_nodeLimit u = nI (ga_NL g) ∧ xg_weightLimit u = nI (ga_WL g) ∧ xg_fuelLimit u = nI (ga_FL g) ∧ xg_entryLimit u = nI (ga_EL g) ∧ xg_entryCount u = nI (ga_ne g) ∧ xg_entryBody u = ga_eb g ∧ xg_entryClaim u = ga_ec g ∧ xg_entryType u = ga_et g
def px_A (A : List (List dk_T)) (u : SX) : Prop := xg_count u = nI A.length ∧ ∀ i S, A[i]? = some S → px_N A (xg_kind u i) (fun j => xg_part u (4 * i + j)) S ∧ xg_heavy u i = nI S.length
abbrev dk_M : Type := Nat × Nat × Int32
def px_M (M : dk_M) (u : SX) : Prop := xg_base u = nI M.1 ∧ xg_tickCount u = nI M.2.1 ∧ xg_blameNode u = M.2.2
abbrev dk_F : Type := Int32 × Int32 × Int32 × (Nat → Int32) × (Nat → Int32) × (Nat → Int32) × (Nat → Int32)
def px_F (F : dk_F) (u : SX) : Prop := xg_frameTop u = F.1 ∧ xg_answer u = F.2.1 ∧ xg_contextLen u = F.2.2.1 ∧ xg_frameNode u = F.2.2.2.1 ∧ xg_frameStep u = F.2.2.2.2.1 ∧ xg_frameKeep u = F.2.2.2.2.2.1 ∧ xg_context u = F.2.2.2.2.2.2
def dk_cd (T : List dk_T) : List (dk_T × Int32) := T.zip ((dk_dp T [0]).map nI)
def px_C (T : List dk_T) (u : SX) : Prop := xg_curLen u = nI T.length ∧ T.length ≤ 256 ∧ dk_sg (fun i => ((xg_curKind u i, xg_curVal u i), xg_curDepth u i)) 0 (dk_cd T) ∧ (T = [] ∨ dk_fo T 1)
def px_O (cap : Nat) (O : List dk_T) (u : SX) : Prop := cap ≤ 256 ∧ xg_outCap u = nI cap ∧ xg_outLen u = nI (min O.length cap) ∧ xg_outOver u = (if O.length ≤ cap then 0 else 1) ∧ dk_sg (fun i => (xg_outKind u i, xg_outVal u i)) 0 (O.take cap)
def px_R (g : dk_G) (A : List (List dk_T)) (M : dk_M) (F : dk_F) (T : List dk_T) (cap : Nat) (O : List dk_T) (u : SX) : Prop := px_G g u ∧ px_A A u ∧ px_M M u ∧ px_F F u ∧ px_C T u ∧ px_O cap O u
/-! small helps -/
theorem ni_need {a b : Nat} (h : 0 < a) : nI a - 1 + nI b = nI (a - 1 + b) := by
  obtain ⟨c, rfl⟩ : ∃ c, a = c + 1 := ⟨a - 1, by omega⟩
  rw [nI_pred, nI_add]; rfl
theorem ni_m1 {a : Nat} (h : 0 < a) : nI a + (-1) = nI (a - 1) := by
  obtain ⟨c, rfl⟩ : ∃ c, a = c + 1 := ⟨a - 1, by omega⟩
  rw [pk_m1]; rfl
theorem ni_s1 {a : Nat} (h : 0 < a) : nI a - 1 = nI (a - 1) := by
  obtain ⟨c, rfl⟩ : ∃ c, a = c + 1 := ⟨a - 1, by omega⟩
  rw [nI_pred]; rfl
theorem dk_at {α : Type} {pre suf : List α} {x : α} : (pre ++ x :: suf)[pre.length]? = some x := by simp
theorem dk_at0 {α : Type} {a b c : List α} {x : α} : (a ++ (x :: b) ++ c) = (a ++ [x]) ++ b ++ c := by simp
/-! X: reading the term at work -/
theorem dk_cd_len {T : List dk_T} (h : T = [] ∨ dk_fo T 1) : (dk_cd T).length = T.length := by
  unfold dk_cd
  rcases h with h | h
  · rw [h]; rfl
  · simp [dk_dp_len (st := [0]) h]
theorem pc_rd {T : List dk_T} {u : SX} {i : Nat} {k v d : Int32} (h : px_C T u) (hi : (dk_cd T)[i]? = some ((k, v), d)) : xg_curKind u i = k ∧ xg_curVal u i = v ∧ xg_curDepth u i = d ∧ i < 256 := by
  obtain ⟨h1, h2, h3, h4⟩ := h
  obtain ⟨hl, e⟩ := List.getElem?_eq_some_iff.mp hi
  have e2 := dk_sg_get h3 hl
  rw [e, Nat.zero_add] at e2
  rw [dk_cd_len h4] at hl
  exact ⟨congrArg (fun p => p.1.1) e2, congrArg (fun p => p.1.2) e2, congrArg (fun p => p.2) e2, by omega⟩
theorem dk_cd_ex {T : List dk_T} {i : Nat} {t : dk_T} (h : T = [] ∨ dk_fo T 1) (hi : T[i]? = some t) : ∃ d, (dk_cd T)[i]? = some (t, d) := by
  have hl : i < T.length := (List.getElem?_eq_some_iff.mp hi).1
  have h1 : dk_fo T 1 := by
    rcases h with h | h
    · subst h; simp at hl
    · exact h
  have h2 : i < ((dk_dp T [0]).map nI).length := by rw [List.length_map, dk_dp_len (st := [0]) h1]; exact hl
  exact ⟨_, List.getElem?_zip_eq_some.mpr ⟨hi, List.getElem?_eq_getElem h2⟩⟩
theorem pc_g {T : List dk_T} {u : SX} {i : Nat} {t : dk_T} (h : px_C T u) (hi : T[i]? = some t) : xg_curKind u i = t.1 ∧ xg_curVal u i = t.2 ∧ i < T.length ∧ T.length ≤ 256 := by
  obtain ⟨d, hd⟩ := dk_cd_ex h.2.2.2 hi
  obtain ⟨a, b, _, _⟩ := pc_rd (k := t.1) (v := t.2) h hd
  exact ⟨a, b, (List.getElem?_eq_some_iff.mp hi).1, h.2.1⟩
theorem pc_at {pre suf : List dk_T} {t : dk_T} {u : SX} (h : px_C (pre ++ t :: suf) u) : xg_curKind u pre.length = t.1 ∧ xg_curVal u pre.length = t.2 ∧ pre.length < 256 ∧ xg_curLen u = nI (pre.length + (suf.length + 1)) ∧ pre.length + (suf.length + 1) ≤ 256 := by
  obtain ⟨a, b, c, d⟩ := pc_g h dk_at
  have h3 := h.1
  have h4 := h.2.1
  simp at h3 h4 c
  exact ⟨a, b, by omega, h3, h4⟩
/-- a subterm with its depths -/
theorem dk_cd_sub {pre S suf : List dk_T} (h : dk_fo (pre ++ S ++ suf) 1) (hS : dk_fo S 1) : ∃ (d0 : Nat) (x y : List (dk_T × Int32)), dk_cd (pre ++ S ++ suf) = x ++ (dk_z S).map (fun p => (p.1, nI (p.2 + d0))) ++ y ∧ x.length = pre.length := by
  obtain ⟨d0, x, y, e, hx⟩ := dk_dp_sub h hS
  refine ⟨d0, pre.zip (x.map nI), suf.zip (y.map nI), ?_, by simp [hx]⟩
  unfold dk_cd
  rw [e, List.map_append, List.map_append]
  rw [List.zip_append (by simp [dk_dp_len (st := [0]) hS, hx]), List.zip_append (by simp [hx])]
  congr 2
  unfold dk_z
  rw [List.map_map, List.zip_map_right]
  rfl
theorem dk_z_head {S : List dk_T} (h : dk_fo S 1) : ∃ t l, dk_z S = (t, 0) :: l := by
  obtain ⟨t, l, rfl, _⟩ := dk_fo_pos (n := 0) h
  exact ⟨t, _, rfl⟩
theorem ni_rel (r d : Nat) : nI (r + d) - nI d = nI r := by
  rw [← nI_add, Int32.add_sub_cancel]
end
section
/-! X: arity, skip, emit and the scans that write -/
theorem dk_ar0 {k : Int32} (h : k < 4 ∨ 11 < k ∨ k = 5 ∨ k = 10) : dk_ar k = 0 := by
  unfold dk_ar dk_kd
  rw [if_neg, if_neg, if_neg, if_neg, if_neg, if_neg]
  · rfl
  all_goals (rintro rfl; exact absurd h (by decide))
theorem xl_arity {post : Int32 → Prop} {u : SX} {k : Int32} (h : post (nI (dk_ar k))) : wpX_arity post u k := by
  rw [xe_arity]
  refine br_c (fun a => ?_) fun _ => br_c (fun a => ?_) fun _ => br_c (fun a => ?_) fun _ => br_c (fun a => ?_) fun _ => br_c (fun a => ?_) fun _ => br_c (fun a => ?_) fun _ => br_c (fun a => ?_) fun _ => br_c (fun a => ?_) fun _ => br_c (fun a => ?_) fun _ => br_c (fun a => ?_) fun _ => trivial
  · rw [dk_ar0 (Or.inl a)] at h; exact h
  · rw [dk_ar0 (Or.inr (Or.inl a))] at h; exact h
  · rw [a, show dk_ar 4 = 1 from by decide] at h; exact h
  · rw [dk_ar0 (Or.inr (Or.inr (Or.inl a)))] at h; exact h
  · rw [a, show dk_ar 6 = 2 from by decide] at h; exact h
  · rw [a, show dk_ar 7 = 2 from by decide] at h; exact h
  · rw [a, show dk_ar 8 = 2 from by decide] at h; exact h
  · rw [a, show dk_ar 9 = 4 from by decide] at h; exact h
  · rw [dk_ar0 (Or.inr (Or.inr (Or.inr a)))] at h; exact h
  · rw [a, show dk_ar 11 = 1 from by decide] at h; exact h
theorem xl_skip_7 {post : Int32 → Prop} {u : SX} : ∀ {l pre suf : List dk_T} {n m : Nat}, px_C (pre ++ l ++ suf) u → dk_fo l m → l.length < n → post (nI (pre.length + l.length)) → xv_skip_7 post n (nI m) (nI pre.length) (nI pre.length) u := by
  intro l
  induction l with
  | nil =>
    intro pre suf n m hC hl hn hp
    obtain ⟨n, rfl⟩ : ∃ c, n = c + 1 := ⟨n - 1, by simp at hn; omega⟩
    cases hl
    rw [xe_skip_7]
    exact br_c (fun _ => hp) fun _ => br_t (by decide) hp
  | cons t l ih =>
    intro pre suf n m hC hl hn hp
    obtain ⟨n, rfl⟩ : ∃ c, n = c + 1 := ⟨n - 1, by simp at hn; omega⟩
    have hC' := hC
    rw [List.append_assoc] at hC'
    obtain ⟨c1, c2, c3, c4, c5⟩ := pc_at hC'
    have m0 := hl.1
    have hm : m ≤ 256 := by
      have h1 := dk_fo_len hl
      simp at h1 c5; omega
    rw [xe_skip_7, nI_clamp (by omega), c1, c4]
    refine br_f (nI_ge (by omega) (by omega)) (br_f (nI_nle m0 (by omega)) ⟨vp_in_nI c3 (by omega), ?_⟩)
    refine xl_arity ?_
    rw [ni_need m0, nI_1]
    refine nm_e (nm_e (nm_e ?_))
    have e : pre.length + 1 = (pre ++ [t]).length := by simp
    rw [e]
    refine ih (suf := suf) (by rw [← dk_at0]; exact hC) hl.2 (by simpa using hn) ?_
    rw [show (pre ++ [t]).length + l.length = pre.length + (t :: l).length from by simp; omega]
    exact hp
theorem xl_skip {post : Int32 → Prop} {u : SX} {pre S suf : List dk_T} (hC : px_C (pre ++ S ++ suf) u) (hS : dk_fo S 1) (hp : post (nI (pre.length + S.length))) : wpX_skip post u (nI pre.length) := by
  rw [xe_skip]
  exact ⟨_, xl_skip_7 (n := S.length + 1) hC hS (by omega) hp⟩
theorem xl_emit {post : SX → Prop} {g : dk_G} {A : List (List dk_T)} {M : dk_M} {F : dk_F} {T O : List dk_T} {cap : Nat} {u : SX} {k v : Int32} (h : px_R g A M F T cap O u) (hp : ∀ u', xg_pend u' = xg_pend u → px_R g A M F T cap (O ++ [(k, v)]) u' → post u') : wpX_emit post u k v := by
  obtain ⟨hG, hA, hM, hF, hC, o1, o2, o3, o4, o5⟩ := h
  rw [xe_emit, o2, o3]
  by_cases hl : O.length < cap
  · have em : min O.length cap = O.length := by omega
    rw [em] at o3 ⊢
    rw [nI_clamp (by omega)]
    refine br_f (nI_ge hl (by omega)) (br_t (nI_lt (b := 256) (by omega) (by decide)) ⟨vp_in_nI (by omega) (by omega), nm_e ⟨vp_in_nI (by omega) (by omega), nm_e (nm_r (nI_1 _) ?_)⟩⟩)
    refine hp _ rfl ⟨hG, hA, hM, hF, hC, o1, o2, ?_, ?_, ?_⟩
    · show nI (O.length + 1) = nI (min (O ++ [(k, v)]).length cap)
      rw [List.length_append, show min (O.length + [(k, v)].length) cap = O.length + 1 from by simp; omega]
    · show xg_outOver u = _
      rw [o4, if_pos (by omega), if_pos (by simp; omega)]
    · rw [List.take_of_length_le (by simp; omega), dk_sg_app]
      rw [List.take_of_length_le (by omega)] at o5
      constructor
      · refine dk_sg_congr o5 ?_
        intro j _ hj
        show (upd (xg_outKind u) O.length k j, upd (xg_outVal u) O.length v j) = _
        rw [pk_un (by omega), pk_un (by omega)]
      · refine ⟨?_, trivial⟩
        show (upd (xg_outKind u) O.length k (0 + O.length), upd (xg_outVal u) O.length v (0 + O.length)) = _
        rw [Nat.zero_add, pk_us, pk_us]
  · have em : min O.length cap = cap := by omega
    rw [em] at o3 ⊢
    refine br_t (nI_le (Nat.le_refl _) (by omega)) (hp _ rfl ⟨hG, hA, hM, hF, hC, o1, o2, ?_, ?_, ?_⟩)
    · show xg_outLen u = _
      rw [o3, List.length_append, show min (O.length + [(k, v)].length) cap = cap from by simp; omega]
    · show (1 : Int32) = _
      rw [if_neg (by simp; omega)]
    · show dk_sg (fun i => (xg_outKind u i, xg_outVal u i)) 0 _
      rw [List.take_append_of_le_length (by omega)]
      exact o5
theorem xl_begin {post : SX → Prop} {g : dk_G} {A : List (List dk_T)} {M : dk_M} {F : dk_F} {T O : List dk_T} {cap : Nat} {u : SX} {c : Nat} (h : px_R g A M F T cap O u) (hc : c ≤ 256) (hp : ∀ u', px_R g A M F T c [] u' → post u') : wpX_begin post u (nI c) := by
  obtain ⟨hG, hA, hM, hF, hC, _⟩ := h
  rw [xe_begin]
  refine hp _ ⟨hG, hA, hM, hF, hC, hc, rfl, ?_, ?_, ?_⟩
  · show (0 : Int32) = nI (min 0 c); rw [Nat.zero_min]; rfl
  · show (0 : Int32) = _; rw [if_pos (by simp)]
  · rw [List.take_nil]; trivial
section
variable {post : SX → Prop} {g : dk_G} {A : List (List dk_T)} {M : dk_M} {F : dk_F} {T : List dk_T} {cap : Nat}
theorem xl_emitRange_2 : ∀ {l pre suf O : List dk_T} {n : Nat} {u : SX}, T = pre ++ l ++ suf → px_R g A M F T cap O u → l.length < n → (∀ u', px_R g A M F T cap (O ++ l) u' → post u') → xv_emitRange_2 post (nI (pre.length + l.length)) n (nI pre.length) u := by
  intro l
  induction l with
  | nil =>
    intro pre suf O n u e h hn hp
    obtain ⟨n, rfl⟩ : ∃ c, n = c + 1 := ⟨n - 1, by simp at hn; omega⟩
    rw [xe_emitRange_2]
    rw [List.append_nil] at hp
    refine br_t ?_ (hp u h)
    exact Int32.le_refl _
  | cons t l ih =>
    intro pre suf O n u e h hn hp
    obtain ⟨n, rfl⟩ : ∃ c, n = c + 1 := ⟨n - 1, by simp at hn; omega⟩
    have hC := h.2.2.2.2.1
    rw [e, List.append_assoc] at hC
    obtain ⟨c1, c2, c3, c4, c5⟩ := pc_at hC
    simp at c5
    rw [xe_emitRange_2, nI_clamp (by omega), c1, c2]
    refine br_f (nI_ge (by simp; try omega) (by simp; omega)) ⟨vp_in_nI c3 (by omega), vp_in_nI c3 (by omega), ?_⟩
    refine xl_emit h fun u' _ h' => ?_
    rw [nI_1]
    refine nm_e ?_
    have e1 : pre.length + 1 = (pre ++ [t]).length := by simp
    have e2 : pre.length + (t :: l).length = (pre ++ [t]).length + l.length := by simp; omega
    rw [e1, e2]
    refine ih (suf := suf) (O := O ++ [(t.1, t.2)]) (by rw [e, dk_at0]) h' (by simpa using hn) ?_
    intro u'' h''
    rw [List.append_assoc] at h''
    exact hp u'' h''
theorem xl_emitRange {l pre suf O : List dk_T} {u : SX} (e : T = pre ++ l ++ suf) (h : px_R g A M F T cap O u) (hp : ∀ u', px_R g A M F T cap (O ++ l) u' → post u') : wpX_emitRange post u (nI pre.length) (nI (pre.length + l.length)) := by
  rw [xe_emitRange]
  exact ⟨_, xl_emitRange_2 (n := l.length + 1) e h (by omega) hp⟩
theorem xl_emitShifted_3 {b : Int32} {d0 i0 : Nat} {t0 : dk_T} (h0 : (dk_cd T)[i0]? = some (t0, nI d0)) : ∀ {l : List (dk_T × Nat)} {x y : List (dk_T × Int32)} {O : List dk_T} {n : Nat} {u : SX}, dk_cd T = x ++ l.map (fun p => (p.1, nI (p.2 + d0))) ++ y → px_R g A M F T cap O u → l.length < n → (∀ u', px_R g A M F T cap (O ++ l.map (dk_sf b)) u' → post u') → xv_emitShifted_3 post (nI i0) (nI (x.length + l.length)) b n (nI x.length) u := by
  intro l
  induction l with
  | nil =>
    intro x y O n u e h hn hp
    obtain ⟨n, rfl⟩ : ∃ c, n = c + 1 := ⟨n - 1, by simp at hn; omega⟩
    rw [xe_emitShifted_3]
    simp only [List.map_nil, List.append_nil] at hp
    exact br_t (Int32.le_refl _) (hp u h)
  | cons p l ih =>
    intro x y O n u e h hn hp
    obtain ⟨n, rfl⟩ : ∃ c, n = c + 1 := ⟨n - 1, by simp at hn; omega⟩
    have hC := h.2.2.2.2.1
    obtain ⟨⟨k, v⟩, r⟩ := p
    have hx : (dk_cd T)[x.length]? = some ((k, v), nI (r + d0)) := by rw [e]; simp
    obtain ⟨c1, c2, c3, c4⟩ := pc_rd hC hx
    obtain ⟨_, _, z3, z4⟩ := pc_rd (k := t0.1) (v := t0.2) hC h0
    have hlen : x.length + (l.length + 1) ≤ 256 := by
      have h1 := dk_cd_len hC.2.2.2
      have h2 := hC.2.1
      rw [← h1, e] at h2
      simp at h2; omega
    have key : ∀ w : Int32, dk_sf b ((k, v), r) = (k, w) → xv_emitShifted_54 post (xv_emitShifted_3 post (nI i0) (nI (x.length + (((k, v), r) :: l).length)) b n) (nI i0) (nI (x.length + (((k, v), r) :: l).length)) b (nI x.length) w u := by
      intro w hw
      rw [xe_emitShifted_54, nI_clamp (by omega), c1]
      refine ⟨vp_in_nI c4 (by omega), xl_emit h fun u' _ h' => ?_⟩
      rw [nI_1]
      refine nm_e ?_
      have e1 : x.length + 1 = (x ++ [((k, v), nI (r + d0))]).length := by simp
      have e2 : x.length + (((k, v), r) :: l).length = (x ++ [((k, v), nI (r + d0))]).length + l.length := by simp; omega
      rw [e1, e2]
      refine ih (O := O ++ [(k, w)]) (y := y) (by rw [e]; simp) h' (by simpa using hn) ?_
      intro u'' h''
      refine hp u'' ?_
      rw [List.map_cons, hw]
      rw [List.append_assoc] at h''
      exact h''
    rw [xe_emitShifted_3]
    simp only [nI_clamp (show x.length < 2 ^ 31 by omega), nI_clamp (show i0 < 2 ^ 31 by omega)]
    rw [c1, c2, c3, z3, ni_rel]
    refine br_f (nI_ge (by simp) (by simp; omega)) ⟨vp_in_nI c4 (by omega), nm_e ⟨vp_in_nI c4 (by omega), br_c (fun hk => ⟨vp_in_nI c4 (by omega), vp_in_nI z4 (by omega), br_c (fun hv => key _ ?_) fun hv => nm_e (key _ ?_)⟩) fun hk => key _ ?_⟩⟩
    · show (if k = 5 ∧ ¬ v < nI r then (k, v + b) else (k, v)) = _
      rw [if_neg (fun z => z.2 hv)]
    · show (if k = 5 ∧ ¬ v < nI r then (k, v + b) else (k, v)) = _
      rw [if_pos ⟨hk, hv⟩]
    · show (if k = 5 ∧ ¬ v < nI r then (k, v + b) else (k, v)) = _
      rw [if_neg (fun z => hk z.1)]
end
end
section
/-! X: shifted, substituted, occurrence -/
section
variable {post : SX → Prop} {g : dk_G} {A : List (List dk_T)} {M : dk_M} {F : dk_F} {T : List dk_T} {cap : Nat}
/-- where a subterm stands, with its depths -/
theorem dk_cd_at {pre S suf : List dk_T} (e : T = pre ++ S ++ suf) (hT : dk_fo T 1) (hS : dk_fo S 1) : ∃ (d0 : Nat) (x y : List (dk_T × Int32)) (t0 : dk_T), dk_cd T = x ++ (dk_z S).map (fun p => (p.1, nI (p.2 + d0))) ++ y ∧ x.length = pre.length ∧ (dk_cd T)[pre.length]? = some (t0, nI d0) := by
  subst e
  obtain ⟨d0, x, y, e, hx⟩ := dk_cd_sub hT hS
  obtain ⟨t0, l, hz⟩ := dk_z_head hS
  refine ⟨d0, x, y, t0, e, hx, ?_⟩
  rw [e, hz, ← hx]
  simp
theorem px_fo {pre S suf O : List dk_T} {u : SX} (e : T = pre ++ S ++ suf) (hS : dk_fo S 1) (h : px_R g A M F T cap O u) : dk_fo T 1 := by
  rcases h.2.2.2.2.1.2.2.2 with h | h
  · rw [e] at h
    simp at h
    rw [h.2.1] at hS
    exact absurd (show (1 : Nat) = 0 from hS) (by omega)
  · exact h
theorem xl_emitShifted {pre S suf O : List dk_T} {u : SX} {b : Int32} (e : T = pre ++ S ++ suf) (hS : dk_fo S 1) (h : px_R g A M F T cap O u) (hp : ∀ u', px_R g A M F T cap (O ++ dk_sh b S) u' → post u') : wpX_emitShifted post u (nI pre.length) (nI (pre.length + S.length)) b := by
  obtain ⟨d0, x, y, t0, e1, hx, h0⟩ := dk_cd_at e (px_fo e hS h) hS
  rw [xe_emitShifted]
  refine ⟨(dk_z S).length + 1, ?_⟩
  have := xl_emitShifted_3 (post := post) (b := b) h0 e1 h (n := (dk_z S).length + 1) (by omega) hp
  rw [dk_z_len hS, hx] at this
  rw [dk_z_len hS]
  exact this
theorem xl_emitSubst_3 {Y pre suf : List dk_T} (eT : T = pre ++ Y ++ suf) (hY : dk_fo Y 1) {d0 i0 : Nat} {t0 : dk_T} (h0 : (dk_cd T)[i0]? = some (t0, nI d0)) : ∀ {l : List (dk_T × Nat)} {x y : List (dk_T × Int32)} {O : List dk_T} {n : Nat} {u : SX}, dk_cd T = x ++ l.map (fun p => (p.1, nI (p.2 + d0))) ++ y → x.length + l.length = pre.length → px_R g A M F T cap O u → l.length < n → (∀ u', px_R g A M F T cap (O ++ l.flatMap (dk_bf Y)) u' → post u') → xv_emitSubst_3 post (nI i0) (nI pre.length) (nI (pre.length + Y.length)) n (nI x.length) u := by
  intro l
  induction l with
  | nil =>
    intro x y O n u e hxl h hn hp
    obtain ⟨n, rfl⟩ : ∃ c, n = c + 1 := ⟨n - 1, by simp at hn; omega⟩
    rw [xe_emitSubst_3]
    simp only [List.flatMap_nil, List.append_nil] at hp
    have hx : x.length = pre.length := by simpa using hxl
    rw [hx]
    exact br_t (Int32.le_refl _) (hp u h)
  | cons p l ih =>
    intro x y O n u e hxl h hn hp
    obtain ⟨n, rfl⟩ : ∃ c, n = c + 1 := ⟨n - 1, by simp at hn; omega⟩
    have hC := h.2.2.2.2.1
    obtain ⟨⟨k, v⟩, r⟩ := p
    have hx : (dk_cd T)[x.length]? = some ((k, v), nI (r + d0)) := by rw [e]; simp
    obtain ⟨c1, c2, c3, c4⟩ := pc_rd hC hx
    obtain ⟨_, _, z3, z4⟩ := pc_rd (k := t0.1) (v := t0.2) hC h0
    have hlen : x.length + (l.length + 1) ≤ 256 := by
      have h1 := dk_cd_len hC.2.2.2
      have h2 := hC.2.1
      rw [← h1, e] at h2
      simp at h2; omega
    have hxl : x.length + (l.length + 1) = pre.length := by simpa using hxl
    have next : ∀ (W : List dk_T) (u' : SX), dk_bf Y ((k, v), r) = W → px_R g A M F T cap (O ++ W) u' → xv_emitSubst_3 post (nI i0) (nI pre.length) (nI (pre.length + Y.length)) n (nI (x.length + 1)) u' := by
      intro W u' hw h'
      have e1 : x.length + 1 = (x ++ [((k, v), nI (r + d0))]).length := by simp
      rw [e1]
      refine ih (O := O ++ W) (y := y) (by rw [e]; simp) (by simp; omega) h' (by simpa using hn) ?_
      intro u'' h''
      refine hp u'' ?_
      rw [List.flatMap_cons, hw]
      rw [List.append_assoc] at h''
      exact h''
    have key : dk_bf Y ((k, v), r) = [(k, v)] → xv_emitSubst_52 post (xv_emitSubst_3 post (nI i0) (nI pre.length) (nI (pre.length + Y.length)) n) (nI i0) (nI pre.length) (nI (pre.length + Y.length)) (nI x.length) v u := by
      intro hw
      rw [xe_emitSubst_52, nI_clamp (by omega), c1]
      refine ⟨vp_in_nI c4 (by omega), xl_emit h fun u' _ h' => ?_⟩
      rw [nI_1]
      exact nm_e (next _ _ hw h')
    rw [xe_emitSubst_3]
    simp only [nI_clamp (show x.length < 2 ^ 31 by omega), nI_clamp (show i0 < 2 ^ 31 by omega)]
    rw [c1, c2, c3, z3, ni_rel]
    refine br_f (nI_ge (by omega) (by omega)) ⟨vp_in_nI c4 (by omega), nm_e ⟨vp_in_nI c4 (by omega), vp_in_nI z4 (by omega), nm_e ⟨vp_in_nI c4 (by omega), br_c (fun hk => br_c (fun hv => br_c (fun hv2 => ?_) fun hv2 => ?_) fun hv => key ?_) fun hk => key ?_⟩⟩⟩
    · refine xl_emitShifted eT hY h fun u' h' => ?_
      rw [nI_1]
      refine nm_e (next _ _ ?_ h')
      show (if k = 5 then (if v = nI r then _ else _) else _) = _
      rw [if_pos hk, if_pos hv2]
    · refine xl_emit h fun u' _ h' => ?_
      rw [nI_1]
      refine nm_e (next _ _ ?_ h')
      show (if k = 5 then (if v = nI r then _ else if v < nI r then _ else _) else _) = _
      rw [if_pos hk, if_neg hv2, if_neg (Int32.not_lt.mpr hv)]
    · show (if k = 5 then (if v = nI r then _ else if v < nI r then _ else _) else _) = _
      rw [if_pos hk, if_neg, if_pos (Int32.not_le.mp hv)]
      intro z
      exact hv (z ▸ Int32.le_refl _)
    · show (if k = 5 then (if v = nI r then _ else if v < nI r then _ else _) else _) = _
      rw [if_neg hk]
theorem xl_emitSubst {pre B Y suf O : List dk_T} {u : SX} (e : T = pre ++ B ++ Y ++ suf) (hB : dk_fo B 1) (hY : dk_fo Y 1) (h : px_R g A M F T cap O u) (hp : ∀ u', px_R g A M F T cap (O ++ dk_su B Y) u' → post u') : wpX_emitSubst post u (nI pre.length) (nI (pre.length + B.length)) (nI (pre.length + B.length + Y.length)) := by
  have e' : T = pre ++ B ++ (Y ++ suf) := by rw [e]; simp
  obtain ⟨d0, x, y, t0, e1, hx, h0⟩ := dk_cd_at e' (px_fo e' hB h) hB
  rw [xe_emitSubst]
  refine ⟨(dk_z B).length + 1, ?_⟩
  have := xl_emitSubst_3 (post := post) (pre := pre ++ B) (suf := suf) e hY h0 e1 (by rw [hx, dk_z_len hB]; simp) h (n := (dk_z B).length + 1) (by omega) hp
  rw [hx] at this
  rw [← List.length_append]
  exact this
theorem xl_occurs_3 {post : Int32 → Prop} {z : Int32} {d0 i0 : Nat} {t0 : dk_T} {u : SX} (hC : px_C T u) (h0 : (dk_cd T)[i0]? = some (t0, nI d0)) : ∀ {l : List (dk_T × Nat)} {x y : List (dk_T × Int32)} {n : Nat}, dk_cd T = x ++ l.map (fun p => (p.1, nI (p.2 + d0))) ++ y → l.length < n → post (if l.any (fun p => decide (p.1.1 = 5) && decide (p.1.2 - nI p.2 = z)) then 1 else 0) → xv_occurs_3 post (nI i0) (nI (x.length + l.length)) z n (nI x.length) u := by
  intro l
  induction l with
  | nil =>
    intro x y n e hn hp
    obtain ⟨n, rfl⟩ : ∃ c, n = c + 1 := ⟨n - 1, by simp at hn; omega⟩
    rw [xe_occurs_3]
    exact br_t (Int32.le_refl _) hp
  | cons p l ih =>
    intro x y n e hn hp
    obtain ⟨n, rfl⟩ : ∃ c, n = c + 1 := ⟨n - 1, by simp at hn; omega⟩
    obtain ⟨⟨k, v⟩, r⟩ := p
    have hx : (dk_cd T)[x.length]? = some ((k, v), nI (r + d0)) := by rw [e]; simp
    obtain ⟨c1, c2, c3, c4⟩ := pc_rd hC hx
    obtain ⟨_, _, z3, z4⟩ := pc_rd (k := t0.1) (v := t0.2) hC h0
    have hlen : x.length + (l.length + 1) ≤ 256 := by
      have h1 := dk_cd_len hC.2.2.2
      have h2 := hC.2.1
      rw [← h1, e] at h2
      simp at h2; omega
    have next : ¬ (k = 5 ∧ v - nI r = z) → xv_occurs_3 post (nI i0) (nI (x.length + (((k, v), r) :: l).length)) z n (nI (x.length + 1)) u := by
      intro hne
      have e1 : x.length + 1 = (x ++ [((k, v), nI (r + d0))]).length := by simp
      have e2 : x.length + (((k, v), r) :: l).length = (x ++ [((k, v), nI (r + d0))]).length + l.length := by simp; omega
      rw [e1, e2]
      refine ih (y := y) (by rw [e]; simp) (by simpa using hn) ?_
      rw [List.any_cons] at hp
      have : (decide (k = 5) && decide (v - nI r = z)) = false := by
        by_cases h1 : k = 5
        · rw [decide_eq_false (p := v - nI r = z) (fun h2 => hne ⟨h1, h2⟩), Bool.and_false]
        · simp [h1]
      dsimp only at hp
      rw [this, Bool.false_or] at hp
      exact hp
    rw [xe_occurs_3]
    simp only [nI_clamp (show x.length < 2 ^ 31 by omega), nI_clamp (show i0 < 2 ^ 31 by omega)]
    rw [c1, c2, c3, z3, ni_rel, nI_1]
    refine br_f (nI_ge (by simp) (by simp; omega)) ⟨vp_in_nI c4 (by omega), br_c (fun hk => ⟨vp_in_nI c4 (by omega), vp_in_nI c4 (by omega), vp_in_nI z4 (by omega), br_c (fun hv => ?_) fun hv => nm_e (next fun w => hv w.2)⟩) fun hk => nm_e (next fun w => hk w.1)⟩
    rw [List.any_cons] at hp
    dsimp only at hp
    rw [decide_eq_true hk, decide_eq_true hv, Bool.true_and, Bool.true_or] at hp
    exact hp
theorem xl_occurs {post : Int32 → Prop} {pre S suf : List dk_T} {u : SX} {z : Int32} (e : T = pre ++ S ++ suf) (hT : dk_fo T 1) (hS : dk_fo S 1) (hC : px_C T u) (hp : post (if dk_oc S z then 1 else 0)) : wpX_occurs post u (nI pre.length) (nI (pre.length + S.length)) z := by
  obtain ⟨d0, x, y, t0, e1, hx, h0⟩ := dk_cd_at e hT hS
  rw [xe_occurs]
  refine ⟨(dk_z S).length + 1, ?_⟩
  have := xl_occurs_3 (post := post) (z := z) hC h0 e1 (n := (dk_z S).length + 1) (by omega) hp
  rw [dk_z_len hS, hx] at this
  rw [dk_z_len hS]
  exact this
end
end
section
/-! X: writing a node's tree, measuring, committing, loading -/
/-- the stack of nodes still to come; the head is the top -/
def px_S (A : List (List dk_T)) (pend : Nat → Int32) : List (List dk_T) → Prop
  | [] => True
  | S :: ss => (∃ i, A[i]? = some S ∧ pend ss.length = nI i) ∧ px_S A pend ss
theorem px_S_upd {A : List (List dk_T)} {pend : Nat → Int32} {k : Nat} {x : Int32} : ∀ {ss : List (List dk_T)}, ss.length ≤ k → px_S A pend ss → px_S A (upd pend k x) ss := by
  intro ss
  induction ss with
  | nil => intro _ _; trivial
  | cons S ss ih =>
    intro hk h
    simp at hk
    obtain ⟨⟨i, h1, h2⟩, h3⟩ := h
    exact ⟨⟨i, h1, by rw [pk_un (by omega)]; exact h2⟩, ih (by omega) h3⟩
theorem px_S_len {A : List (List dk_T)} {pend : Nat → Int32} (hA : ∀ S ∈ A, dk_fo S 1) : ∀ {ss : List (List dk_T)}, px_S A pend ss → ss.length ≤ ss.flatten.length := by
  intro ss
  induction ss with
  | nil => intro _; exact Nat.le_refl _
  | cons S ss ih =>
    intro h
    obtain ⟨⟨i, h1, h2⟩, h3⟩ := h
    have := dk_fo_len (hA S (List.mem_of_getElem? h1))
    have := ih h3
    rw [List.flatten_cons, List.length_append, List.length_cons]
    omega
/-- what a node's tree gives -/
def dk_em (e : Bool) (S : List dk_T) : List dk_T := if e then dk_er S 0 else S
theorem dk_er_flat : ∀ {cs : List (List dk_T)}, (∀ c ∈ cs, dk_fo c 1) → dk_er cs.flatten 0 = (cs.map (fun c => dk_er c 0)).flatten := by
  intro cs
  induction cs with
  | nil => intro _; rfl
  | cons c cs ih =>
    intro h
    rw [List.flatten_cons, dk_er_app' (h c (by simp)), ih (fun c hc => h c (by simp [hc]))]
    rfl
theorem dk_em_cons {e : Bool} {t : dk_T} {cs : List (List dk_T)} (h : ∀ c ∈ cs, dk_fo c 1) (hn : ¬ (e = true ∧ t.1 = 7)) : dk_em e (t :: cs.flatten) = t :: (cs.map (dk_em e)).flatten := by
  cases e with
  | false =>
    show t :: cs.flatten = t :: (cs.map (fun c => c)).flatten
    rw [List.map_id']
  | true =>
    show dk_er (t :: cs.flatten) 0 = t :: (cs.map (fun c => dk_er c 0)).flatten
    rw [dk_er_cons (fun z => hn ⟨rfl, z⟩), dk_er_flat h]
section
variable {post : SX → Prop} {g : dk_G} {A : List (List dk_T)} {M : dk_M} {F : dk_F} {T : List dk_T} {cap : Nat}
theorem px_pend {O : List dk_T} {u : SX} {p : Nat → Int32} (h : px_R g A M F T cap O u) : px_R g A M F T cap O (xs_pend p u) := h
/-- pushing the children c .. 0 -/
theorem xl_emitNode_127 {J : Int32 → Int32 → SX → Prop} {x2 : Int32} {i q : Nat} {cs ss : List (List dk_T)} (hi : i < 256) (h4 : cs.length ≤ 4) (hss : cs.length + ss.length ≤ 1000) : ∀ {c n : Nat} {u : SX} {O : List dk_T}, c ≤ cs.length → c < n → (∀ j S, cs[j]? = some S → ∃ i', A[i']? = some S ∧ xg_part u (4 * i + j) = nI i') → px_R g A M F T cap O u → px_S A (xg_pend u) (cs.drop c ++ ss) → (∀ u', px_R g A M F T cap O u' → px_S A (xg_pend u') (cs ++ ss) → J (nI (cs.length + ss.length)) (nI (q + 1)) u') → xv_emitNode_127 post J x2 (nI q) (nI i) n (nI (cs.length - c + ss.length)) (nI c - 1) u := by
  intro c
  induction c with
  | zero =>
    intro n u O hc hn hpt h hs hp
    obtain ⟨n, rfl⟩ : ∃ c, n = c + 1 := ⟨n - 1, by omega⟩
    rw [xe_emitNode_127]
    refine br_t (by decide) ?_
    rw [nI_1]
    exact nm_e (hp u h hs)
  | succ c ih =>
    intro n u O hc hn hpt h hs hp
    obtain ⟨n, rfl⟩ : ∃ c, n = c + 1 := ⟨n - 1, by omega⟩
    rw [xe_emitNode_127, nI_pred, show (4 : Int32) = nI 4 from rfl, pk_mul, nI_add]
    rw [nI_clamp (by omega), nI_clamp (by omega)]
    obtain ⟨S, hS⟩ : ∃ S, cs[c]? = some S := ⟨cs[c], List.getElem?_eq_getElem (by omega)⟩
    obtain ⟨i', a1, a2⟩ := hpt c S hS
    refine br_f (nI_pos (by omega)) ⟨vp_in_nI (by omega) (by omega), vp_in_nI (by omega) (by omega), nm_e (nm_r (nI_1 _) (nm_e ?_))⟩
    have e1 : cs.length - (c + 1) + ss.length + 1 = cs.length - c + ss.length := by omega
    rw [e1, show nI c + (-1) = nI c - 1 from (Int32.sub_eq_add_neg _ _).symm]
    refine ih (by omega) (by omega) hpt (px_pend h) ?_ hp
    show px_S A (upd (xg_pend u) _ _) (cs.drop c ++ ss)
    have e2 : cs.drop c = S :: cs.drop (c + 1) := by
      obtain ⟨hl, e⟩ := List.getElem?_eq_some_iff.mp hS
      rw [← e]
      exact List.drop_eq_getElem_cons hl
    have el : (cs.drop (c + 1) ++ ss).length = cs.length - (c + 1) + ss.length := by simp
    rw [e2]
    show (∃ i'', A[i'']? = some S ∧ upd (xg_pend u) _ _ (cs.drop (c + 1) ++ ss).length = nI i'') ∧ px_S A (upd (xg_pend u) _ _) (cs.drop (c + 1) ++ ss)
    refine ⟨⟨i', a1, ?_⟩, ?_⟩
    · rw [el, pk_us, a2]
    · exact px_S_upd (by rw [el]; exact Nat.le_refl _) hs
/-- one node of the stack -/
theorem xl_emitNode_12 (e : Bool) (hA : ∀ S ∈ A, dk_gd (ga_ne g) S) (hAl : A.length ≤ 256) : ∀ {N : Nat} {ss : List (List dk_T)} {n q : Nat} {u : SX} {O : List dk_T}, ss.flatten.length ≤ N → N < n → q + N ≤ 256 → px_R g A M F T cap O u → px_S A (xg_pend u) ss → (∀ u', px_R g A M F T cap (O ++ (ss.map (dk_em e)).flatten) u' → post u') → xv_emitNode_12 post (if e then 1 else 0) n (nI ss.length) (nI q) u := by
  intro N
  induction N with
  | zero =>
    intro ss n q u O hN hn hq h hs hp
    obtain ⟨n, rfl⟩ : ∃ c, n = c + 1 := ⟨n - 1, by omega⟩
    have e0 : ss = [] := by
      cases ss with
      | nil => rfl
      | cons S ss =>
        obtain ⟨⟨i, a1, _⟩, _⟩ := hs
        have hf := (hA S (List.mem_of_getElem? a1)).1
        have h1 := dk_fo_len hf
        rw [List.flatten_cons, List.length_append] at hN
        omega
    subst e0
    rw [xe_emitNode_12]
    have hp' := hp u (by simpa using h)
    exact br_c (fun _ => hp') fun _ => br_t (by decide) hp'
  | succ N ih =>
    intro ss n q u O hN hn hq h hs hp
    obtain ⟨n, rfl⟩ : ∃ c, n = c + 1 := ⟨n - 1, by omega⟩
    rw [xe_emitNode_12]
    have hl := px_S_len (fun S hS => (hA S hS).1) hs
    cases ss with
    | nil =>
      have hp' := hp u (by simpa using h)
      exact br_c (fun _ => hp') fun _ => br_t (by decide) hp'
    | cons S ss =>
      have hl : (S :: ss).length ≤ 256 := by omega
      obtain ⟨⟨i, a1, a2⟩, hs⟩ := hs
      have hi : i < A.length := (List.getElem?_eq_some_iff.mp a1).1
      obtain ⟨⟨cs, b1, b2, b3, b4⟩, _⟩ := h.2.1.2 i S a1
      have hgd := hA S (List.mem_of_getElem? a1)
      have hcs : ∀ c ∈ cs, dk_fo c 1 := by
        intro c hc
        obtain ⟨j, hj⟩ := List.getElem?_of_mem hc
        exact (b3 j c hj).1
      have hc4 : cs.length ≤ 4 := by rw [b2]; exact dk_ar4 _
      rw [List.flatten_cons, List.length_append, b1] at hN
      simp only [List.length_cons] at hN hl ⊢
      refine br_f (nI_ge (b := 256) (by omega) (by decide)) (br_f (nI_nle (by omega) (by omega)) ?_)
      refine nm_r (pk_m1 _) ⟨vp_in_nI (by omega) (by omega), ?_⟩
      rw [nI_clamp (by omega)]
      refine nm_r a2 ⟨vp_in_nI (by omega) (by omega), ?_⟩
      rw [nI_clamp (by omega)]
      refine nm_e ?_
      -- the plain case
      have plain : ¬ (e = true ∧ xg_kind u i = 7) → xv_emitNode_85 post (xv_emitNode_12 post (if e then 1 else 0) n) (if e then 1 else 0) (nI ss.length) (nI q) (nI i) (xg_kind u i) u := by
        intro hne
        have fin : ∀ u', px_R g A M F T cap (O ++ [(xg_kind u i, if dk_ar (xg_kind u i) = 0 then xg_part u (4 * i + 0) else 0)]) u' → px_S A (xg_pend u') (cs ++ ss) → xv_emitNode_12 post (if e then 1 else 0) n (nI (cs.length + ss.length)) (nI (q + 1)) u' := by
          intro u' h' hs'
          rw [← List.length_append]
          refine ih (by rw [List.flatten_append, List.length_append]; omega) (by omega) (by omega) h' hs' ?_
          intro u'' h''
          refine hp u'' ?_
          rw [List.map_cons, List.flatten_cons, b1, dk_em_cons hcs hne]
          simpa using h''
        have go : ∀ w : Int32, w = (if dk_ar (xg_kind u i) = 0 then xg_part u (4 * i + 0) else 0) → xv_emitNode_111 post (xv_emitNode_12 post (if e then 1 else 0) n) (if e then 1 else 0) (nI ss.length) (nI q) (nI i) (xg_kind u i) (nI (dk_ar (xg_kind u i))) w u := by
          intro w hw
          rw [xe_emitNode_111]
          refine xl_emit h fun u' hpe h' => ?_
          refine nm_e ⟨cs.length + 1, ?_⟩
          rw [← b2]
          have := xl_emitNode_127 (post := post) (J := xv_emitNode_12 post (if e then 1 else 0) n) (x2 := if e then 1 else 0) (i := i) (q := q) (cs := cs) (ss := ss) (A := A) (c := cs.length) (n := cs.length + 1) (u := u') (by omega) hc4 (by omega) (Nat.le_refl _) (by omega) ?_ h' ?_ ?_
          · rw [Nat.sub_self, Nat.zero_add] at this
            exact this
          · intro j S' hj
            obtain ⟨⟨ds, d1, d2, d3, _⟩, _⟩ := h'.2.1.2 i S a1
            have hk : xg_kind u' i = xg_kind u i := by
              rw [b1] at d1
              injection d1 with d1 _
              exact (congrArg Prod.fst d1).symm
            have hds : ∀ c ∈ ds, dk_fo c 1 := by
              intro c hc
              obtain ⟨j, hj⟩ := List.getElem?_of_mem hc
              exact (d3 j c hj).1
            have : cs = ds := by
              refine dk_kids_inj (r := []) (s := []) hcs hds (by rw [b2, d2, hk]) ?_
              rw [b1] at d1
              injection d1 with _ d1
              rw [d1]
            subst this
            exact (d3 j S' hj).2
          · rw [List.drop_length, hpe]
            exact hs
          · intro u'' h'' hs''
            rw [hw] at h''
            exact fin u'' h'' hs''
        rw [xe_emitNode_85, show (4 : Int32) = nI 4 from rfl, pk_mul, nI_clamp (by omega)]
        refine xl_arity (br_c (fun h0 => ⟨vp_in_nI (by omega) (by omega), go _ ?_⟩) fun h0 => go _ ?_)
        · rw [if_pos]
          · rfl
          · exact (nI_eq (by have := dk_ar4 (xg_kind u i); omega) (by decide)).mp h0
        · rw [if_neg]
          intro z
          exact h0 (by rw [z]; rfl)
      cases e with
      | false =>
        exact br_t rfl (plain (by simp))
      | true =>
        refine br_f (by decide) (br_c (fun h7 => ?_) fun h7 => plain (fun z => h7 z.2))
        refine xl_emit h fun u' hpe h' => ?_
        rw [show (4 : Int32) = nI 4 from rfl, pk_mul, nI_1, nI_clamp (by omega)]
        refine ⟨vp_in_nI (by omega) (by omega), vp_in_nI (by omega) (by omega), nm_e (nm_r (nI_1 _) (nm_r (nI_1 _) ?_))⟩
        obtain ⟨⟨ds, d1, d2, d3, _⟩, _⟩ := h'.2.1.2 i S a1
        have hk : xg_kind u' i = xg_kind u i := by
          rw [b1] at d1
          injection d1 with d1 _
          exact (congrArg Prod.fst d1).symm
        rw [hk, h7] at d1 d2
        rw [show dk_ar 7 = 2 from by decide] at d1 d2
        have hd : ∃ c0 c1, ds = [c0, c1] := by
          match ds, d2 with
          | [c0, c1], _ => exact ⟨c0, c1, rfl⟩
        obtain ⟨c0, c1, rfl⟩ := hd
        rw [if_neg (by omega)] at d1
        obtain ⟨f1, i1, j1, k1⟩ := d3 1 c1 rfl
        obtain ⟨f0, _⟩ := d3 0 c0 rfl
        have el : nI (ss.length + 1) = nI (c1 :: ss).length := rfl
        rw [el]
        have eS : S = ((7 : Int32), (0 : Int32)) :: (c0 ++ c1) := by rw [d1]; simp
        have lS : S.length = 1 + (c0.length + c1.length) := by rw [eS]; simp; omega
        have lb : S.length = ((xg_kind u i, if dk_ar (xg_kind u i) = 0 then xg_part u (4 * i + 0) else 0) :: cs.flatten : List dk_T).length := by rw [← b1]
        have l0 := dk_fo_len f0
        refine ih (ss := c1 :: ss) ?_ (by omega) (by omega) (px_pend h') ?_ ?_
        · rw [List.flatten_cons, List.length_append]
          simp only [List.length_cons] at lb
          omega
        · show px_S A (upd (xg_pend u') _ _) (c1 :: ss)
          refine ⟨⟨i1, j1, ?_⟩, px_S_upd (Nat.le_refl _) (by rw [hpe]; exact hs)⟩
          rw [pk_us]; exact k1
        · intro u'' h''
          refine hp u'' ?_
          rw [List.map_cons, List.flatten_cons, eS]
          show px_R g A M F T cap (O ++ (dk_er (((7 : Int32), (0 : Int32)) :: (c0 ++ c1)) 0 ++ _)) u''
          rw [dk_er_lam rfl f0]
          simpa [dk_em] using h''
theorem xl_emitNode (e : Bool) (hA : ∀ S ∈ A, dk_gd (ga_ne g) S) (hAl : A.length ≤ 256) {i : Nat} {S O : List dk_T} {u : SX} (hi : A[i]? = some S) (hS : S.length ≤ 256) (h : px_R g A M F T cap O u) (hp : ∀ u', px_R g A M F T cap (O ++ dk_em e S) u' → post u') : wpX_emitNode post u (nI i) (if e then 1 else 0) := by
  rw [xe_emitNode]
  refine nm_e ⟨S.length + 1, ?_⟩
  refine xl_emitNode_12 e hA hAl (ss := [S]) (N := S.length) (q := 0) (by simp) (by omega) (by omega) (px_pend h) ⟨⟨i, hi, ?_⟩, trivial⟩ ?_
  · show upd (xg_pend u) 0 (nI i) 0 = _
    rw [pk_us]
  · intro u' h'
    refine hp u' ?_
    simpa using h'
end
end
section
/-! X: measure, commit, load -/
theorem xl_binds {post : Int32 → Prop} {u : SX} {k : Int32} {c b : Nat} (hb : (dk_kd k)[c]? = some b) (hp : post (nI b)) : wpX_binds post u k (nI c) := by
  rw [xe_binds]
  have two : ∀ {x : List Nat}, dk_kd k = 0 :: 1 :: x → (∀ j y : Nat, x[j]? = some y → y = 0) → xv_binds_34 post (nI c) u := by
    intro x hx h0
    rw [hx] at hb
    rw [xe_binds_34]
    match c, hb with
    | 0, hb => have : b = 0 := by simpa using hb.symm
               subst this; exact br_f (by decide) hp
    | 1, hb => have : b = 1 := by simpa using hb.symm
               subst this; exact br_t rfl hp
    | c + 2, hb =>
      have hb : x[c]? = some b := by simpa using hb
      have : b = 0 := h0 c b hb
      subst this
      refine br_c (fun z => ?_) fun _ => hp
      exfalso
      have hc : c < x.length := (List.getElem?_eq_some_iff.mp hb).1
      have hl := dk_ar4 k
      unfold dk_ar at hl
      rw [hx] at hl
      simp at hl
      exact absurd ((nI_eq (b := 1) (by omega) (by decide)).mp z) (by omega)
  refine br_c (fun a => ?_) fun a1 => br_c (fun a => ?_) fun a2 => br_c (fun a => ?_) fun a3 => br_c (fun a => ?_) fun a4 => ?_
  · subst a
    match c, hb with
    | 0, hb => have : b = 1 := (Option.some.inj (hb.symm.trans (show (dk_kd 11)[0]? = some 1 from by decide)))
               subst this; exact br_t rfl hp
    | c + 1, hb =>
      rw [show dk_kd 11 = [1] from by decide] at hb
      simp at hb
  · subst a
    exact two (x := []) (by decide) (by simp)
  · subst a
    exact two (x := []) (by decide) (by simp)
  · subst a
    refine two (x := [0, 0]) (by decide) ?_
    intro j y hy
    match j, hy with
    | 0, hy => simpa using hy.symm
    | 1, hy => simpa using hy.symm
  · have hz : ∀ (j y : Nat), (dk_kd k)[j]? = some y → y = 0 := by
      intro j y hy
      unfold dk_kd at hy
      rw [if_neg a2, if_neg a3, if_neg a4, if_neg a1] at hy
      split at hy
      · match j, hy with
        | 0, hy => simpa using hy.symm
      · split at hy
        · match j, hy with
          | 0, hy => simpa using hy.symm
          | 1, hy => simpa using hy.symm
        · simp at hy
    have := hz c b hb
    subst this
    exact hp
def px_D (pend : Nat → Int32) : List Nat → Prop
  | [] => True
  | d :: st => pend st.length = nI d ∧ px_D pend st
theorem px_D_upd {pend : Nat → Int32} {k : Nat} {x : Int32} : ∀ {st : List Nat}, st.length ≤ k → px_D pend st → px_D (upd pend k x) st := by
  intro st
  induction st with
  | nil => intro _ _; trivial
  | cons d st ih =>
    intro hk h
    simp at hk
    exact ⟨by rw [pk_un (by omega)]; exact h.1, ih (by omega) h.2⟩
section
variable {g : dk_G} {A : List (List dk_T)} {M : dk_M} {F : dk_F} {T O : List dk_T} {cap : Nat}
/-- while the term at work is being written -/
def px_K (g : dk_G) (A : List (List dk_T)) (M : dk_M) (F : dk_F) (cap : Nat) (O : List dk_T) (u : SX) : Prop := px_G g u ∧ px_A A u ∧ px_M M u ∧ px_F F u ∧ px_O cap O u
theorem px_K_p {u : SX} {p : Nat → Int32} (h : px_K g A M F cap O u) : px_K g A M F cap O (xs_pend p u) := h
theorem px_K_d {u : SX} {p : Nat → Int32} (h : px_K g A M F cap O u) : px_K g A M F cap O (xs_curDepth p u) := h
theorem px_K_l {u : SX} {p : Int32} (h : px_K g A M F cap O u) : px_K g A M F cap O (xs_curLen p u) := h
theorem px_K_c {u : SX} {p q : Nat → Int32} (h : px_K g A M F cap O u) : px_K g A M F cap O (xs_curKind_curVal p q u) := h
def px_T (T : List dk_T) (u : SX) : Prop := xg_curLen u = nI T.length ∧ dk_sg (fun i => (xg_curKind u i, xg_curVal u i)) 0 T
theorem px_T_p {u : SX} {p : Nat → Int32} (h : px_T T u) : px_T T (xs_pend p u) := h
theorem px_T_d {u : SX} {p : Nat → Int32} (h : px_T T u) : px_T T (xs_curDepth p u) := h
theorem px_T_g {u : SX} {i : Nat} {t : dk_T} (h : px_T T u) (hi : T[i]? = some t) : xg_curKind u i = t.1 := by
  obtain ⟨hl, e⟩ := List.getElem?_eq_some_iff.mp hi
  have := dk_sg_get h.2 hl
  rw [Nat.zero_add, e] at this
  exact congrArg Prod.fst this
theorem xl_measure_62 {post : SX → Prop} {J : Int32 → Int32 → SX → Prop} {i d : Nat} {k : Int32} {st : List Nat} (hst : st.length ≤ 1000) : ∀ {c n : Nat} {u : SX}, c ≤ dk_ar k → c < n → px_K g A M F cap O u → px_T T u → px_D (xg_pend u) (((dk_kd k).drop c).map (· + d) ++ st) → (∀ u', px_K g A M F cap O u' → px_T T u' → xg_curDepth u' = xg_curDepth u → px_D (xg_pend u') ((dk_kd k).map (· + d) ++ st) → J (nI (dk_ar k + st.length)) (nI (i + 1)) u') → xv_measure_62 post J (nI i) (nI d) k n (nI (dk_ar k - c + st.length)) (nI c - 1) u := by
  intro c
  induction c with
  | zero =>
    intro n u hc hn hK hT hs hp
    obtain ⟨n, rfl⟩ : ∃ c, n = c + 1 := ⟨n - 1, by omega⟩
    rw [xe_measure_62]
    exact br_t (by decide) (nm_r (nI_1 _) (hp u hK hT rfl hs))
  | succ c ih =>
    intro n u hc hn hK hT hs hp
    obtain ⟨n, rfl⟩ : ∃ c, n = c + 1 := ⟨n - 1, by omega⟩
    have h4 := dk_ar4 k
    have hc' : c < (dk_kd k).length := hc
    rw [xe_measure_62, nI_pred, nI_clamp (by omega)]
    refine br_f (nI_pos (by omega)) ?_
    refine xl_binds (b := (dk_kd k)[c]) (List.getElem?_eq_getElem hc') ⟨vp_in_nI (by omega) (by omega), ?_⟩
    rw [nI_add]
    refine nm_e (nm_r (nI_1 _) (nm_e ?_))
    have e1 : dk_ar k - (c + 1) + st.length + 1 = dk_ar k - c + st.length := by omega
    rw [e1, show nI c + (-1) = nI c - 1 from (Int32.sub_eq_add_neg _ _).symm]
    refine ih (by omega) (by omega) (px_K_p hK) (px_T_p hT) ?_ hp
    show px_D (upd (xg_pend u) _ _) _
    have e2 : (dk_kd k).drop c = (dk_kd k)[c] :: (dk_kd k).drop (c + 1) := List.drop_eq_getElem_cons hc'
    have el : (((dk_kd k).drop (c + 1)).map (· + d) ++ st).length = dk_ar k - (c + 1) + st.length := by simp [dk_ar]
    rw [e2]
    show upd (xg_pend u) _ _ (((dk_kd k).drop (c + 1)).map (· + d) ++ st).length = _ ∧ px_D (upd (xg_pend u) _ _) (((dk_kd k).drop (c + 1)).map (· + d) ++ st)
    refine ⟨?_, px_D_upd (by rw [← el]; exact Nat.le_refl _) hs⟩
    rw [el, pk_us, Nat.add_comm]
theorem xl_measure_11 {post : SX → Prop} (hT : T.length ≤ 256) : ∀ {l pre : List dk_T} {dn st : List Nat} {n : Nat} {u : SX}, T = pre ++ l → dk_fo l st.length → l.length < n → px_K g A M F cap O u → px_T T u → px_D (xg_pend u) st → dn ++ dk_dp l st = dk_dp T [0] → dn.length = pre.length → dk_sg (xg_curDepth u) 0 (dn.map nI) → (∀ u', px_K g A M F cap O u' → px_T T u' → dk_sg (xg_curDepth u') 0 ((dk_dp T [0]).map nI) → post u') → xv_measure_11 post n (nI st.length) (nI pre.length) u := by
  intro l
  induction l with
  | nil =>
    intro pre dn st n u e hf hn hK hTT hs hd hdl hsd hp
    obtain ⟨n, rfl⟩ : ∃ c, n = c + 1 := ⟨n - 1, by simp at hn; omega⟩
    rw [xe_measure_11, hTT.1]
    refine br_t (by rw [e, List.append_nil]; exact Int32.le_refl _) (hp u hK hTT ?_)
    have : dn = dk_dp T [0] := by rw [← hd]; exact (List.append_nil _).symm
    rw [← this]
    exact hsd
  | cons t l ih =>
    intro pre dn st n u e hf hn hK hTT hs hd hdl hsd hp
    obtain ⟨n, rfl⟩ : ∃ c, n = c + 1 := ⟨n - 1, by simp at hn; omega⟩
    cases st with
    | nil => exact absurd hf.1 (by simp)
    | cons d st =>
      have hlen : T.length = pre.length + (l.length + 1) := by rw [e]; simp
      have h1 := dk_fo_len hf
      simp only [List.length_cons] at h1 hn
      have h4 := dk_ar4 t.1
      rw [xe_measure_11, hTT.1]
      simp only [List.length_cons]
      rw [nI_clamp (by omega)]
      refine br_f (nI_ge (by omega) (by omega)) (br_f (nI_nle (by omega) (by omega)) ?_)
      refine nm_r (pk_m1 _) ⟨vp_in_nI (by omega) (by omega), ?_⟩
      rw [nI_clamp (by omega)]
      refine nm_r hs.1 ⟨vp_in_nI (by omega) (by omega), nm_e ⟨vp_in_nI (by omega) (by omega), ?_⟩⟩
      refine nm_r (px_T_g hTT (show T[pre.length]? = some t by rw [e]; simp)) ?_
      refine xl_arity (nm_e ⟨dk_ar t.1 + 1, ?_⟩)
      have := xl_measure_62 (post := post) (J := xv_measure_11 post n) (i := pre.length) (d := d) (k := t.1) (st := st) (by omega) (c := dk_ar t.1) (n := dk_ar t.1 + 1) (u := xs_curDepth (upd (xg_curDepth u) pre.length (nI d)) u) (Nat.le_refl _) (by omega) (px_K_d hK) (px_T_d hTT) ?_ ?_
      · rw [Nat.sub_self, Nat.zero_add] at this
        exact this
      · show px_D (xg_pend u) _
        rw [show (dk_kd t.1).drop (dk_ar t.1) = [] from List.drop_length]
        exact hs.2
      · intro u' hK' hT' hcd hpd
        have e1 : dk_ar t.1 + st.length = ((dk_kd t.1).map (· + d) ++ st).length := by simp [dk_ar]
        have e2 : pre.length + 1 = (pre ++ [t]).length := by simp
        rw [e1, e2]
        refine ih (dn := dn ++ [d]) (by rw [e]; simp) ?_ (by omega) hK' hT' hpd ?_ (by simp [hdl]) ?_ hp
        · have h2 := hf.2
          have e3 : (d :: st).length - 1 + dk_ar t.1 = ((dk_kd t.1).map (· + d) ++ st).length := by
            simp [dk_ar]; omega
          rw [e3] at h2; exact h2
        · rw [← hd, List.append_assoc]; rfl
        · rw [hcd, List.map_append, dk_sg_app]
          show dk_sg (upd (xg_curDepth u) pre.length (nI d)) 0 (dn.map nI) ∧ dk_sg (upd (xg_curDepth u) pre.length (nI d)) (0 + (dn.map nI).length) [nI d]
          constructor
          · refine dk_sg_congr hsd ?_
            intro j _ hj
            simp at hj
            rw [pk_un (by omega)]
          · refine ⟨?_, trivial⟩
            rw [List.length_map, hdl, Nat.zero_add, pk_us]
theorem xl_measure {post : SX → Prop} {u : SX} (hl : T.length ≤ 256) (hf : dk_fo T 1) (hK : px_K g A M F cap O u) (hT : px_T T u) (hp : ∀ u', px_R g A M F T cap O u' → post u') : wpX_measure post u := by
  rw [xe_measure]
  refine nm_e ⟨T.length + 1, ?_⟩
  refine xl_measure_11 hl (l := T) (pre := []) (dn := []) (st := [0]) rfl hf (by omega) (px_K_p hK) (px_T_p hT) ?_ rfl rfl trivial ?_
  · refine ⟨?_, trivial⟩
    show upd (xg_pend u) 0 0 0 = _
    rw [pk_us]; rfl
  · intro u' hK' hT' hd
    refine hp u' ⟨hK'.1, hK'.2.1, hK'.2.2.1, hK'.2.2.2.1, ⟨hT'.1, hl, ?_, Or.inr hf⟩, hK'.2.2.2.2⟩
    apply dk_sg_of
    intro j hj
    have hj' : j < T.length := by rw [dk_cd_len (Or.inr hf)] at hj; exact hj
    have hj2 : j < ((dk_dp T [0]).map nI).length := by rw [List.length_map, dk_dp_len (st := [0]) hf]; exact hj'
    have a := dk_sg_get hT'.2 hj'
    have b := dk_sg_get hd hj2
    have c : (dk_cd T)[j]? = some (T[j], ((dk_dp T [0]).map nI)[j]) := List.getElem?_zip_eq_some.mpr ⟨List.getElem?_eq_getElem hj', List.getElem?_eq_getElem hj2⟩
    rw [List.getElem?_eq_getElem hj] at c
    rw [Option.some.inj c, ← a, ← b]
theorem xl_commit_11 {post : Int32 → SX → Prop} (hO : O.length ≤ 256) : ∀ {l pre : List dk_T} {n : Nat} {u : SX}, O = pre ++ l → l.length < n → px_K g A M F cap O u → xg_outLen u = nI O.length → dk_sg (fun i => (xg_outKind u i, xg_outVal u i)) 0 O → dk_sg (fun i => (xg_curKind u i, xg_curVal u i)) 0 pre → (∀ u', px_K g A M F cap O u' → px_T O u' → wpX_measure (fun u' => post 1 u') u') → xv_commit_11 post n (nI pre.length) u := by
  intro l
  induction l with
  | nil =>
    intro pre n u e hn hK hl hs hc hp
    obtain ⟨n, rfl⟩ : ∃ c, n = c + 1 := ⟨n - 1, by simp at hn; omega⟩
    rw [xe_commit_11]
    rw [List.append_nil] at e
    refine br_t ?_ (hp _ (px_K_l hK) ⟨hl, ?_⟩)
    · rw [hl, e]
      exact Int32.le_refl _
    · rw [e]; exact hc
  | cons t l ih =>
    intro pre n u e hn hK hl hs hc hp
    obtain ⟨n, rfl⟩ : ∃ c, n = c + 1 := ⟨n - 1, by simp at hn; omega⟩
    have hlen : O.length = pre.length + (l.length + 1) := by rw [e]; simp
    have ht : (xg_outKind u pre.length, xg_outVal u pre.length) = t := by
      have := dk_sg_get hs (j := pre.length) (by omega)
      rw [Nat.zero_add] at this
      rw [this]
      simp [e]
    simp at hn
    rw [xe_commit_11]
    refine br_f (by rw [hl]; exact nI_ge (by omega) (by omega)) ?_
    rw [nI_clamp (by omega)]
    refine ⟨vp_in_nI (by omega) (by omega), vp_in_nI (by omega) (by omega), nm_e ⟨vp_in_nI (by omega) (by omega), vp_in_nI (by omega) (by omega), nm_e (nm_r (nI_1 _) ?_)⟩⟩
    have e2 : pre.length + 1 = (pre ++ [t]).length := by simp
    rw [e2]
    refine ih (by rw [e]; simp) (by omega) (px_K_c hK) hl hs ?_ hp
    rw [dk_sg_app]
    show dk_sg (fun i => (upd (xg_curKind u) pre.length (xg_outKind u pre.length) i, upd (xg_curVal u) pre.length (xg_outVal u pre.length) i)) 0 pre ∧ dk_sg (fun i => (upd (xg_curKind u) pre.length (xg_outKind u pre.length) i, upd (xg_curVal u) pre.length (xg_outVal u pre.length) i)) (0 + pre.length) [t]
    constructor
    · refine dk_sg_congr hc ?_
      intro j _ hj
      rw [pk_un (by omega), pk_un (by omega)]
    · refine ⟨?_, trivial⟩
      rw [Nat.zero_add]
      dsimp only
      rw [pk_us, pk_us]
      exact ht
end
section
variable {g : dk_G} {A : List (List dk_T)} {M : dk_M} {F : dk_F} {T : List dk_T} {cap : Nat}
theorem xl_commit {post : Int32 → SX → Prop} {O : List dk_T} {u : SX} (h : px_R g A M F T cap O u) (hf : dk_fo O 1) (h1 : O.length ≤ cap → ∀ u', px_R g A M F O cap O u' → post 1 u') (h2 : cap < O.length → ∀ u', px_R g A M F T cap O u' → post 0 u') : wpX_commit post u := by
  obtain ⟨hG, hA, hM, hF, hC, o1, o2, o3, o4, o5⟩ := h
  rw [xe_commit]
  by_cases hl : O.length ≤ cap
  · have em : min O.length cap = O.length := by omega
    refine br_t (by rw [o4, if_pos hl]) ⟨O.length + 1, ?_⟩
    have o3' := o3
    have o5' := o5
    rw [em] at o3'
    rw [List.take_of_length_le hl] at o5'
    have h256 : O.length ≤ 256 := by omega
    refine xl_commit_11 h256 (l := O) (pre := []) rfl (by omega) ⟨hG, hA, hM, hF, o1, o2, o3, o4, o5⟩ o3' o5' trivial ?_
    intro u' hK hT
    exact xl_measure h256 hf hK hT (h1 hl)
  · refine br_f (by rw [o4, if_neg hl]; decide) (h2 (by omega) u ⟨hG, hA, hM, hF, hC, o1, o2, o3, o4, o5⟩)
theorem dk_em_fo {e : Bool} {S : List dk_T} {n : Nat} (h : dk_fo S n) : dk_fo (dk_em e S) n := by
  cases e with
  | false => exact h
  | true => exact dk_er_fo' h
theorem dk_em_len {e : Bool} {S : List dk_T} : (dk_em e S).length ≤ S.length := by
  cases e with
  | false => exact Nat.le_refl _
  | true => exact dk_er_len
theorem xl_load {post : SX → Prop} (e : Bool) (hA : ∀ S ∈ A, dk_gd (ga_ne g) S) (hAl : A.length ≤ 256) {i : Nat} {S O : List dk_T} {u : SX} (hi : A[i]? = some S) (hS : S.length ≤ 256) (h : px_R g A M F T cap O u) (hp : ∀ u', px_R g A M F (dk_em e S) 256 (dk_em e S) u' → post u') : wpX_load post u (nI i) (if e then 1 else 0) := by
  rw [xe_load]
  have hl := dk_em_len (e := e) (S := S)
  refine xl_begin (c := 256) h (by omega) fun u1 h1 => ?_
  refine xl_emitNode e hA hAl hi hS h1 fun u2 h2 => ?_
  rw [List.nil_append] at h2
  refine xl_commit h2 (dk_em_fo (hA S (List.mem_of_getElem? hi)).1) (fun _ u3 h3 => hp u3 h3) (fun hc => ?_)
  omega
end
end
section
/-! redexes: the pure rule, X's search and contraction -/
def dk_hk : List dk_T → Int32
  | [] => 0
  | t :: _ => t.1
def dk_hb (g : dk_G) (v : Int32) : Bool := decide (¬ v < 0) && decide (¬ nI (ga_ne g) ≤ v) && decide (¬ ga_eb g v.toNatClampNeg < 0)
def dk_et (l : List dk_T) : Bool := decide ((l.drop (dk_sk l 1)).head? = some (5, 0)) && !(dk_oc (l.take (dk_sk l 1)) 0)
def dk_ru (g : dk_G) : List dk_T → Nat
  | [] => 0
  | t :: l => if t.1 = 8 then (if dk_hk l = 7 ∨ dk_hk l = 11 then 1 else 0) else if t.1 = 9 then (if dk_hk l = 3 then 2 else if dk_hk l = 4 then 3 else 0) else if t.1 = 10 then (if dk_hb g t.2 then 4 else 0) else if t.1 = 11 then (if dk_hk l = 8 ∧ dk_et l.tail then 5 else 0) else 0
def dk_rx (g : dk_G) (eta : Bool) (l : List dk_T) : Bool := decide (dk_ru g l ≠ 0) && (eta || decide (dk_ru g l ≠ 5))
def dk_b (b : Bool) : Int32 := if b then 1 else 0
theorem dk_b_n (b : Bool) : narrow .boolean (.int (dk_b b)) = .int (dk_b b) := by cases b <;> rfl
theorem xl_hasBody {post : Int32 → Prop} {g : dk_G} {u : SX} {v : Int32} (hg : ga_ok g) (h : px_G g u) (hp : post (dk_b (dk_hb g v))) : wpX_hasBody post u v := by
  rw [xe_hasBody, h.2.2.2.2.1, h.2.2.2.2.2.1]
  have hne : ga_ne g ≤ 16 := by have := hg.2.2.2.2.2.2.2; omega
  refine br_c (fun a => ?_) fun a => br_c (fun b => ?_) fun b => ⟨?_, br_c (fun c => ?_) fun c => ?_⟩
  · have : dk_hb g v = false := by unfold dk_hb; simp [a]
    rw [this] at hp; exact hp
  · have : dk_hb g v = false := by unfold dk_hb; simp [b]
    rw [this] at hp; exact hp
  · obtain ⟨j, hj, rfl⟩ := nI_of a
    rw [nI_leI (by omega) hj] at b
    exact vp_in_nI (by omega) (by omega)
  · have : dk_hb g v = false := by unfold dk_hb; simp [c]
    rw [this] at hp; exact hp
  · have : dk_hb g v = true := by unfold dk_hb; simp only [decide_eq_true a, decide_eq_true b, decide_eq_true c]; rfl
    rw [this] at hp; exact hp
theorem xl_skip' {post : Int32 → Prop} {u : SX} {x : Int32} {T pre S suf : List dk_T} (hC : px_C T u) (e : T = pre ++ S ++ suf) (hS : dk_fo S 1) (hx : x = nI pre.length) (hp : post (nI (pre.length + S.length))) : wpX_skip post u x := by
  subst hx e
  exact xl_skip hC hS hp
theorem xl_occurs' {post : Int32 → Prop} {T pre S suf : List dk_T} {u : SX} {x y z : Int32} (hC : px_C T u) (e : T = pre ++ S ++ suf) (hT : dk_fo T 1) (hS : dk_fo S 1) (hx : x = nI pre.length) (hy : y = nI (pre.length + S.length)) (hp : post (dk_b (dk_oc S z))) : wpX_occurs post u x y z := by
  subst hx hy
  exact xl_occurs e hT hS hC hp
theorem xl_isEta {post : Int32 → Prop} {T pre l : List dk_T} {t q : dk_T} {m : Nat} {u : SX} (hC : px_C T u) (hT : dk_fo T 1) (e : T = pre ++ t :: q :: l) (hl : dk_fo l (2 + m)) (hp : post (dk_b (dk_et l))) : wpX_isEta post u (nI pre.length) := by
  rw [show 2 + m = 1 + (1 + m) from by omega] at hl
  obtain ⟨f, r, rfl, hf, hr⟩ := dk_fo_split hl
  rw [show 1 + m = m + 1 from by omega] at hr
  obtain ⟨a, r', rfl, hr'⟩ := dk_fo_pos hr
  have e1 : T = (pre ++ [t, q]) ++ f ++ (a :: r') := by rw [e]; simp
  have ex : nI pre.length + 2 = nI (pre ++ [t, q]).length := (nI_add _ 2).trans (congrArg nI (by simp))
  rw [xe_isEta]
  refine xl_skip' hC e1 hf ex ?_
  have ha : T[(pre ++ [t, q]).length + f.length]? = some a := by
    rw [e1, ← List.length_append]
    exact dk_at
  obtain ⟨c1, c2, c3, c4⟩ := pc_g hC ha
  have hsk : dk_sk (f ++ a :: r') 1 = f.length := dk_sk_fo hf
  have het : dk_et (f ++ a :: r') = (decide (a = (5, 0)) && !(dk_oc f 0)) := by
    unfold dk_et
    rw [hsk]; simp
  rw [het] at hp
  simp only [nI_clamp (show (pre ++ [t, q]).length + f.length < 2 ^ 31 by omega), c1, c2, hC.1]
  refine br_f (nI_ge c3 (by omega)) ⟨vp_in_nI (by omega) (by omega), br_c (fun h1 => ⟨vp_in_nI (by omega) (by omega), br_c (fun h2 => ?_) fun h2 => ?_⟩) fun h1 => ?_⟩
  · have ha : a = (5, 0) := Prod.ext h1 h2
    rw [decide_eq_true ha, Bool.true_and] at hp
    refine xl_occurs' hC e1 hT hf ex rfl ?_
    cases hc : dk_oc f 0 with
    | true => rw [hc] at hp; exact br_f (by decide) hp
    | false => rw [hc] at hp; exact br_t rfl hp
  · rw [decide_eq_false (fun z => h2 (by rw [z])), Bool.false_and] at hp; exact hp
  · rw [decide_eq_false (fun z => h1 (by rw [z])), Bool.false_and] at hp; exact hp
theorem xl_isRedex {post : Int32 → Prop} {g : dk_G} {T pre l : List dk_T} {t : dk_T} {u : SX} {eta : Bool} (hg : ga_ok g) (hG : px_G g u) (hC : px_C T u) (hT : dk_fo T 1) (e : T = pre ++ t :: l) (hp : post (dk_b (dk_rx g eta (t :: l)))) : wpX_isRedex post u (nI pre.length) (dk_b eta) := by
  obtain ⟨c1, c2, c3, c4⟩ := pc_g hC (show T[pre.length]? = some t by rw [e]; simp)
  obtain ⟨m, hm, hf⟩ := dk_fo_suf (a := pre) (b := t :: l) (by rw [← e]; exact hT) (by simp)
  rw [xe_isRedex, nI_clamp (by omega), c1, c2, nI_1]
  unfold dk_rx at hp
  refine ⟨vp_in_nI (by omega) (by omega), nm_e (br_c (fun h10 => ⟨vp_in_nI (by omega) (by omega), ?_⟩) fun h10 => ?_)⟩
  · refine xl_hasBody hg hG ⟨dk_b_n _, ?_⟩
    have : dk_ru g (t :: l) = if dk_hb g t.2 then 4 else 0 := by
      show (if t.1 = 8 then _ else if t.1 = 9 then _ else if t.1 = 10 then _ else _) = _
      rw [if_neg (by rw [h10]; decide), if_neg (by rw [h10]; decide), if_pos h10]
    rw [this] at hp
    cases hh : dk_hb g t.2 with
    | true => rw [hh] at hp; cases eta <;> exact hp
    | false => rw [hh] at hp; cases eta <;> exact hp
  · cases l with
    | nil =>
      refine br_f (by rw [hC.1, e]; exact nI_nlt (by simp) (by simp; omega)) ?_
      have : dk_ru g [t] = 0 := by
        show (if t.1 = 8 then _ else if t.1 = 9 then _ else if t.1 = 10 then _ else if t.1 = 11 then _ else _) = _
        simp [dk_hk, h10]
      rw [this] at hp
      exact hp
    | cons q l =>
      have hq : T[pre.length + 1]? = some q := by
        rw [e, List.getElem?_append_right (by omega)]; simp
      obtain ⟨q1, q2, q3, q4⟩ := pc_g hC hq
      refine br_t (by rw [hC.1]; exact nI_lt q3 (by omega)) ?_
      rw [nI_clamp (by omega), q1]
      refine ⟨vp_in_nI (by omega) (by omega), nm_e ?_⟩
      have hru : dk_ru g (t :: q :: l) = if t.1 = 8 then (if q.1 = 7 ∨ q.1 = 11 then 1 else 0) else if t.1 = 9 then (if q.1 = 3 then 2 else if q.1 = 4 then 3 else 0) else if t.1 = 10 then (if dk_hb g t.2 then 4 else 0) else if t.1 = 11 then (if q.1 = 8 ∧ dk_et l then 5 else 0) else 0 := rfl
      rw [if_neg h10] at hru
      have fin : ∀ (x : Nat), dk_ru g (t :: q :: l) = x → x ≠ 5 → post (dk_b (decide (x ≠ 0))) := by
        intro x hx h5
        rw [hx, decide_eq_true h5, Bool.or_true, Bool.and_true] at hp
        exact hp
      refine br_c (fun h8 => ?_) fun h8 => br_c (fun h9 => ?_) fun h9 => br_c (fun h11 => ?_) fun h11 => ?_
      · rw [if_pos h8] at hru
        refine br_c (fun h7 => ?_) fun h7 => br_c (fun hx => ?_) fun hx => ?_
        · exact fin 1 (by rw [hru, if_pos (Or.inl h7)]) (by decide)
        · exact fin 1 (by rw [hru, if_pos (Or.inr hx)]) (by decide)
        · exact fin 0 (by rw [hru, if_neg (fun z => z.elim h7 hx)]) (by decide)
      · rw [if_neg h8, if_pos h9] at hru
        refine br_c (fun h3 => ?_) fun h3 => br_c (fun h4 => ?_) fun h4 => ?_
        · exact fin 2 (by rw [hru, if_pos h3]) (by decide)
        · exact fin 3 (by rw [hru, if_neg h3, if_pos h4]) (by decide)
        · exact fin 0 (by rw [hru, if_neg h3, if_neg h4]) (by decide)
      · rw [if_neg h8, if_neg h9, if_pos h11] at hru
        cases eta with
        | false =>
          refine br_t rfl ?_
          rw [hru] at hp
          by_cases hx : q.1 = 8 ∧ dk_et l = true
          · rw [if_pos hx] at hp; exact hp
          · rw [if_neg hx] at hp; exact hp
        | true =>
          refine br_f (by decide) (br_c (fun hx => ?_) fun hx => ?_)
          · have hf2 := hf.2.2
            rw [h11, hx, show dk_ar 11 = 1 from by decide, show dk_ar 8 = 2 from by decide, show m - 1 + 1 - 1 + 2 = 2 + (m - 1) from by omega] at hf2
            refine xl_isEta hC hT e hf2 ⟨dk_b_n _, ?_⟩
            rw [hru] at hp
            cases he : dk_et l with
            | true => rw [he, if_pos ⟨hx, rfl⟩] at hp; exact hp
            | false => rw [he, if_neg (by simp)] at hp; exact hp
          · exact fin 0 (by rw [hru, if_neg (fun z => hx z.1)]) (by decide)
      · rw [if_neg h8, if_neg h9, if_neg h11] at hru
        exact fin 0 hru (by decide)
/-- the place of redex number k -/
def dk_fr (g : dk_G) (eta : Bool) : List dk_T → Nat → Option Nat
  | [], _ => none
  | t :: l, k => if dk_rx g eta (t :: l) then (if k = 0 then some 0 else (dk_fr g eta l (k - 1)).map (· + 1)) else (dk_fr g eta l k).map (· + 1)
theorem xl_findRedex_5 {post : Int32 → Prop} {g : dk_G} {T : List dk_T} {u : SX} {eta : Bool} (hg : ga_ok g) (hG : px_G g u) (hC : px_C T u) (hT : dk_fo T 1) : ∀ {l pre : List dk_T} {n s k : Nat}, T = pre ++ l → l.length < n → s + l.length ≤ 256 → s + k < 2 ^ 31 → (dk_fr g eta l k = none → post (-13)) → (∀ j, dk_fr g eta l k = some j → post (nI (pre.length + j))) → xv_findRedex_5 post (nI (s + k)) (dk_b eta) n (nI s) (nI pre.length) u := by
  intro l
  induction l with
  | nil =>
    intro pre n s k e hn hs hk h1 h2
    obtain ⟨n, rfl⟩ : ∃ c, n = c + 1 := ⟨n - 1, by simp at hn; omega⟩
    rw [xe_findRedex_5, hC.1, e, List.append_nil]
    exact br_t (Int32.le_refl _) (h1 rfl)
  | cons t l ih =>
    intro pre n s k e hn hs hk h1 h2
    obtain ⟨n, rfl⟩ : ∃ c, n = c + 1 := ⟨n - 1, by simp at hn; omega⟩
    have hlen : T.length = pre.length + (l.length + 1) := by rw [e]; simp
    have h256 := hC.2.1
    simp at hs hn
    rw [xe_findRedex_5, hC.1]
    refine br_f (nI_ge (by omega) (by omega)) (xl_isRedex hg hG hC hT e ?_)
    have e2 : pre.length + 1 = (pre ++ [t]).length := by simp
    have hfr : dk_fr g eta (t :: l) k = if dk_rx g eta (t :: l) then (if k = 0 then some 0 else (dk_fr g eta l (k - 1)).map (· + 1)) else (dk_fr g eta l k).map (· + 1) := rfl
    rw [nI_1]
    cases hr : dk_rx g eta (t :: l) with
    | false =>
      rw [hr, if_neg (by simp)] at hfr
      refine br_t rfl (nm_e ?_)
      rw [e2]
      refine ih (by rw [e]; simp) (by omega) (by omega) hk ?_ ?_
      · intro z; exact h1 (by rw [hfr, z]; rfl)
      · intro j z
        have := h2 (j + 1) (by rw [hfr, z]; rfl)
        rw [show (pre ++ [t]).length + j = pre.length + (j + 1) from by simp; omega]
        exact this
    | true =>
      rw [hr, if_pos rfl] at hfr
      refine br_f (by decide) (br_c (fun hk0 => ?_) fun hk0 => nm_r (nI_1 _) (nm_e ?_))
      · have hk0 : k = 0 := by have := (nI_eq (by omega) hk).mp hk0; omega
        rw [if_pos hk0] at hfr
        exact h2 0 hfr
      · have hk0 : k ≠ 0 := fun z => hk0 (by rw [z]; rfl)
        rw [if_neg hk0] at hfr
        rw [e2, show s + k = s + 1 + (k - 1) from by omega]
        refine ih (by rw [e]; simp) (by omega) (by omega) (by omega) ?_ ?_
        · intro z; exact h1 (by rw [hfr, z]; rfl)
        · intro j z
          have := h2 (j + 1) (by rw [hfr, z]; rfl)
          rw [show (pre ++ [t]).length + j = pre.length + (j + 1) from by simp; omega]
          exact this
theorem xl_findRedex {post : Int32 → Prop} {g : dk_G} {T : List dk_T} {u : SX} {eta : Bool} {k : Nat} (hg : ga_ok g) (hG : px_G g u) (hC : px_C T u) (hT : dk_fo T 1) (hk : k < 2 ^ 31) (h1 : dk_fr g eta T k = none → post (-13)) (h2 : ∀ j, dk_fr g eta T k = some j → post (nI j)) : wpX_findRedex post u (nI k) (dk_b eta) := by
  rw [xe_findRedex]
  refine ⟨T.length + 1, ?_⟩
  have := xl_findRedex_5 (post := post) (eta := eta) hg hG hC hT (l := T) (pre := []) (n := T.length + 1) (s := 0) (k := k) rfl (by omega) (by have := hC.2.1; omega) (by omega) h1 (by simpa using h2)
  rw [Nat.zero_add] at this
  exact this
end
section
/-! contraction: the redex S becomes S' -/
def dk_R1 (S S' : List dk_T) : Prop := ∃ t q B Y, S = t :: q :: (B ++ Y) ∧ t.1 = 8 ∧ q.1 = 11 ∧ dk_fo B 1 ∧ dk_fo Y 1 ∧ S' = dk_su B Y
def dk_R1' (S S' : List dk_T) : Prop := ∃ t q D B Y, S = t :: q :: (D ++ (B ++ Y)) ∧ t.1 = 8 ∧ q.1 = 7 ∧ dk_fo D 1 ∧ dk_fo B 1 ∧ dk_fo Y 1 ∧ S' = dk_su B Y
def dk_R2 (S S' : List dk_T) : Prop := ∃ t q P Z W, S = t :: q :: (P ++ (Z ++ W)) ∧ t.1 = 9 ∧ q.1 = 3 ∧ dk_fo P 1 ∧ dk_fo Z 1 ∧ dk_fo W 1 ∧ S' = Z
def dk_R3 (S S' : List dk_T) : Prop := ∃ t q N P Z W, S = t :: q :: (N ++ (P ++ (Z ++ W))) ∧ t.1 = 9 ∧ q.1 = 4 ∧ dk_fo N 1 ∧ dk_fo P 1 ∧ dk_fo Z 1 ∧ dk_fo W 1 ∧ S' = (8, 0) :: (8, 0) :: (W ++ (N ++ ((9, 0) :: (N ++ (P ++ (Z ++ W))))))
def dk_R4 (g : dk_G) (A : List (List dk_T)) (e : Bool) (S S' : List dk_T) : Prop := ∃ j b Bd, S = [(10, nI j)] ∧ j < ga_ne g ∧ ga_eb g j = nI b ∧ A[b]? = some Bd ∧ S' = dk_em e Bd
def dk_R5 (S S' : List dk_T) : Prop := ∃ t q f, S = t :: q :: (f ++ [(5, 0)]) ∧ t.1 = 11 ∧ q.1 = 8 ∧ dk_fo f 1 ∧ S' = dk_sh (-1) f
def dk_Rd (g : dk_G) (A : List (List dk_T)) (e : Bool) (h : Nat) (S S' : List dk_T) : Prop :=
  (h = 1 ∧ dk_R1 S S') ∨ (h = 1 ∧ dk_R1' S S') ∨ (h = 2 ∧ dk_R2 S S') ∨ (h = 3 ∧ dk_R3 S S') ∨ (h = 4 ∧ dk_R4 g A e S S') ∨ (h = 5 ∧ dk_R5 S S')
theorem dk_fo_repl : ∀ {pre S S' suf : List dk_T} {n : Nat}, dk_fo S 1 → dk_fo S' 1 → dk_fo (pre ++ S ++ suf) n → dk_fo (pre ++ S' ++ suf) n := by
  intro pre
  induction pre with
  | nil =>
    intro S S' suf n hS hS' h
    obtain ⟨k, rfl⟩ : ∃ k, n = 1 + k := by
      refine ⟨n - 1, ?_⟩
      cases S with
      | nil => exact absurd (show (1 : Nat) = 0 from hS) (by omega)
      | cons t S => have := h.1; omega
    obtain ⟨a, b, e, ha, hb⟩ := dk_fo_split h
    obtain ⟨_, e2⟩ := dk_fo_pre hS ha e
    rw [e2]
    exact dk_fo_app hS' hb
  | cons t pre ih => intro S S' suf n hS hS' h; exact ⟨h.1, ih hS hS' h.2⟩
section
variable {post : SX → Prop} {g : dk_G} {A : List (List dk_T)} {M : dk_M} {F : dk_F} {T : List dk_T} {cap : Nat}
theorem xl_emitRange' {l pre suf O : List dk_T} {u : SX} {x y : Int32} (h : px_R g A M F T cap O u) (e : T = pre ++ l ++ suf) (hx : x = nI pre.length) (hy : y = nI (pre.length + l.length)) (hp : ∀ u', px_R g A M F T cap (O ++ l) u' → post u') : wpX_emitRange post u x y := by
  subst hx hy
  exact xl_emitRange e h hp
theorem xl_emitShifted' {pre S suf O : List dk_T} {u : SX} {b x y : Int32} (h : px_R g A M F T cap O u) (e : T = pre ++ S ++ suf) (hS : dk_fo S 1) (hx : x = nI pre.length) (hy : y = nI (pre.length + S.length)) (hp : ∀ u', px_R g A M F T cap (O ++ dk_sh b S) u' → post u') : wpX_emitShifted post u x y b := by
  subst hx hy
  exact xl_emitShifted e hS h hp
theorem xl_emitSubst' {pre B Y suf O : List dk_T} {u : SX} {x y z : Int32} (h : px_R g A M F T cap O u) (e : T = pre ++ B ++ Y ++ suf) (hB : dk_fo B 1) (hY : dk_fo Y 1) (hx : x = nI pre.length) (hy : y = nI (pre.length + B.length)) (hz : z = nI (pre.length + B.length + Y.length)) (hp : ∀ u', px_R g A M F T cap (O ++ dk_su B Y) u' → post u') : wpX_emitSubst post u x y z := by
  subst hx hy hz
  exact xl_emitSubst e hB hY h hp
theorem xl_emitBeta_25 {pre B Y suf O : List dk_T} {u : SX} {x z : Int32} (h : px_R g A M F T cap O u) (e : T = pre ++ B ++ Y ++ suf) (hB : dk_fo B 1) (hY : dk_fo Y 1) (hx : x = nI pre.length) (hz : z = nI (pre.length + B.length + Y.length)) (hp : ∀ u', px_R g A M F T cap (O ++ dk_su B Y) u' → post u') : xv_emitBeta_25 post z x u := by
  rw [xe_emitBeta_25]
  exact xl_skip' h.2.2.2.2.1 (pre := pre) (S := B) (suf := Y ++ suf) (by rw [e]; simp) hB hx (xl_emitSubst' h e hB hY hx rfl hz hp)
theorem ni_p1 {α : Type} {pre : List α} (a : α) : nI pre.length + 1 = nI (pre ++ [a]).length := (nI_1 _).trans (congrArg nI (by simp only [List.length_append, List.length_cons, List.length_nil] <;> omega))
theorem ni_p2 {α : Type} {pre : List α} (a b : α) : nI pre.length + 2 = nI (pre ++ [a, b]).length := (nI_add _ 2).trans (congrArg nI (by simp only [List.length_append, List.length_cons, List.length_nil] <;> omega))
theorem xl_R1 {pre S S' suf O : List dk_T} {u : SX} (h : px_R g A M F T cap O u) (e : T = pre ++ S ++ suf) (hr : dk_R1 S S') (hp : ∀ u', px_R g A M F T cap (O ++ S') u' → post u') : wpX_emitBeta post u (nI pre.length) (nI (pre.length + S.length)) := by
  obtain ⟨t, q, B, Y, rfl, h1, h2, hB, hY, rfl⟩ := hr
  obtain ⟨q1, q2, q3, q4⟩ := pc_g h.2.2.2.2.1 (show T[pre.length + 1]? = some q by rw [e, List.append_assoc, List.getElem?_append_right (by omega)]; simp)
  rw [xe_emitBeta]
  refine nm_r (ni_p2 t q) ?_
  rw [nI_1, nI_clamp (by omega), q1, h2]
  refine ⟨vp_in_nI (by omega) (by omega), br_f (by decide) ?_⟩
  exact xl_emitBeta_25 h (pre := pre ++ [t, q]) (suf := suf) (by rw [e]; simp) hB hY rfl (congrArg nI (by simp only [List.length_append, List.length_cons, List.length_nil] <;> omega)) hp
theorem xl_R1' {pre S S' suf O : List dk_T} {u : SX} (h : px_R g A M F T cap O u) (e : T = pre ++ S ++ suf) (hr : dk_R1' S S') (hp : ∀ u', px_R g A M F T cap (O ++ S') u' → post u') : wpX_emitBeta post u (nI pre.length) (nI (pre.length + S.length)) := by
  obtain ⟨t, q, D, B, Y, rfl, h1, h2, hD, hB, hY, rfl⟩ := hr
  obtain ⟨q1, q2, q3, q4⟩ := pc_g h.2.2.2.2.1 (show T[pre.length + 1]? = some q by rw [e, List.append_assoc, List.getElem?_append_right (by omega)]; simp)
  rw [xe_emitBeta]
  refine nm_r (ni_p2 t q) ?_
  rw [nI_1, nI_clamp (by omega), q1, h2]
  refine ⟨vp_in_nI (by omega) (by omega), br_t rfl ?_⟩
  refine xl_skip' h.2.2.2.2.1 (pre := pre ++ [t, q]) (S := D) (suf := B ++ Y ++ suf) (by rw [e]; simp) hD (ni_p2 t q) ?_
  exact xl_emitBeta_25 h (pre := pre ++ [t, q] ++ D) (suf := suf) (by rw [e]; simp) hB hY (congrArg nI (by simp only [List.length_append, List.length_cons, List.length_nil] <;> omega)) (congrArg nI (by simp only [List.length_append, List.length_cons, List.length_nil] <;> omega)) hp
theorem xl_R2 {pre S S' suf O : List dk_T} {u : SX} (h : px_R g A M F T cap O u) (e : T = pre ++ S ++ suf) (hr : dk_R2 S S') (hp : ∀ u', px_R g A M F T cap (O ++ S') u' → post u') : wpX_emitIota post u (nI pre.length) (nI (pre.length + S.length)) := by
  obtain ⟨t, q, P, Z, W, rfl, h1, h2, hP, hZ, hW, rfl⟩ := hr
  obtain ⟨q1, q2, q3, q4⟩ := pc_g h.2.2.2.2.1 (show T[pre.length + 1]? = some q by rw [e, List.append_assoc, List.getElem?_append_right (by omega)]; simp)
  have hC := h.2.2.2.2.1
  have hq : dk_fo [q] 1 := ⟨by omega, by show _ = 0; rw [h2]; decide⟩
  rw [xe_emitIota]
  refine xl_skip' hC (pre := pre ++ [t]) (S := [q]) (suf := P ++ (S' ++ W) ++ suf) (by rw [e]; simp) hq (ni_p1 t) ?_
  refine xl_skip' hC (pre := pre ++ [t, q]) (S := P) (suf := S' ++ W ++ suf) (by rw [e]; simp) hP (congrArg nI (by simp only [List.length_append, List.length_cons, List.length_nil] <;> omega)) ?_
  refine xl_skip' hC (pre := pre ++ [t, q] ++ P) (S := S') (suf := W ++ suf) (by rw [e]; simp) hZ (congrArg nI (by simp only [List.length_append, List.length_cons, List.length_nil] <;> omega)) ?_
  rw [nI_1, nI_clamp (by omega), q1, h2]
  refine ⟨vp_in_nI (by omega) (by omega), br_t rfl ?_⟩
  exact xl_emitRange' h (pre := pre ++ [t, q] ++ P) (l := S') (suf := W ++ suf) (by rw [e]; simp) (congrArg nI (by simp only [List.length_append, List.length_cons, List.length_nil] <;> omega)) rfl hp
theorem xl_R3 {pre S S' suf O : List dk_T} {u : SX} (h : px_R g A M F T cap O u) (e : T = pre ++ S ++ suf) (hr : dk_R3 S S') (hp : ∀ u', px_R g A M F T cap (O ++ S') u' → post u') : wpX_emitIota post u (nI pre.length) (nI (pre.length + S.length)) := by
  obtain ⟨t, q, N, P, Z, W, rfl, h1, h2, hN, hP, hZ, hW, rfl⟩ := hr
  obtain ⟨q1, q2, q3, q4⟩ := pc_g h.2.2.2.2.1 (show T[pre.length + 1]? = some q by rw [e, List.append_assoc, List.getElem?_append_right (by omega)]; simp)
  have hC := h.2.2.2.2.1
  have hq : dk_fo (q :: N) 1 := ⟨by omega, by rw [h2]; exact hN⟩
  rw [xe_emitIota]
  refine xl_skip' hC (pre := pre ++ [t]) (S := q :: N) (suf := P ++ (Z ++ W) ++ suf) (by rw [e]; simp) hq (ni_p1 t) ?_
  refine xl_skip' hC (pre := pre ++ [t] ++ q :: N) (S := P) (suf := Z ++ W ++ suf) (by rw [e]; simp) hP (congrArg nI (by simp only [List.length_append, List.length_cons, List.length_nil] <;> omega)) ?_
  refine xl_skip' hC (pre := pre ++ [t] ++ q :: N ++ P) (S := Z) (suf := W ++ suf) (by rw [e]; simp) hZ (congrArg nI (by simp only [List.length_append, List.length_cons, List.length_nil] <;> omega)) ?_
  rw [nI_1, nI_clamp (by omega), q1, h2]
  refine ⟨vp_in_nI (by omega) (by omega), br_f (by decide) ?_⟩
  refine xl_emit h fun u1 _ h1 => xl_emit h1 fun u2 _ h2 => ?_
  refine xl_emitRange' h2 (pre := pre ++ [t] ++ q :: N ++ P ++ Z) (l := W) (suf := suf) (by rw [e]; simp) (congrArg nI (by simp only [List.length_append, List.length_cons, List.length_nil] <;> omega)) (congrArg nI (by simp only [List.length_append, List.length_cons, List.length_nil] <;> omega)) fun u3 h3 => ?_
  refine xl_emitRange' h3 (pre := pre ++ [t, q]) (l := N) (suf := P ++ Z ++ W ++ suf) (by rw [e]; simp) (ni_p2 t q) (congrArg nI (by simp only [List.length_append, List.length_cons, List.length_nil] <;> omega)) fun u4 h4 => ?_
  refine xl_emit h4 fun u5 _ h5 => ?_
  refine xl_emitRange' h5 (pre := pre ++ [t, q]) (l := N ++ (P ++ (Z ++ W))) (suf := suf) (by rw [e]; simp) (ni_p2 t q) (congrArg nI (by simp only [List.length_append, List.length_cons, List.length_nil] <;> omega)) fun u6 h6 => ?_
  refine hp u6 ?_
  simpa using h6
/-- the rest of a contraction -/
theorem xl_contract_100 {post : Int32 → SX → Prop} {pre S S' suf : List dk_T} {u : SX} {x : Int32} (h : px_R g A M F T cap (pre ++ S') u) (e : T = pre ++ S ++ suf) (hx : x = nI (pre.length + S.length)) (hf : dk_fo (pre ++ S' ++ suf) 1) (h1 : (pre ++ S' ++ suf).length ≤ cap → ∀ u', px_R g A M F (pre ++ S' ++ suf) cap (pre ++ S' ++ suf) u' → post 1 u') (h2 : cap < (pre ++ S' ++ suf).length → ∀ u', px_R g A M F T cap (pre ++ S' ++ suf) u' → post 0 u') : xv_contract_100 post x u := by
  rw [xe_contract_100]
  refine xl_emitRange' h (pre := pre ++ S) (l := suf) (suf := []) (by rw [e]; simp) (by rw [hx]; simp) (by rw [h.2.2.2.2.1.1, e]; exact congrArg nI (by simp only [List.length_append])) fun u1 h3 => ?_
  exact xl_commit h3 hf (fun hl u' h' => ⟨dk_b_n true, h1 hl u' h'⟩) (fun hl u' h' => ⟨dk_b_n false, h2 hl u' h'⟩)
theorem xl_contract {post : Int32 → SX → Prop} {e : Bool} {n : Nat} (hg : ga_ok g) (hA : ∀ S ∈ A, dk_gd (ga_ne g) S ∧ S.length ≤ ga_WL g) (hAl : A.length ≤ 256) {pre S S' suf O : List dk_T} {u : SX} (h : px_R g A M F T cap O u) (eT : T = pre ++ S ++ suf) (hS : dk_fo S 1) (hr : dk_Rd g A e n S S') (hf : dk_fo (pre ++ S' ++ suf) 1) (h1 : (pre ++ S' ++ suf).length ≤ ga_WL g → ∀ u', px_R g A M F (pre ++ S' ++ suf) (ga_WL g) (pre ++ S' ++ suf) u' → post 1 u') (h2 : ga_WL g < (pre ++ S' ++ suf).length → ∀ u', px_R g A M F T (ga_WL g) (pre ++ S' ++ suf) u' → post 0 u') : wpX_contract post u (nI pre.length) (dk_b e) := by
  rw [xe_contract, h.1.2.1]
  refine xl_skip' h.2.2.2.2.1 eT hS rfl ?_
  refine xl_begin h (by have := hg.2.2.2.1; omega) fun u1 h3 => ?_
  refine xl_emitRange' h3 (pre := []) (l := pre) (suf := S ++ suf) (by rw [eT]; simp) rfl (by simp) fun u2 h4 => ?_
  rw [List.nil_append] at h4
  have hC := h4.2.2.2.2.1
  have hk : ∀ t l, S = t :: l → xg_curKind u2 (nI pre.length).toNatClampNeg = t.1 ∧ xg_curVal u2 (nI pre.length).toNatClampNeg = t.2 ∧ vp_in (nI pre.length) 256 := by
    intro t l hl
    obtain ⟨c1, c2, c3, c4⟩ := pc_g hC (show T[pre.length]? = some t by rw [eT, hl]; simp)
    rw [nI_clamp (by omega)]
    exact ⟨c1, c2, vp_in_nI (by omega) (by omega)⟩
  rcases hr with ⟨_, hr⟩ | ⟨_, hr⟩ | ⟨_, hr⟩ | ⟨_, hr⟩ | ⟨_, hr⟩ | ⟨_, hr⟩
  · have hr' := hr
    obtain ⟨t, q, B, Y, eS, k1, _⟩ := hr'
    obtain ⟨c1, c2, c3⟩ := hk t _ eS
    refine ⟨c3, nm_r (c1.trans k1) (br_f (by decide) (br_f (by decide) (br_t rfl ?_)))⟩
    exact xl_R1 h4 eT hr fun u3 h5 => xl_contract_100 h5 eT rfl hf h1 h2
  · have hr' := hr
    obtain ⟨t, q, D, B, Y, eS, k1, _⟩ := hr'
    obtain ⟨c1, c2, c3⟩ := hk t _ eS
    refine ⟨c3, nm_r (c1.trans k1) (br_f (by decide) (br_f (by decide) (br_t rfl ?_)))⟩
    exact xl_R1' h4 eT hr fun u3 h5 => xl_contract_100 h5 eT rfl hf h1 h2
  · have hr' := hr
    obtain ⟨t, q, P, Z, W, eS, k1, _⟩ := hr'
    obtain ⟨c1, c2, c3⟩ := hk t _ eS
    refine ⟨c3, nm_r (c1.trans k1) (br_f (by decide) (br_f (by decide) (br_f (by decide) (br_t rfl ?_))))⟩
    exact xl_R2 h4 eT hr fun u3 h5 => xl_contract_100 h5 eT rfl hf h1 h2
  · have hr' := hr
    obtain ⟨t, q, N, P, Z, W, eS, k1, _⟩ := hr'
    obtain ⟨c1, c2, c3⟩ := hk t _ eS
    refine ⟨c3, nm_r (c1.trans k1) (br_f (by decide) (br_f (by decide) (br_f (by decide) (br_t rfl ?_))))⟩
    exact xl_R3 h4 eT hr fun u3 h5 => xl_contract_100 h5 eT rfl hf h1 h2
  · obtain ⟨j, b, Bd, eS, hj, hb, hA4, rfl⟩ := hr
    obtain ⟨c1, c2, c3⟩ := hk _ _ eS
    have hj16 : j < 16 := by have := hg.2.2.2.2.2.2.2; omega
    refine ⟨c3, nm_r (show xg_curKind u2 (nI pre.length).toNatClampNeg = 10 from c1) (br_f (by decide) (br_f (by decide) (br_f (by decide) (br_f (by decide) (br_t rfl ⟨c3, ?_⟩)))))⟩
    rw [c2, h4.1.2.2.2.2.2.1]
    dsimp only
    rw [nI_clamp (by omega), hb]
    refine ⟨vp_in_nI (by omega) (by omega), ?_⟩
    have hB := hA Bd (List.mem_of_getElem? hA4)
    exact xl_emitNode e (fun S hS => (hA S hS).1) hAl hA4 (by have := hg.2.2.2.1; omega) h4 fun u3 h5 => xl_contract_100 h5 eT rfl hf h1 h2
  · obtain ⟨t, q, f, eS, k1, k2, hff, rfl⟩ := hr
    obtain ⟨c1, c2, c3⟩ := hk t _ eS
    refine ⟨c3, nm_r (c1.trans k1) (br_f (by decide) (br_t (by decide) ?_))⟩
    refine xl_emitShifted' h4 (pre := pre ++ [t, q]) (S := f) (suf := [(5, 0)] ++ suf) (by rw [eT, eS]; simp) hff (ni_p2 t q) ?_ fun u3 h5 => xl_contract_100 h5 eT rfl hf h1 h2
    rw [eS, ni_s1 (by simp; omega)]
    exact congrArg nI (by simp; omega)
end
end
section
/-! the picture of Y's state; reading -/
def dk_en (t : dk_T) : Int64 := t.1.toInt64 + 16 * t.2.toInt64
theorem dk_en_and (v : Int64) (k : Nat) (hk : k < 16) : (lN k + 16 * v) &&& 15 = lN k := by
  apply Int64.toBitVec_inj.mp
  apply BitVec.eq_of_toNat_eq
  rw [Int64.toBitVec_and, BitVec.toNat_and, show (15 : Int64).toBitVec.toNat = 2 ^ 4 - 1 from by decide, Nat.and_two_pow_sub_one_eq_mod, Int64.toBitVec_add, BitVec.toNat_add, Int64.toBitVec_mul, BitVec.toNat_mul, show (16 : Int64).toBitVec.toNat = 16 from by decide]
  have e : (lN k).toBitVec.toNat = k := by
    show (BitVec.ofNat 64 k).toNat = k
    rw [BitVec.toNat_ofNat]; omega
  rw [e]
  omega
theorem dk_en_kind {t : dk_T} (hk : dk_kk t.1) : (dk_en t &&& 15).toInt32 = t.1 := by
  obtain ⟨k, v⟩ := t
  have h : ∃ n : Nat, n < 16 ∧ k = nI n := by
    rcases hk with h | h | h | h | h | h | h | h | h | h | h
    · exact ⟨1, by decide, h⟩
    · exact ⟨2, by decide, h⟩
    · exact ⟨3, by decide, h⟩
    · exact ⟨4, by decide, h⟩
    · exact ⟨5, by decide, h⟩
    · exact ⟨6, by decide, h⟩
    · exact ⟨7, by decide, h⟩
    · exact ⟨8, by decide, h⟩
    · exact ⟨9, by decide, h⟩
    · exact ⟨10, by decide, h⟩
    · exact ⟨11, by decide, h⟩
  obtain ⟨n, hn, rfl⟩ := h
  show (((nI n).toInt64 + 16 * v.toInt64) &&& 15).toInt32 = nI n
  rw [nI_l (by omega), dk_en_and _ _ hn, lN_i]
theorem dk_en_toInt {t : dk_T} (hk : dk_kk t.1) : (dk_en t).toInt = t.1.toInt + 16 * t.2.toInt ∧ 0 ≤ t.1.toInt ∧ t.1.toInt < 16 := by
  obtain ⟨k, v⟩ := t
  have h : 0 ≤ k.toInt ∧ k.toInt < 16 := by
    rcases hk with h | h | h | h | h | h | h | h | h | h | h <;> (simp only at h; subst h; decide)
  refine ⟨?_, h⟩
  have h1 := v.le_toInt
  have h2 := v.toInt_lt
  show (k.toInt64 + 16 * v.toInt64).toInt = k.toInt + 16 * v.toInt
  rw [Int64.toInt_add, Int64.toInt_mul, Int32.toInt_toInt64, Int32.toInt_toInt64, show (16 : Int64).toInt = 16 from by decide]
  rw [Int.bmod_eq_of_le (n := 16 * v.toInt) (by omega) (by omega)]
  exact Int.bmod_eq_of_le (by omega) (by omega)
theorem dk_en_val {t : dk_T} (hk : dk_kk t.1) : (dk_en t >>> ((4 : Int32).toInt64 &&& 63)).toInt32 = t.2 := by
  obtain ⟨h1, h2, h3⟩ := dk_en_toInt hk
  have e : dk_en t >>> ((4 : Int32).toInt64 &&& 63) = t.2.toInt64 := by
    apply Int64.toInt_inj.mp
    have : (dk_en t >>> ((4 : Int32).toInt64 &&& 63)).toInt = (dk_en t).toInt >>> 4 := by
      show ((dk_en t).toBitVec.sshiftRight (((4 : Int32).toInt64 &&& 63).toBitVec.smod 64).toNat).toInt = _
      rw [show (((4 : Int32).toInt64 &&& 63).toBitVec.smod 64).toNat = 4 from by decide, BitVec.toInt_sshiftRight]
      rfl
    rw [this, h1, Int.shiftRight_eq_div_pow, Int32.toInt_toInt64]
    show (t.1.toInt + 16 * t.2.toInt) / 16 = t.2.toInt
    omega
  rw [e]
  simp
theorem dk_en_inj {s t : dk_T} (hs : dk_kk s.1) (ht : dk_kk t.1) (h : dk_en s = dk_en t) : s = t := by
  apply Prod.ext
  · rw [← dk_en_kind hs, ← dk_en_kind ht, h]
  · rw [← dk_en_val hs, ← dk_en_val ht, h]
/-- tokens in memory -/
def py_s (m : Nat → Int64) : Nat → List dk_T → Prop
  | _, [] => True
  | p, t :: l => (m p = dk_en t ∧ dk_kk t.1) ∧ py_s m (p + 1) l
theorem py_s_app {m : Nat → Int64} : ∀ {a b : List dk_T} {p : Nat}, py_s m p (a ++ b) ↔ py_s m p a ∧ py_s m (p + a.length) b := by
  intro a
  induction a with
  | nil => intro b p; simp [py_s]
  | cons t a ih =>
    intro b p
    show (_ ∧ py_s m (p + 1) (a ++ b)) ↔ (_ ∧ py_s m (p + 1) a) ∧ py_s m (p + (a.length + 1)) b
    rw [ih, and_assoc, and_assoc, and_assoc, show p + 1 + a.length = p + (a.length + 1) from by omega]
theorem py_s_congr {m m' : Nat → Int64} : ∀ {l : List dk_T} {p : Nat}, py_s m p l → (∀ j, p ≤ j → j < p + l.length → m' j = m j) → py_s m' p l := by
  intro l
  induction l with
  | nil => intro p _ _; trivial
  | cons t l ih =>
    intro p h e
    exact ⟨⟨(e p (by omega) (by simp)).trans h.1.1, h.1.2⟩, ih h.2 (fun j h1 h2 => e j (by omega) (by simp at h2 ⊢; omega))⟩
theorem py_s_kk {m : Nat → Int64} : ∀ {l : List dk_T} {p : Nat}, py_s m p l → ∀ t ∈ l, dk_kk t.1 := by
  intro l
  induction l with
  | nil => intro p _ t ht; simp at ht
  | cons x l ih =>
    intro p h t ht
    rcases List.mem_cons.mp ht with ht | ht
    · rw [ht]; exact h.1.2
    · exact ih h.2 t ht
theorem py_s_sg {m : Nat → Int64} : ∀ {l : List dk_T} {p : Nat}, py_s m p l ↔ dk_sg m p (l.map dk_en) ∧ ∀ t ∈ l, dk_kk t.1 := by
  intro l
  induction l with
  | nil => intro p; simp [py_s, dk_sg]
  | cons x l ih =>
    intro p
    show (_ ∧ py_s m (p + 1) l) ↔ (m p = dk_en x ∧ dk_sg m (p + 1) (l.map dk_en)) ∧ _
    rw [ih]
    constructor
    · rintro ⟨⟨a, b⟩, c, d⟩
      exact ⟨⟨a, c⟩, fun t ht => by
        rcases List.mem_cons.mp ht with ht | ht
        · rw [ht]; exact b
        · exact d t ht⟩
    · rintro ⟨⟨a, c⟩, d⟩
      exact ⟨⟨a, d x (by simp)⟩, c, fun t ht => d t (by simp [ht])⟩
def py_G (g : dk_G) (u : SY) : Prop := yg_nodeLimit u = nI (ga_NL g) ∧ yg_weightLimit u = nI (ga_WL g) ∧ yg_fuelLimit u = nI (ga_FL g) ∧ yg_entryLimit u = nI (ga_EL g) ∧ yg_defs u = nI (ga_ne g) ∧ yg_body u = ga_eb g ∧ yg_claim u = ga_ec g ∧ yg_type u = ga_et g ∧ yg_nmem u = 47344 ∧ yg_ndep u = 47344
def py_M (M : dk_M) (u : SY) : Prop := yg_mark u = nI M.1 ∧ yg_ticks u = nI M.2.1 ∧ yg_blame u = M.2.2
abbrev dk_H : Type := (Nat → Int32) × (Nat → Int32)
def py_O (O : List dk_T) (u : SY) : Prop := yg_outLen u = nI (min O.length 16384) ∧ dk_sg (yg_mem u) 30960 ((O.take 16384).map dk_en)
def py_R (g : dk_G) (c : Nat) (M : dk_M) (H : dk_H) (m : Nat → Int64) (d : Nat → Int32) (O : List dk_T) (u : SY) : Prop := py_G g u ∧ yg_count u = nI c ∧ py_M M u ∧ (yg_ty u = H.1 ∧ yg_aux u = H.2) ∧ (∀ i, i < 30960 → yg_mem u i = m i) ∧ yg_dep u = d ∧ py_O O u
theorem yl_kind {post : Int32 → Prop} {u : SY} {p : Nat} {t : dk_T} (hn : yg_nmem u = 47344) (hm : yg_mem u p = dk_en t) (hk : dk_kk t.1) (hp : p < 47344) (h : post t.1) : wpY_kind post u (nI p) := by
  rw [ye_kind, nI_clamp (by omega), hm, hn, dk_en_kind hk]
  exact ⟨vp_in_nI hp (by omega), h⟩
theorem yl_val {post : Int32 → Prop} {u : SY} {p : Nat} {t : dk_T} (hn : yg_nmem u = 47344) (hm : yg_mem u p = dk_en t) (hk : dk_kk t.1) (hp : p < 47344) (h : post t.2) : wpY_val post u (nI p) := by
  rw [ye_val, nI_clamp (by omega), hm, hn, dk_en_val hk]
  exact ⟨vp_in_nI hp (by omega), h⟩
theorem yl_arity {post : Int32 → Prop} {u : SY} {p : Nat} {t : dk_T} (hn : yg_nmem u = 47344) (hm : yg_mem u p = dk_en t) (hk : dk_kk t.1) (hp : p < 47344) (h : post (nI (dk_ar t.1))) : wpY_arity post u (nI p) := by
  rw [ye_arity]
  refine yl_kind hn hm hk hp ?_
  rcases hk with a | a | a | a | a | a | a | a | a | a | a <;> rw [a] at h ⊢
  · exact br_f (by decide) (br_f (by decide) (br_f (by decide) (br_f (by decide) (br_f (by decide) (br_f (by decide) h)))))
  · exact br_f (by decide) (br_f (by decide) (br_f (by decide) (br_f (by decide) (br_f (by decide) (br_f (by decide) h)))))
  · exact br_f (by decide) (br_f (by decide) (br_f (by decide) (br_f (by decide) (br_f (by decide) (br_f (by decide) h)))))
  · exact br_f (by decide) (br_f (by decide) (br_f (by decide) (br_f (by decide) (br_t rfl h))))
  · exact br_f (by decide) (br_f (by decide) (br_f (by decide) (br_f (by decide) (br_f (by decide) (br_f (by decide) h)))))
  · exact br_f (by decide) (br_t rfl h)
  · exact br_f (by decide) (br_f (by decide) (br_t rfl h))
  · exact br_f (by decide) (br_f (by decide) (br_f (by decide) (br_t rfl h)))
  · exact br_t rfl h
  · exact br_f (by decide) (br_f (by decide) (br_f (by decide) (br_f (by decide) (br_f (by decide) (br_f (by decide) h)))))
  · exact br_f (by decide) (br_f (by decide) (br_f (by decide) (br_f (by decide) (br_f (by decide) (br_t rfl h)))))
theorem ni_need2 {a b : Nat} (h : 0 < a) : nI a + (nI b - 1) = nI (a - 1 + b) := by
  rw [← ni_need h]
  grind
theorem yl_end_4 {post : Int32 → Prop} {u : SY} (hn : yg_nmem u = 47344) : ∀ {l : List dk_T} {p n k : Nat}, py_s (yg_mem u) p l → dk_fo l k → l.length < n → p + l.length ≤ 47344 → post (nI (p + l.length)) → yv_end_4 post n (nI p) (nI k) u := by
  intro l
  induction l with
  | nil =>
    intro p n k hs hf hl hp h
    obtain ⟨n, rfl⟩ : ∃ c, n = c + 1 := ⟨n - 1, by simp at hl; omega⟩
    cases hf
    rw [ye_end_4]
    exact br_t (by decide) h
  | cons t l ih =>
    intro p n k hs hf hl hp h
    obtain ⟨n, rfl⟩ : ∃ c, n = c + 1 := ⟨n - 1, by simp at hl; omega⟩
    have k0 := hf.1
    have hk := dk_fo_len hf
    simp only [List.length_cons] at hk hl hp h
    rw [ye_end_4]
    refine br_f (nI_nle k0 (by omega)) (br_f (nI_ge (b := 47344) (by omega) (by decide)) ?_)
    refine yl_arity hn hs.1.1 hs.1.2 (by omega) ?_
    rw [ni_need2 k0, nI_1]
    refine nm_e (nm_e ?_)
    refine ih hs.2 hf.2 (by omega) (by omega) ?_
    rw [show p + 1 + l.length = p + (l.length + 1) from by omega]
    exact h
theorem yl_end {post : Int32 → Prop} {u : SY} {S : List dk_T} {p : Nat} (hn : yg_nmem u = 47344) (hs : py_s (yg_mem u) p S) (hf : dk_fo S 1) (hp : p + S.length ≤ 47344) (h : post (nI (p + S.length))) : wpY_end post u (nI p) := by
  rw [ye_end]
  exact ⟨_, yl_end_4 hn (n := S.length + 1) (k := 1) hs hf (by omega) hp h⟩
theorem yl_child_7 {post : Int32 → Prop} {u : SY} (hn : yg_nmem u = 47344) {c : Nat} (hc : c < 100) : ∀ {k n i q : Nat} {a : List dk_T}, i + k = c → k < n → dk_fo a k → py_s (yg_mem u) q a → q + a.length ≤ 47344 → post (nI (q + a.length)) → yv_child_7 post (nI c) n (nI q) (nI i) u := by
  intro k
  induction k with
  | zero =>
    intro n i q a hi hk hf hs hl h
    obtain ⟨n, rfl⟩ : ∃ c, n = c + 1 := ⟨n - 1, by omega⟩
    cases dk_fo0 hf
    rw [ye_child_7]
    refine br_t ?_ h
    rw [show i = c from by omega]
    exact Int32.le_refl _
  | succ k ih =>
    intro n i q a hi hk hf hs hl h
    obtain ⟨n, rfl⟩ : ∃ c, n = c + 1 := ⟨n - 1, by omega⟩
    rw [Nat.add_comm] at hf
    obtain ⟨a1, a2, rfl, h1, h2⟩ := dk_fo_split hf
    obtain ⟨s1, s2⟩ := py_s_app.mp hs
    simp only [List.length_append] at hl h
    rw [ye_child_7]
    refine br_f (nI_ge (by omega) (by omega)) (yl_end hn s1 h1 (by omega) ?_)
    rw [nI_1]
    refine nm_e (ih (by omega) (by omega) h2 s2 (by omega) ?_)
    rw [Nat.add_assoc]
    exact h
theorem yl_child {post : Int32 → Prop} {u : SY} {p c : Nat} {a : List dk_T} (hn : yg_nmem u = 47344) (hc : c < 100) (hf : dk_fo a c) (hs : py_s (yg_mem u) (p + 1) a) (hl : p + 1 + a.length ≤ 47344) (h : post (nI (p + 1 + a.length))) : wpY_child post u (nI p) (nI c) := by
  rw [ye_child, nI_1]
  exact nm_e ⟨_, yl_child_7 hn hc (k := c) (i := 0) (n := c + 1) (by omega) (by omega) hf hs hl h⟩
theorem yl_bound {post : Int32 → Prop} {u : SY} {p : Nat} {t : dk_T} {l : List dk_T} {k : Nat} (hn : yg_nmem u = 47344) (hs : py_s (yg_mem u) p (t :: l)) (hf : dk_fo (t :: l) k) (hl : p + (l.length + 1) ≤ 47344) (h1 : t.1 = 11 → post (nI (p + 1))) (h2 : (t.1 = 6 ∨ t.1 = 7 ∨ t.1 = 9) → ∀ a b, l = a ++ b → dk_fo a 1 → post (nI (p + 1 + a.length))) (h3 : ¬ (t.1 = 11 ∨ t.1 = 6 ∨ t.1 = 7 ∨ t.1 = 9) → post (-13)) : wpY_bound post u (nI p) := by
  rw [ye_bound]
  refine yl_kind hn hs.1.1 hs.1.2 (by omega) ?_
  have key : (t.1 = 6 ∨ t.1 = 7 ∨ t.1 = 9) → yv_bound_36 post (nI p) u := by
    intro hk
    have h6 : 2 ≤ dk_ar t.1 := by
      rcases hk with e | e | e <;> rw [e] <;> decide
    have h7 := hf.2
    rw [show k - 1 + dk_ar t.1 = 1 + (k - 1 + dk_ar t.1 - 1) from by omega] at h7
    obtain ⟨a, b, rfl, ha, hb⟩ := dk_fo_split h7
    rw [ye_bound_36, nI_1]
    simp only [List.length_append] at hl
    exact yl_end hn (py_s_app.mp hs.2).1 ha (by omega) (h2 hk a b rfl ha)
  refine br_c (fun a => ?_) fun a1 => br_c (fun a => key (Or.inl a)) fun a2 => br_c (fun a => key (Or.inr (Or.inl a))) fun a3 => br_c (fun a => key (Or.inr (Or.inr a))) fun a4 => h3 (fun z => ?_)
  · rw [nI_1]; exact h1 a
  · rcases z with z | z | z | z
    · exact a1 z
    · exact a2 z
    · exact a3 z
    · exact a4 z
end
section
/-! Y: marks -/
theorem dk_gm1 (y : List Nat) : ∀ (b : List Nat) (j : Nat), (b.map (· + 1) ++ y).getD j 0 = (b ++ y).getD j 0 + (if j < b.length then 1 else 0) := by
  intro b
  induction b with
  | nil => intro j; rw [if_neg (by simp)]; rfl
  | cons x b ih =>
    intro j
    cases j with
    | zero => rw [if_pos (by simp)]; rfl
    | succ j =>
      have := ih j
      show (b.map (· + 1) ++ y).getD j 0 = (b ++ y).getD j 0 + _
      rw [this]
      congr 1
      by_cases h : j < b.length
      · rw [if_pos h, if_pos (by simpa using h)]
      · rw [if_neg h, if_neg (by simpa using h)]
theorem dk_gm2 (b y : List Nat) : ∀ (a : List Nat) (j : Nat), (a ++ (b.map (· + 1) ++ y)).getD j 0 = (a ++ (b ++ y)).getD j 0 + (if a.length ≤ j ∧ j < a.length + b.length then 1 else 0) := by
  intro a
  induction a with
  | nil =>
    intro j
    have := dk_gm1 y b j
    rw [List.nil_append, List.nil_append, this]
    congr 1
    by_cases h : j < b.length
    · rw [if_pos h, if_pos (by simpa using h)]
    · rw [if_neg h, if_neg (by simpa using h)]
  | cons x a ih =>
    intro j
    cases j with
    | zero => rw [if_neg (by simp)]; rfl
    | succ j =>
      have := ih j
      show (a ++ (b.map (· + 1) ++ y)).getD j 0 = (a ++ (b ++ y)).getD j 0 + _
      rw [this]
      congr 1
      by_cases h : a.length ≤ j ∧ j < a.length + b.length
      · rw [if_pos h, if_pos (by simp; omega)]
      · rw [if_neg h, if_neg (by simp; omega)]
theorem dk_dp_bd {x c y : List dk_T} {nx ny : Nat} (hx : dk_fo x nx) (hc : dk_fo c 1) (j : Nat) : (dk_dp (x ++ (c ++ y)) (List.replicate nx 0 ++ (1 :: List.replicate ny 0))).getD j 0 = (dk_dp (x ++ (c ++ y)) (List.replicate (nx + (1 + ny)) 0)).getD j 0 + (if x.length ≤ j ∧ j < x.length + c.length then 1 else 0) := by
  have lx : dk_fo x (List.replicate nx 0).length := by rw [List.length_replicate]; exact hx
  have e1 := dk_dp_app (b := c ++ y) (st' := 1 :: List.replicate ny 0) lx
  have e2 := dk_dp_app (b := y) (st := [1]) (st' := List.replicate ny 0) hc
  have e3 : List.replicate (nx + (1 + ny)) 0 = List.replicate nx 0 ++ (0 :: List.replicate ny 0) := by
    rw [← List.replicate_append_replicate, ← List.replicate_append_replicate]; rfl
  have e4 := dk_dp_app (b := c ++ y) (st' := 0 :: List.replicate ny 0) lx
  have e5 := dk_dp_app (b := y) (st := [0]) (st' := List.replicate ny 0) hc
  have e2' : dk_dp (c ++ y) (1 :: List.replicate ny 0) = dk_dp c [1] ++ dk_dp y (List.replicate ny 0) := e2
  have e5' : dk_dp (c ++ y) (0 :: List.replicate ny 0) = dk_dp c [0] ++ dk_dp y (List.replicate ny 0) := e5
  have l1 := dk_dp_len lx
  have l2 := dk_dp_len (st := [0]) hc
  rw [e1, e3, e4, e2', e5', dk_dp_one 1, dk_gm2, l1, l2]
theorem dk_kd_z {k : Int32} (h : ¬ (k = 11 ∨ k = 6 ∨ k = 7 ∨ k = 9)) : dk_kd k = List.replicate (dk_ar k) 0 := by
  unfold dk_ar dk_kd
  rw [if_neg (c := k = 6) (fun z => h (Or.inr (Or.inl z))), if_neg (c := k = 7) (fun z => h (Or.inr (Or.inr (Or.inl z)))), if_neg (c := k = 9) (fun z => h (Or.inr (Or.inr (Or.inr z)))), if_neg (c := k = 11) (fun z => h (Or.inl z))]
  split
  · rfl
  · split <;> rfl
section
variable {post : SY → Prop} {g : dk_G} {c : Nat} {M : dk_M} {H : dk_H} {m : Nat → Int64} {d : Nat → Int32} {O : List dk_T}
theorem py_low {S : List dk_T} {u : SY} {p : Nat} (h : py_R g c M H m d O u) (hs : py_s m p S) (hl : p + S.length ≤ 30960) : py_s (yg_mem u) p S := py_s_congr hs (fun j _ hj => h.2.2.2.2.1 j (by omega))
theorem py_nm {u : SY} (h : py_R g c M H m d O u) : yg_nmem u = 47344 ∧ yg_ndep u = 47344 := h.1.2.2.2.2.2.2.2.2
theorem py_setd {u : SY} {d' : Nat → Int32} (h : py_R g c M H m d O u) : py_R g c M H m d' O (ys_dep d' u) := ⟨h.1, h.2.1, h.2.2.1, h.2.2.2.1, h.2.2.2.2.1, rfl, h.2.2.2.2.2.2⟩
theorem yl_marks_62 {J : Int32 → SY → Prop} {x2 : Int32} {q f : Nat} (hf : f ≤ 47344) : ∀ {k n i : Nat} {u : SY} {d : Nat → Int32}, py_R g c M H m d O u → i + k = f → k < n → (∀ u' d', (∀ j, d' j = d j + (if i ≤ j ∧ j < f then 1 else 0)) → py_R g c M H m d' O u' → J (nI (q + 1)) u') → yv_marks_62 post J x2 (nI q) (nI f) n (nI i) u := by
  intro k
  induction k with
  | zero =>
    intro n i u d hR hi hk h
    obtain ⟨n, rfl⟩ : ∃ c, n = c + 1 := ⟨n - 1, by omega⟩
    rw [ye_marks_62, show i = f from by omega]
    refine br_t (Int32.le_refl _) (nm_r (nI_1 _) (h u d ?_ hR))
    intro j
    rw [if_neg (by omega)]
    exact (Int32.add_zero _).symm
  | succ k ih =>
    intro n i u d hR hi hk h
    obtain ⟨n, rfl⟩ : ∃ c, n = c + 1 := ⟨n - 1, by omega⟩
    rw [ye_marks_62, nI_clamp (by omega), (py_nm hR).2, hR.2.2.2.2.2.1]
    refine br_f (nI_ge (by omega) (by omega)) ⟨vp_in_nI (by omega) (by omega), vp_in_nI (by omega) (by omega), nm_e (nm_r (nI_1 _) ?_)⟩
    refine ih (py_setd hR) (by omega) (by omega) ?_
    intro u' d' hd
    refine h u' d' ?_
    intro j
    rw [hd j]
    by_cases hj : j = i
    · subst hj
      rw [pk_us, if_neg (by omega), if_pos (by omega)]
      exact Int32.add_zero _
    · rw [pk_un hj]
      by_cases h2 : i + 1 ≤ j ∧ j < f
      · rw [if_pos h2, if_pos (by omega)]
      · rw [if_neg h2, if_neg (by omega)]
theorem yl_marks_28 {e : Nat} (he : e ≤ 30960) : ∀ {l : List dk_T} {p n k : Nat} {u : SY} {d : Nat → Int32}, py_R g c M H m d O u → p + l.length = e → py_s m p l → dk_fo l k → l.length < n → (∀ u' d', (∀ j, j < p ∨ e ≤ j → d' j = d j) → (∀ j, j < l.length → d' (p + j) = d (p + j) + nI ((dk_dp l (List.replicate k 0)).getD j 0)) → py_R g c M H m d' O u' → post u') → yv_marks_28 post (nI e) n (nI p) u := by
  intro l
  induction l with
  | nil =>
    intro p n k u d hR hpe hs hf hl h
    obtain ⟨n, rfl⟩ : ∃ c, n = c + 1 := ⟨n - 1, by simp at hl; omega⟩
    rw [ye_marks_28, show p = e from by simpa using hpe]
    exact br_t (Int32.le_refl _) (h u d (fun _ _ => rfl) (fun j hj => absurd hj (by simp)) hR)
  | cons t l ih =>
    intro p n k u d hR hpe hs hf hl h
    obtain ⟨n, rfl⟩ : ∃ c, n = c + 1 := ⟨n - 1, by simp at hl; omega⟩
    simp only [List.length_cons] at hpe hl
    have k0 := hf.1
    obtain ⟨k', rfl⟩ : ∃ k', k = k' + 1 := ⟨k - 1, by omega⟩
    have hf2 : dk_fo l (k' + dk_ar t.1) := hf.2
    have hn := (py_nm hR).1
    rw [ye_marks_28]
    refine br_f (nI_ge (by omega) (by omega)) ?_
    have hs' := py_low hR hs (by simp; omega)
    -- a bound child
    have go : ∀ (x b y : List dk_T) (nx ny : Nat), l = x ++ (b ++ y) → dk_fo x nx → dk_fo b 1 → dk_fo y ny → dk_kd t.1 ++ List.replicate k' 0 = List.replicate nx 0 ++ (1 :: List.replicate ny 0) → nx + (1 + ny) = k' + dk_ar t.1 → ∃ n62 : Nat, yv_marks_62 post (yv_marks_28 post (nI e) n) (nI e) (nI p) (nI (p + 1 + x.length + b.length)) n62 (nI (p + 1 + x.length)) u := by
      intro x b y nx ny el hx hc hy hkd hnn
      have hlen : l.length = x.length + (b.length + y.length) := by rw [el]; simp
      refine ⟨b.length + 1, yl_marks_62 (by omega) (k := b.length) hR rfl (by omega) ?_⟩
      intro u1 d1 hd1 hR1
      refine ih hR1 (by omega) hs.2 hf2 (by omega) ?_
      intro u' d' h1 h2
      refine h u' d' ?_ ?_
      · intro j hj
        rw [h1 j (by omega), hd1, if_neg (by omega)]
        exact Int32.add_zero _
      · intro j hj
        cases j with
        | zero =>
          rw [h1 (p + 0) (by omega), hd1, if_neg (by omega)]
          rfl
        | succ j =>
          simp only [List.length_cons] at hj
          have h3 := h2 j (by omega)
          rw [show p + 1 + j = p + (j + 1) from by omega] at h3
          rw [h3]
          show d1 (p + (j + 1)) + _ = d (p + (j + 1)) + nI ((0 :: dk_dp l ((dk_kd t.1).map (· + 0) ++ List.replicate k' 0)).getD (j + 1) 0)
          rw [List.getD_cons_succ, show (dk_kd t.1).map (· + 0) = dk_kd t.1 from by simp, hkd]
          have h4 := dk_dp_bd (y := y) (ny := ny) hx hc j
          rw [← el, hnn] at h4
          rw [h4, hd1, ← nI_add, Int32.add_assoc]
          congr 1
          rw [Int32.add_comm]
          congr 1
          by_cases hb : x.length ≤ j ∧ j < x.length + b.length
          · rw [if_pos hb, if_pos (by omega)]; rfl
          · rw [if_neg hb, if_neg (by omega)]; rfl
    refine yl_bound hn hs' hf (by omega) ?_ ?_ ?_
    · intro hk
      rw [hk, show dk_ar 11 = 1 from by decide] at hf2
      rw [show k' + 1 = 1 + k' from by omega] at hf2
      obtain ⟨b, y, el, hc, hy⟩ := dk_fo_split hf2
      have hlen : l.length = b.length + y.length := by rw [el]; simp
      have sc := hs'.2
      rw [el] at sc
      refine br_t (nI_pos' (by omega)) (yl_end hn (py_s_app.mp sc).1 hc (by omega) ?_)
      exact go [] b y 0 k' el rfl hc hy (by rw [hk]; rfl) (by rw [hk, show dk_ar 11 = 1 from by decide]; omega)
    · intro hk x r el hx
      have h2 : ∃ w, dk_kd t.1 = 0 :: 1 :: List.replicate w 0 ∧ dk_ar t.1 = w + 2 := by
        rcases hk with e | e | e
        · rw [e]; exact ⟨0, by decide, by decide⟩
        · rw [e]; exact ⟨0, by decide, by decide⟩
        · rw [e]; exact ⟨2, by decide, by decide⟩
      obtain ⟨w, hw1, hw2⟩ := h2
      have hf3 := hf2
      rw [el, hw2, show k' + (w + 2) = 1 + (1 + (w + k')) from by omega] at hf3
      obtain ⟨x', r', e1, hx', hr'⟩ := dk_fo_split hf3
      obtain ⟨e2, e3⟩ := dk_fo_pre hx hx' e1
      subst e2 e3
      obtain ⟨b, y, rfl, hc, hy⟩ := dk_fo_split hr'
      have hlen : l.length = x.length + (b.length + y.length) := by rw [el]; simp
      have sc := hs'.2
      rw [el] at sc
      have sc2 := (py_s_app.mp sc).2
      refine br_t (nI_pos' (by omega)) (yl_end hn (py_s_app.mp sc2).1 hc (by omega) ?_)
      refine go x b y 1 (w + k') el hx hc hy ?_ (by omega)
      rw [hw1, ← List.replicate_append_replicate]; rfl
    · intro hk
      refine br_f (by decide) ⟨1, ?_⟩
      rw [ye_marks_62]
      refine br_t (Int32.le_refl _) (nm_r (nI_1 _) ?_)
      refine ih hR (by omega) hs.2 hf2 (by omega) ?_
      intro u' d' h1 h2
      refine h u' d' ?_ ?_
      · intro j hj
        exact h1 j (by omega)
      · intro j hj
        cases j with
        | zero =>
          rw [h1 (p + 0) (by omega)]
          show _ = _ + nI 0
          exact (Int32.add_zero _).symm
        | succ j =>
          simp only [List.length_cons] at hj
          have h3 := h2 j (by omega)
          rw [show p + 1 + j = p + (j + 1) from by omega] at h3
          rw [h3]
          show _ = _ + nI ((0 :: dk_dp l ((dk_kd t.1).map (· + 0) ++ List.replicate k' 0)).getD (j + 1) 0)
          rw [List.getD_cons_succ, show (dk_kd t.1).map (· + 0) = dk_kd t.1 from by simp, dk_kd_z hk, List.replicate_append_replicate, Nat.add_comm k']
theorem yl_marks_8 {p e : Nat} (he : e ≤ 47344) : ∀ {k n i : Nat} {u : SY} {d : Nat → Int32}, py_R g c M H m d O u → i + k = e → k < n → (∀ u' d', (∀ j, d' j = if i ≤ j ∧ j < e then 0 else d j) → py_R g c M H m d' O u' → ∃ n28, yv_marks_28 post (nI e) n28 (nI p) u') → yv_marks_8 post (nI p) (nI e) n (nI i) u := by
  intro k
  induction k with
  | zero =>
    intro n i u d hR hi hk h
    obtain ⟨n, rfl⟩ : ∃ c, n = c + 1 := ⟨n - 1, by omega⟩
    rw [ye_marks_8, show i = e from by omega]
    refine br_t (Int32.le_refl _) (h u d ?_ hR)
    intro j
    rw [if_neg (by omega)]
  | succ k ih =>
    intro n i u d hR hi hk h
    obtain ⟨n, rfl⟩ : ∃ c, n = c + 1 := ⟨n - 1, by omega⟩
    rw [ye_marks_8, nI_clamp (by omega), (py_nm hR).2, hR.2.2.2.2.2.1]
    refine br_f (nI_ge (by omega) (by omega)) ⟨vp_in_nI (by omega) (by omega), nm_e (nm_r (nI_1 _) ?_)⟩
    refine ih (py_setd hR) (by omega) (by omega) ?_
    intro u' d' hd
    refine h u' d' ?_
    intro j
    rw [hd j]
    by_cases hj : j = i
    · subst hj
      rw [pk_us, if_neg (by omega), if_pos (by omega)]
    · rw [pk_un hj]
      by_cases h2 : i + 1 ≤ j ∧ j < e
      · rw [if_pos h2, if_pos (by omega)]
      · rw [if_neg h2, if_neg (by omega)]
theorem yl_marks {u : SY} {S : List dk_T} {p : Nat} (hR : py_R g c M H m d O u) (hs : py_s m p S) (hf : dk_fo S 1) (hl : p + S.length ≤ 30960) (h : ∀ u' d', (∀ j, j < p ∨ p + S.length ≤ j → d' j = d j) → (∀ j, j < S.length → d' (p + j) = nI ((dk_dp S [0]).getD j 0)) → py_R g c M H m d' O u' → post u') : wpY_marks post u (nI p) := by
  rw [ye_marks]
  refine yl_end (py_nm hR).1 (py_low hR hs hl) hf (by omega) ⟨S.length + 1, ?_⟩
  refine yl_marks_8 (by omega) (k := S.length) hR rfl (by omega) ?_
  intro u0 d0 hd0 hR0
  refine ⟨S.length + 1, ?_⟩
  refine yl_marks_28 hl (l := S) (k := 1) hR0 rfl hs hf (by omega) ?_
  intro u' d' h1 h2
  refine h u' d' ?_ ?_
  · intro j hj
    rw [h1 j hj, hd0, if_neg (by omega)]
  · intro j hj
    rw [h2 j hj, hd0, if_pos (by omega)]
    exact Int32.zero_add _
end
end
section
/-! Y: writing -/
section
variable {post : SY → Prop} {g : dk_G} {c : Nat} {M : dk_M} {H : dk_H} {m : Nat → Int64} {d : Nat → Int32}
theorem yl_put {O : List dk_T} {u : SY} {k v : Int32} (h : py_R g c M H m d O u) (hp : ∀ u', py_R g c M H m d (O ++ [(k, v)]) u' → post u') : wpY_put post u k v := by
  obtain ⟨hG, hc, hM, hH, hm, hd, o1, o2⟩ := h
  have hn : yg_nmem u = 47344 := hG.2.2.2.2.2.2.2.2.1
  rw [ye_put, o1, hn]
  by_cases hl : O.length < 16384
  · have em : min O.length 16384 = O.length := by omega
    rw [em] at o1 ⊢
    rw [show (30960 : Int32) + nI O.length = nI (30960 + O.length) from nI_add 30960 _, nI_clamp (by omega), nI_1]
    refine br_f (nI_ge (b := 16384) (by omega) (by decide)) ⟨vp_in_nI (by omega) (by omega), nm_e (nm_e ?_)⟩
    refine hp _ ⟨hG, hc, hM, hH, ?_, hd, ?_, ?_⟩
    · intro i hi
      show vp_updL (yg_mem u) (30960 + O.length) _ i = _
      rw [pk_uLn (by omega)]
      exact hm i hi
    · show nI (O.length + 1) = nI (min (O ++ [(k, v)]).length 16384)
      rw [List.length_append, show min (O.length + [(k, v)].length) 16384 = O.length + 1 from by simp; omega]
    · rw [List.take_of_length_le (by simp; omega), List.map_append, dk_sg_app]
      rw [List.take_of_length_le (by omega)] at o2
      constructor
      · refine dk_sg_congr o2 ?_
        intro j _ hj
        simp at hj
        show vp_updL (yg_mem u) (30960 + O.length) _ j = _
        rw [pk_uLn (by omega)]
      · refine ⟨?_, trivial⟩
        show vp_updL (yg_mem u) (30960 + O.length) _ (30960 + (O.map dk_en).length) = _
        rw [List.length_map, pk_uLs]
        rfl
  · have em : min O.length 16384 = 16384 := by omega
    rw [em] at o1 ⊢
    refine br_t (nI_le (a := 16384) (Nat.le_refl _) (by omega)) (hp _ ⟨hG, hc, hM, hH, hm, hd, ?_, ?_⟩)
    · rw [o1, List.length_append, show min (O.length + [(k, v)].length) 16384 = 16384 from by simp; omega]
    · rw [List.take_append_of_le_length (by omega)]
      exact o2
theorem yl_copy_2 : ∀ {l O : List dk_T} {p n : Nat} {u : SY}, py_R g c M H m d O u → py_s m p l → p + l.length ≤ 30960 → l.length < n → (∀ u', py_R g c M H m d (O ++ l) u' → post u') → yv_copy_2 post (nI (p + l.length)) n (nI p) u := by
  intro l
  induction l with
  | nil =>
    intro O p n u h hs hl hn hp
    obtain ⟨n, rfl⟩ : ∃ c, n = c + 1 := ⟨n - 1, by simp at hn; omega⟩
    rw [List.append_nil] at hp
    rw [ye_copy_2]
    exact br_t (Int32.le_refl _) (hp u h)
  | cons t l ih =>
    intro O p n u h hs hl hn hp
    obtain ⟨n, rfl⟩ : ∃ c, n = c + 1 := ⟨n - 1, by simp at hn; omega⟩
    have hs' := py_low h hs hl
    have hnm := (py_nm h).1
    simp only [List.length_cons] at hl hn ⊢
    rw [ye_copy_2]
    refine br_f (nI_ge (by omega) (by omega)) (yl_kind hnm hs'.1.1 hs'.1.2 (by omega) (yl_val hnm hs'.1.1 hs'.1.2 (by omega) (yl_put h fun u' h' => ?_)))
    rw [nI_1]
    refine nm_e ?_
    rw [show p + (l.length + 1) = p + 1 + l.length from by omega]
    refine ih h' hs.2 (by omega) (by omega) ?_
    intro u'' h''
    rw [List.append_assoc] at h''
    exact hp u'' h''
theorem yl_copy {l O : List dk_T} {p : Nat} {u : SY} {x y : Int32} (h : py_R g c M H m d O u) (hs : py_s m p l) (hl : p + l.length ≤ 30960) (hx : x = nI p) (hy : y = nI (p + l.length)) (hp : ∀ u', py_R g c M H m d (O ++ l) u' → post u') : wpY_copy post u x y := by
  subst hx hy
  rw [ye_copy]
  exact ⟨_, yl_copy_2 (n := l.length + 1) h hs hl (by omega) hp⟩
theorem yl_end' {post : Int32 → Prop} {S O : List dk_T} {p : Nat} {u : SY} {x : Int32} (h : py_R g c M H m d O u) (hs : py_s m p S) (hf : dk_fo S 1) (hl : p + S.length ≤ 30960) (hx : x = nI p) (hp : post (nI (p + S.length))) : wpY_end post u x := by
  subst hx
  exact yl_end (py_nm h).1 (py_low h hs hl) hf (by omega) hp
theorem yl_term {S O : List dk_T} {p : Nat} {u : SY} {x : Int32} (h : py_R g c M H m d O u) (hs : py_s m p S) (hf : dk_fo S 1) (hl : p + S.length ≤ 30960) (hx : x = nI p) (hp : ∀ u', py_R g c M H m d (O ++ S) u' → post u') : wpY_term post u x := by
  rw [ye_term]
  exact yl_end' h hs hf hl hx (yl_copy h hs hl hx rfl hp)
/-- erasing: s tokens are still to be skipped -/
theorem yl_erase_11 {e : Nat} (he : e ≤ 30960) : ∀ {l O : List dk_T} {p n s k : Nat} {u : SY}, py_R g c M H m d O u → py_s m p l → p + l.length = e → l.length < n → dk_fo l k → s ≤ l.length → (∀ u', py_R g c M H m d (O ++ dk_er l s) u' → post u') → yv_erase_11 post (nI e) n (nI (p + s)) (nI p) u := by
  intro l
  induction l with
  | nil =>
    intro O p n s k u h hs hl hn hf hsl hp
    obtain ⟨n, rfl⟩ : ∃ c, n = c + 1 := ⟨n - 1, by simp at hn; omega⟩
    have hp' := hp u (by rw [show dk_er [] s = [] from by cases s <;> rfl, List.append_nil]; exact h)
    rw [ye_erase_11, show p = e from by simpa using hl]
    exact br_t (Int32.le_refl _) hp'
  | cons t l ih =>
    intro O p n s k u h hs hl hn hf hsl hp
    obtain ⟨n, rfl⟩ : ∃ c, n = c + 1 := ⟨n - 1, by simp at hn; omega⟩
    have hs' := py_low h hs (by omega)
    have hnm := (py_nm h).1
    simp only [List.length_cons] at hl hn hsl
    rw [ye_erase_11]
    refine br_f (nI_ge (by omega) (by omega)) (yl_kind hnm hs'.1.1 hs'.1.2 (by omega) (yl_val hnm hs'.1.1 hs'.1.2 (by omega) ?_))
    cases s with
    | succ s =>
      refine br_t (nI_lt (by omega) (by omega)) ?_
      rw [nI_1]
      refine nm_e ?_
      rw [show p + (s + 1) = p + 1 + s from by omega]
      exact ih h hs.2 (by omega) (by omega) hf.2 (by omega) hp
    | zero =>
      refine br_f (Int32.not_lt.mpr (Int32.le_refl _)) ?_
      have her : dk_er (t :: l) 0 = if t.1 = 7 then (11, t.2) :: dk_er l (dk_sk l 1) else t :: dk_er l 0 := rfl
      refine br_c (fun h7 => ?_) fun h7 => ?_
      · rw [if_pos h7] at her
        have hf2 := hf.2
        have k0 := hf.1
        rw [h7, dk_ar7, show k - 1 + 2 = 1 + k from by omega] at hf2
        have hf3 := hf2
        obtain ⟨a, b, el, ha, hb⟩ := dk_fo_split hf3
        have hsk : dk_sk l 1 = a.length := by rw [el]; exact dk_sk_fo ha
        have hlen : l.length = a.length + b.length := by rw [el]; simp
        have sa := hs.2
        rw [el] at sa
        rw [ye_erase_54]
        refine yl_put h fun u' h' => br_t h7 ?_
        refine yl_end' h' (py_s_app.mp sa).1 ha (by omega) (nI_1 p) ?_
        rw [nI_1]
        refine nm_e ?_
        refine ih h' hs.2 (by omega) (by omega) hf2 (by omega) ?_
        intro u'' h''
        refine hp u'' ?_
        rw [her, hsk]
        rw [List.append_assoc] at h''
        exact h''
      · rw [if_neg h7] at her
        rw [ye_erase_54]
        refine yl_put h fun u' h' => br_f h7 ?_
        rw [nI_1]
        refine nm_e (nm_e ?_)
        refine ih (s := 0) h' hs.2 (by omega) (by omega) hf.2 (by omega) ?_
        intro u'' h''
        refine hp u'' ?_
        rw [her]
        rw [List.append_assoc] at h''
        exact h''
theorem yl_erase {S O : List dk_T} {p : Nat} {u : SY} {x : Int32} (h : py_R g c M H m d O u) (hs : py_s m p S) (hf : dk_fo S 1) (hl : p + S.length ≤ 30960) (hx : x = nI p) (hp : ∀ u', py_R g c M H m d (O ++ dk_er S 0) u' → post u') : wpY_erase post u x := by
  subst hx
  rw [ye_erase]
  refine yl_end' h hs hf hl rfl ⟨S.length + 1, ?_⟩
  exact yl_erase_11 hl (s := 0) h hs rfl (by omega) hf (by omega) hp
/-- what shift writes at a token; with s a SUC around free index 0 -/
def dk_yf (b : Int32) (s : Bool) (q : dk_T × Nat) : List dk_T := (if s = true ∧ q.1.1 = 5 ∧ q.1.2 = nI q.2 then [(4, 0)] else []) ++ [dk_sf b q]
theorem dk_yf_false {b : Int32} : ∀ {l : List (dk_T × Nat)}, l.flatMap (dk_yf b false) = l.map (dk_sf b) := by
  intro l
  induction l with
  | nil => rfl
  | cons q l ih =>
    rw [List.flatMap_cons, ih]
    rfl
theorem dk_yf_true {q : dk_T × Nat} : dk_yf 1 true q = dk_vf q := by
  obtain ⟨⟨k, v⟩, r⟩ := q
  show (if true = true ∧ k = 5 ∧ v = nI r then [(4, 0)] else []) ++ [if k = 5 ∧ ¬ v < nI r then (k, v + 1) else (k, v)] = (if k = 5 then (if v = nI r then [(4, 0), (5, nI r + 1)] else if v < nI r then [(k, v)] else [(5, v + 1)]) else [(k, v)])
  by_cases hk : k = 5
  · subst hk
    rw [if_pos (c := (5 : Int32) = 5) rfl]
    by_cases hv : v = nI r
    · subst hv
      rw [if_pos ⟨rfl, rfl, rfl⟩, if_pos ⟨rfl, Int32.lt_irrefl⟩, if_pos rfl]
      rfl
    · rw [if_neg (fun z => hv z.2.2), if_neg hv]
      by_cases h2 : v < nI r
      · rw [if_neg (fun z => z.2 h2), if_pos h2]; rfl
      · rw [if_pos ⟨rfl, h2⟩, if_neg h2]; rfl
  · rw [if_neg (fun z => hk z.2.1), if_neg (fun z => hk z.1), if_neg hk]; rfl
theorem dk_vs_eq {Q : List dk_T} : (dk_z Q).flatMap (dk_yf 1 true) = dk_vs Q := by
  unfold dk_vs
  congr 1
  funext q
  exact dk_yf_true
/-- tokens with depths in memory and dep -/
def py_z (m : Nat → Int64) (d : Nat → Int32) : Nat → List (dk_T × Nat) → Prop
  | _, [] => True
  | p, q :: l => (m p = dk_en q.1 ∧ dk_kk q.1.1 ∧ d p = nI q.2) ∧ py_z m d (p + 1) l
theorem py_z_of {m : Nat → Int64} {d : Nat → Int32} : ∀ {l : List (dk_T × Nat)} {p : Nat}, py_s m p (l.map (·.1)) → (∀ j q, l[j]? = some q → d (p + j) = nI q.2) → py_z m d p l := by
  intro l
  induction l with
  | nil => intro p _ _; trivial
  | cons q l ih =>
    intro p hs hd
    refine ⟨⟨hs.1.1, hs.1.2, hd 0 q rfl⟩, ih hs.2 (fun j q' hq => ?_)⟩
    rw [show p + 1 + j = p + (j + 1) from by omega]
    exact hd (j + 1) q' (by simpa using hq)
theorem py_z_congr {m : Nat → Int64} {d d' : Nat → Int32} : ∀ {l : List (dk_T × Nat)} {p : Nat}, py_z m d p l → (∀ j, p ≤ j → j < p + l.length → d' j = d j) → py_z m d' p l := by
  intro l
  induction l with
  | nil => intro p _ _; trivial
  | cons q l ih =>
    intro p h e
    exact ⟨⟨h.1.1, h.1.2.1, (e p (by omega) (by simp)).trans h.1.2.2⟩, ih h.2 (fun j h1 h2 => e j (by omega) (by simp at h2 ⊢; omega))⟩
theorem yl_shift_15 {b : Int32} {s : Bool} : ∀ {l : List (dk_T × Nat)} {O : List dk_T} {p n : Nat} {u : SY}, py_R g c M H m d O u → py_z m d p l → p + l.length ≤ 30960 → l.length < n → (∀ u', py_R g c M H m d (O ++ l.flatMap (dk_yf b s)) u' → post u') → yv_shift_15 post b (dk_b s) (nI (p + l.length)) n (nI p) u := by
  intro l
  induction l with
  | nil =>
    intro O p n u h hs hl hn hp
    obtain ⟨n, rfl⟩ : ∃ c, n = c + 1 := ⟨n - 1, by simp at hn; omega⟩
    rw [List.flatMap_nil, List.append_nil] at hp
    rw [ye_shift_15]
    exact br_t (Int32.le_refl _) (hp u h)
  | cons q l ih =>
    intro O p n u h hs hl hn hp
    obtain ⟨n, rfl⟩ : ∃ c, n = c + 1 := ⟨n - 1, by simp at hn; omega⟩
    obtain ⟨⟨k, v⟩, r⟩ := q
    obtain ⟨⟨s1, s2, s3⟩, s4⟩ := hs
    simp only [List.length_cons] at hl hn ⊢
    have hnm := py_nm h
    have hm1 : yg_mem u p = dk_en (k, v) := (h.2.2.2.2.1 p (by omega)).trans s1
    have next : ∀ (W : List dk_T) (u' : SY), dk_yf b s ((k, v), r) = W → py_R g c M H m d (O ++ W) u' → yv_shift_15 post b (dk_b s) (nI (p + (l.length + 1))) n (nI (p + 1)) u' := by
      intro W u' hw h'
      rw [show p + (l.length + 1) = p + 1 + l.length from by omega]
      refine ih h' s4 (by omega) (by omega) ?_
      intro u'' h''
      refine hp u'' ?_
      rw [List.flatMap_cons, hw]
      rw [List.append_assoc] at h''
      exact h''
    have fin : ∀ (P : List dk_T) (f : Int32) (u' : SY), (f = 0 ∨ f = 1) → (f = 1 ↔ (k = 5 ∧ ¬ v < nI r)) → dk_yf b s ((k, v), r) = P ++ [dk_sf b ((k, v), r)] → py_R g c M H m d (O ++ P) u' → yv_shift_90 post (yv_shift_15 post b (dk_b s) (nI (p + (l.length + 1))) n) b (dk_b s) (nI (p + (l.length + 1))) (nI p) k v f u' := by
      intro P f u' hf hf1 hw h'
      rw [ye_shift_90]
      refine br_c (fun h0 => ?_) fun h0 => ?_
      · rw [ye_shift_107]
        refine yl_put h' fun u'' h'' => ?_
        rw [nI_1]
        refine nm_e (next _ u'' hw ?_)
        have : dk_sf b ((k, v), r) = (k, v) := by
          show (if k = 5 ∧ ¬ v < nI r then (k, v + b) else (k, v)) = _
          rw [if_neg]
          intro z
          have := hf1.mpr z
          rw [h0] at this
          exact absurd this (by decide)
        rw [this, ← List.append_assoc]
        exact h''
      · rw [ye_shift_107]
        refine yl_put h' fun u'' h'' => ?_
        rw [nI_1]
        refine nm_e (next _ u'' hw ?_)
        have hf2 : f = 1 := hf.resolve_left h0
        have : dk_sf b ((k, v), r) = (k, v + b) := by
          show (if k = 5 ∧ ¬ v < nI r then (k, v + b) else (k, v)) = _
          rw [if_pos (hf1.mp hf2)]
        rw [this, ← List.append_assoc]
        exact h''
    have no : ¬ (k = 5 ∧ ¬ v < nI r) → yv_shift_60 post (yv_shift_15 post b (dk_b s) (nI (p + (l.length + 1))) n) b (dk_b s) (nI (p + (l.length + 1))) (nI p) k v u := by
      intro hne
      rw [ye_shift_60, ye_shift_61]
      refine br_t rfl (fin [] 0 u (Or.inl rfl) ⟨fun z => absurd z (by decide), fun z => absurd z hne⟩ ?_ (by rw [List.append_nil]; exact h))
      show (if s = true ∧ k = 5 ∧ v = nI r then [((4 : Int32), (0 : Int32))] else []) ++ _ = _
      rw [if_neg]
      rintro ⟨_, z1, z2⟩
      exact hne ⟨z1, by rw [z2]; exact Int32.lt_irrefl⟩
    rw [ye_shift_15, h.2.2.2.2.2.1]
    refine br_f (nI_ge (by omega) (by omega)) (yl_kind hnm.1 hm1 s2 (by omega) (yl_val hnm.1 hm1 s2 (by omega) ?_))
    dsimp only
    rw [hnm.2, nI_clamp (by omega), s3]
    refine br_c (fun hk => ⟨vp_in_nI (by omega) (by omega), br_c (fun hv => no (fun z => z.2 hv)) fun hv => ?_⟩) fun hk => no (fun z => hk z.1)
    have hf1 : ((1 : Int32) = 1 ↔ (k = 5 ∧ ¬ v < nI r)) := ⟨fun _ => ⟨hk, hv⟩, fun _ => rfl⟩
    rw [ye_shift_61]
    refine br_f (by decide) ?_
    cases s with
    | false =>
      refine br_t rfl (fin [] 1 u (Or.inr rfl) hf1 ?_ (by rw [List.append_nil]; exact h))
      rfl
    | true =>
      refine br_f (by decide) ?_
      rw [hnm.2, nI_clamp (by omega), h.2.2.2.2.2.1, s3]
      refine ⟨vp_in_nI (by omega) (by omega), br_c (fun he => ?_) fun he => ?_⟩
      · refine yl_put h fun u' h' => fin [(4, 0)] 1 u' (Or.inr rfl) hf1 ?_ h'
        show (if true = true ∧ k = 5 ∧ v = nI r then [((4 : Int32), (0 : Int32))] else []) ++ _ = _
        rw [if_pos ⟨rfl, hk, he⟩]
      · refine fin [] 1 u (Or.inr rfl) hf1 ?_ (by rw [List.append_nil]; exact h)
        show (if true = true ∧ k = 5 ∧ v = nI r then [((4 : Int32), (0 : Int32))] else []) ++ _ = _
        rw [if_neg (fun z => he z.2.2)]
theorem py_z_S {S : List dk_T} {p : Nat} {d' : Nat → Int32} (hs : py_s m p S) (hf : dk_fo S 1) (hd : ∀ j, j < S.length → d' (p + j) = nI ((dk_dp S [0]).getD j 0)) : py_z m d' p (dk_z S) := by
  refine py_z_of (by rw [dk_z_map hf]; exact hs) ?_
  intro j q hq
  have hj : j < (dk_z S).length := (List.getElem?_eq_some_iff.mp hq).1
  rw [dk_z_len hf] at hj
  rw [hd j hj]
  have hl := dk_dp_len (st := [0]) hf
  have : q = (S[j], (dk_dp S [0])[j]) := by
    unfold dk_z at hq
    rw [List.getElem?_eq_getElem (by simp; omega)] at hq
    have := Option.some.inj hq
    rw [← this, List.getElem_zip]
  rw [this, List.getD_eq_getElem?_getD, List.getElem?_eq_getElem (by omega)]
  rfl
theorem yl_shift {S O : List dk_T} {p : Nat} {u : SY} {x b : Int32} {s : Bool} (h : py_R g c M H m d O u) (hs : py_s m p S) (hf : dk_fo S 1) (hl : p + S.length ≤ 30960) (hx : x = nI p) (hp : ∀ u' d', (∀ j, j < p ∨ p + S.length ≤ j → d' j = d j) → py_R g c M H m d' (O ++ (dk_z S).flatMap (dk_yf b s)) u' → post u') : wpY_shift post u x b (dk_b s) := by
  subst hx
  rw [ye_shift]
  refine yl_marks h hs hf hl ?_
  intro u' d' h1 h2 h'
  refine yl_end' h' hs hf hl rfl ⟨(dk_z S).length + 1, ?_⟩
  have := yl_shift_15 (post := post) (b := b) (s := s) h' (py_z_S hs hf h2) (by rw [dk_z_len hf]; exact hl) (n := (dk_z S).length + 1) (by omega) ?_
  · rw [dk_z_len hf] at this
    rw [dk_z_len hf]
    exact this
  · intro u' h3
    exact hp u' d' h1 h3
/-- substitution; y's marks don't touch b's -/
theorem yl_subst_14 {Y : List dk_T} {y b0 e0 : Nat} (hY : py_s m y Y) (fY : dk_fo Y 1) (lY : y + Y.length ≤ 30960) : ∀ {l : List (dk_T × Nat)} {O : List dk_T} {p n : Nat} {u : SY} {d : Nat → Int32}, ((e0 ≤ y ∨ y + Y.length ≤ b0) ∨ ∀ q ∈ l, q.1.1 ≠ 5) → py_R g c M H m d O u → py_z m d p l → p + l.length = e0 → b0 ≤ p → e0 ≤ 30960 → l.length < n → (∀ u' d', py_R g c M H m d' (O ++ l.flatMap (dk_bf Y)) u' → post u') → yv_subst_14 post (nI y) (nI e0) n (nI p) u := by
  intro l
  induction l with
  | nil =>
    intro O p n u d hdis h hs hl hb he hn hp
    obtain ⟨n, rfl⟩ : ∃ c, n = c + 1 := ⟨n - 1, by simp at hn; omega⟩
    rw [List.flatMap_nil, List.append_nil] at hp
    rw [ye_subst_14, show p = e0 from by simpa using hl]
    exact br_t (Int32.le_refl _) (hp u d h)
  | cons q l ih =>
    intro O p n u d hdis h hs hl hb he hn hp
    obtain ⟨n, rfl⟩ : ∃ c, n = c + 1 := ⟨n - 1, by simp at hn; omega⟩
    obtain ⟨⟨k, v⟩, r⟩ := q
    obtain ⟨⟨s1, s2, s3⟩, s4⟩ := hs
    simp only [List.length_cons] at hl hn
    have hnm := py_nm h
    have hm1 : yg_mem u p = dk_en (k, v) := (h.2.2.2.2.1 p (by omega)).trans s1
    have next : ∀ (W : List dk_T) (u' : SY) (d' : Nat → Int32), dk_bf Y ((k, v), r) = W → py_z m d' (p + 1) l → py_R g c M H m d' (O ++ W) u' → yv_subst_14 post (nI y) (nI e0) n (nI (p + 1)) u' := by
      intro W u' d' hw hz h'
      refine ih (hdis.imp id (fun z q hq => z q (by simp [hq]))) h' hz (by omega) (by omega) he (by omega) ?_
      intro u'' d'' h''
      refine hp u'' d'' ?_
      rw [List.flatMap_cons, hw]
      rw [List.append_assoc] at h''
      exact h''
    have key : ∀ w : Int32, dk_bf Y ((k, v), r) = [(k, w)] → yv_subst_94 post (yv_subst_14 post (nI y) (nI e0) n) (nI y) (nI e0) (nI p) w k u := by
      intro w hw
      rw [ye_subst_94]
      refine yl_put h fun u' h' => ?_
      rw [nI_1]
      exact nm_e (next _ u' d hw s4 h')
    have hbf : dk_bf Y ((k, v), r) = if k = 5 then (if v = nI r then dk_sh (nI r) Y else if v < nI r then [(k, v)] else [(5, v - 1)]) else [(k, v)] := rfl
    have rest : ¬ (k = 5 ∧ v = nI r) → yv_subst_69 post (yv_subst_14 post (nI y) (nI e0) n) (nI y) (nI e0) (nI p) k v (nI r) u := by
      intro hne
      rw [ye_subst_69]
      refine br_c (fun hk => br_c (fun hv => ?_) fun hv => ?_) fun hk => ?_
      · rw [ye_subst_92]
        refine key _ ?_
        have h2 : v ≠ nI r := fun z => hne ⟨hk, z⟩
        rw [hbf, if_pos hk, if_neg h2, if_pos]
        exact Int32.lt_of_le_of_ne hv h2
      · refine key _ ?_
        have h2 : v ≠ nI r := fun z => hne ⟨hk, z⟩
        rw [hbf, if_pos hk, if_neg h2, if_neg (fun z => hv (Int32.le_of_lt z)), hk]
      · rw [ye_subst_92]
        refine key _ ?_
        rw [hbf, if_neg hk]
    rw [ye_subst_14, h.2.2.2.2.2.1]
    refine br_f (nI_ge (by omega) (by omega)) (yl_kind hnm.1 hm1 s2 (by omega) (yl_val hnm.1 hm1 s2 (by omega) ?_))
    dsimp only
    rw [hnm.2, nI_clamp (by omega)]
    refine ⟨vp_in_nI (by omega) (by omega), nm_r s3 (br_c (fun hk => br_c (fun hv => ?_) fun hv => rest (fun z => hv z.2)) fun hk => rest (fun z => hk z.1))⟩
    refine yl_shift (s := false) h hY fY lY rfl ?_
    intro u' d' hd' h'
    rw [nI_1]
    refine nm_e (next (dk_sh (nI r) Y) u' d' ?_ ?_ ?_)
    · rw [hbf, if_pos hk, if_pos hv]
    · refine py_z_congr s4 ?_
      intro j h1 h2
      refine hd' j ?_
      rcases hdis with (z | z) | z
      · omega
      · omega
      · exact absurd hk (z ((k, v), r) (by simp))
    · rw [dk_yf_false] at h'
      exact h'
theorem yl_subst {B Y O : List dk_T} {b y : Nat} {u : SY} {x x' : Int32} (h : py_R g c M H m d O u) (hB : py_s m b B) (fB : dk_fo B 1) (lB : b + B.length ≤ 30960) (hY : py_s m y Y) (fY : dk_fo Y 1) (lY : y + Y.length ≤ 30960) (hdis : (b + B.length ≤ y ∨ y + Y.length ≤ b) ∨ ∀ t ∈ B, t.1 ≠ 5) (hx : x = nI b) (hx' : x' = nI y) (hp : ∀ u' d', py_R g c M H m d' (O ++ dk_su B Y) u' → post u') : wpY_subst post u x x' := by
  subst hx hx'
  rw [ye_subst]
  refine yl_marks h hB fB lB ?_
  intro u' d' h1 h2 h'
  refine yl_end' h' hB fB lB rfl ⟨(dk_z B).length + 1, ?_⟩
  refine yl_subst_14 (b0 := b) hY fY lY ?_ h' (py_z_S hB fB h2) (by rw [dk_z_len fB]) (Nat.le_refl _) lB (by omega) hp
  refine hdis.imp id ?_
  intro z q hq
  refine z q.1 ?_
  rw [← dk_z_map fB]
  exact List.mem_map_of_mem hq
theorem yl_occurs_17 {post : Int32 → SY → Prop} {z : Int32} {e0 : Nat} {u : SY} {O : List dk_T} (h : py_R g c M H m d O u) (he : e0 ≤ 30960) : ∀ {l : List (dk_T × Nat)} {p n : Nat} {b : Bool}, py_z m d p l → p + l.length = e0 → l.length < n → post (dk_b (b || l.any (fun p => decide (p.1.1 = 5) && decide (p.1.2 - nI p.2 = z)))) u → yv_occurs_17 post z (nI e0) n (dk_b b) (nI p) u := by
  intro l
  induction l with
  | nil =>
    intro p n b hs hl hn hp
    obtain ⟨n, rfl⟩ : ∃ c, n = c + 1 := ⟨n - 1, by simp at hn; omega⟩
    rw [List.any_nil, Bool.or_false] at hp
    rw [ye_occurs_17, show p = e0 from by simpa using hl]
    exact br_t (Int32.le_refl _) ⟨dk_b_n b, hp⟩
  | cons q l ih =>
    intro p n b hs hl hn hp
    obtain ⟨n, rfl⟩ : ∃ c, n = c + 1 := ⟨n - 1, by simp at hn; omega⟩
    obtain ⟨⟨k, v⟩, r⟩ := q
    obtain ⟨⟨s1, s2, s3⟩, s4⟩ := hs
    simp only [List.length_cons] at hl hn
    have hnm := py_nm h
    have hm1 : yg_mem u p = dk_en (k, v) := (h.2.2.2.2.1 p (by omega)).trans s1
    rw [List.any_cons] at hp
    dsimp only at hp
    rw [ye_occurs_17, hnm.2, nI_clamp (by omega), h.2.2.2.2.2.1, s3, nI_1]
    refine br_f (nI_ge (by omega) (by omega)) ?_
    cases b with
    | true =>
      refine br_f (by decide) (nm_e ?_)
      refine ih (b := true) s4 (by omega) (by omega) ?_
      rw [Bool.true_or] at hp ⊢
      exact hp
    | false =>
      refine br_t rfl (yl_kind hnm.1 hm1 s2 (by omega) ?_)
      rw [Bool.false_or] at hp
      refine br_c (fun hk => yl_val hnm.1 hm1 s2 (by omega) ⟨vp_in_nI (by omega) (by omega), br_c (fun hv => nm_e ?_) fun hv => nm_e ?_⟩) fun hk => nm_e ?_
      · refine ih (b := true) s4 (by omega) (by omega) ?_
        rw [decide_eq_true hk, decide_eq_true hv, Bool.true_and, Bool.true_or] at hp
        rw [Bool.true_or]
        exact hp
      · refine ih (b := false) s4 (by omega) (by omega) ?_
        rw [decide_eq_false hv, Bool.and_false, Bool.false_or] at hp
        rw [Bool.false_or]
        exact hp
      · refine ih (b := false) s4 (by omega) (by omega) ?_
        rw [decide_eq_false hk, Bool.false_and, Bool.false_or] at hp
        rw [Bool.false_or]
        exact hp
theorem yl_occurs {post : Int32 → SY → Prop} {S O : List dk_T} {p : Nat} {u : SY} {x z : Int32} (h : py_R g c M H m d O u) (hs : py_s m p S) (hf : dk_fo S 1) (hl : p + S.length ≤ 30960) (hx : x = nI p) (hp : ∀ u' d', py_R g c M H m d' O u' → post (dk_b (dk_oc S z)) u') : wpY_occurs post u x z := by
  subst hx
  rw [ye_occurs]
  refine yl_marks h hs hf hl ?_
  intro u' d' h1 h2 h'
  refine yl_end' h' hs hf hl rfl ⟨(dk_z S).length + 1, ?_⟩
  exact yl_occurs_17 (b := false) h' hl (py_z_S hs hf h2) (by rw [dk_z_len hf]) (by omega) (hp _ d' h')
end
end
section
/-! Y: rule and replace -/
theorem yl_kind_any {post : Int32 → Prop} {u : SY} {p : Nat} (hn : yg_nmem u = 47344) (hp : p < 47344) (h : ∀ r, post r) : wpY_kind post u (nI p) := by
  rw [ye_kind, hn]
  exact ⟨vp_in_nI hp (by omega), h _⟩
theorem yl_end_any4 {post : Int32 → Prop} {u : SY} (hn : yg_nmem u = 47344) (h : ∀ r, post r) : ∀ {k p n : Nat} {x : Int32}, p + k = 47344 → k < n → yv_end_4 post n (nI p) x u := by
  intro k
  induction k with
  | zero =>
    intro p n x hp hn'
    obtain ⟨n, rfl⟩ : ∃ c, n = c + 1 := ⟨n - 1, by omega⟩
    rw [ye_end_4]
    refine br_c (fun _ => h _) fun _ => br_t ?_ (h _)
    rw [show p = 47344 from by omega]
    exact Int32.le_refl _
  | succ k ih =>
    intro p n x hp hn'
    obtain ⟨n, rfl⟩ : ∃ c, n = c + 1 := ⟨n - 1, by omega⟩
    rw [ye_end_4]
    refine br_c (fun _ => h _) fun _ => br_c (fun _ => h _) fun _ => ?_
    rw [ye_arity, nI_1]
    have go : ∀ r : Int32, ∀ x3, x3 = x + (r - 1) → ∀ x2, x2 = nI (p + 1) → yv_end_4 post n x2 x3 u := by
      intro r x3 _ x2 e
      subst e
      exact ih (by omega) (by omega)
    refine yl_kind_any hn (by omega) fun r => ?_
    exact br_c (fun _ => go _) fun _ => br_c (fun _ => go _) fun _ => br_c (fun _ => go _) fun _ => br_c (fun _ => go _) fun _ => br_c (fun _ => go _) fun _ => br_c (fun _ => go _) fun _ => go _
theorem yl_end_any {post : Int32 → Prop} {u : SY} {p : Nat} (hn : yg_nmem u = 47344) (hp : p ≤ 47344) (h : ∀ r, post r) : wpY_end post u (nI p) := by
  rw [ye_end]
  exact ⟨_, yl_end_any4 hn h (k := 47344 - p) (n := 47344 - p + 1) (by omega) (by omega)⟩
section
variable {g : dk_G} {c : Nat} {M : dk_M} {H : dk_H} {m : Nat → Int64} {d : Nat → Int32}
theorem yl_rule_100 {post : Int32 → SY → Prop} {O l : List dk_T} {t q : dk_T} {u : SY} {p k : Nat} (h : py_R g c M H m d O u) (hs : py_s m p (t :: q :: l)) (hf : dk_fo (t :: q :: l) k) (hl : p + (l.length + 2) ≤ 30960) (hp : ∀ u' d', py_R g c M H m d' O u' → post (nI (if t.1 = 11 then (if q.1 = 8 ∧ dk_et l then 5 else 0) else 0)) u') : yv_rule_100 post (nI p) t.1 q.1 u := by
  rw [ye_rule_100]
  refine br_c (fun h11 => br_c (fun h8 => ?_) fun h8 => ?_) fun h11 => ?_
  · rw [if_pos h11] at hp
    have hf2 := hf.2.2
    have k0 := hf.1
    rw [h11, h8, show dk_ar 11 = 1 from by decide, show dk_ar 8 = 2 from by decide, show k - 1 + 1 - 1 + 2 = 1 + (1 + (k - 1)) from by omega] at hf2
    obtain ⟨f, r, rfl, ff, fr⟩ := dk_fo_split hf2
    rw [show 1 + (k - 1) = (k - 1) + 1 from by omega] at fr
    obtain ⟨a, r', rfl, _⟩ := dk_fo_pos fr
    simp only [List.length_append, List.length_cons] at hl
    have s2 := hs.2.2
    obtain ⟨sf, sr⟩ := py_s_app.mp s2
    have e2 : nI p + 2 = nI (p + 1 + 1) := nI_add p 2
    have hnm := (py_nm h).1
    have sr' := py_low h sr (by simp; omega)
    have het : dk_et (f ++ a :: r') = (decide (a = (5, 0)) && !(dk_oc f 0)) := by
      unfold dk_et
      rw [dk_sk_fo ff]; simp
    rw [het] at hp
    refine yl_end' h sf ff (by omega) e2 ?_
    refine yl_kind hnm sr'.1.1 sr'.1.2 (by omega) ?_
    refine br_c (fun h5 => yl_val hnm sr'.1.1 sr'.1.2 (by omega) (br_c (fun h0 => ?_) fun h0 => ?_)) fun h5 => ?_
    · have ha : a = (5, 0) := Prod.ext h5 h0
      rw [decide_eq_true ha, Bool.true_and] at hp
      refine yl_occurs h sf ff (by omega) e2 ?_
      intro u' d' h'
      have hp' := hp u' d' h'
      cases hc : dk_oc f 0 with
      | true => rw [hc, if_neg (by simp)] at hp'; exact br_f (by decide) hp'
      | false => rw [hc, if_pos ⟨h8, rfl⟩] at hp'; exact br_t rfl hp'
    · have hp' := hp u d h
      rw [decide_eq_false (fun z => h0 (by rw [z])), Bool.false_and, if_neg (by simp)] at hp'; exact hp'
    · have hp' := hp u d h
      rw [decide_eq_false (fun z => h5 (by rw [z])), Bool.false_and, if_neg (by simp)] at hp'; exact hp'
  · have hp' := hp u d h
    rw [if_pos h11, if_neg (fun z => h8 z.1)] at hp'; exact hp'
  · have hp' := hp u d h
    rw [if_neg h11] at hp'; exact hp'
theorem yl_rule_68 {post : Int32 → SY → Prop} {O : List dk_T} {u : SY} {x r v k : Int32} (hg : ga_ok g) (h : py_R g c M H m d O u) (h1 : k = 10 → dk_hb g v = true → post 4 u) (h2 : ¬ (k = 10 ∧ dk_hb g v = true) → yv_rule_100 post x k r u) : yv_rule_68 post x k r v u := by
  have hne : ga_ne g ≤ 16 := by have := hg.2.2.2.2.2.2.2; omega
  rw [ye_rule_68, h.1.2.2.2.2.1, h.1.2.2.2.2.2.1]
  refine br_c (fun h10 => br_c (fun a => h2 ?_) fun a => br_c (fun b => h2 ?_) fun b => ⟨?_, br_c (fun c => h2 ?_) fun c => h1 h10 ?_⟩) fun h10 => h2 (fun z => h10 z.1)
  · unfold dk_hb; simp [a]
  · unfold dk_hb; simp [b]
  · obtain ⟨j, hj, rfl⟩ := nI_of a
    rw [nI_leI (by omega) hj] at b
    exact vp_in_nI (by omega) (by omega)
  · unfold dk_hb; simp [c]
  · unfold dk_hb; simp only [decide_eq_true a, decide_eq_true b, decide_eq_true c]; rfl
theorem yl_rule {post : Int32 → SY → Prop} {O l : List dk_T} {t : dk_T} {u : SY} {p k : Nat} {x : Int32} (hg : ga_ok g) (h : py_R g c M H m d O u) (hs : py_s m p (t :: l)) (hf : dk_fo (t :: l) k) (hl : p + (l.length + 1) ≤ 30960) (hx : x = nI p) (hp : ∀ u' d', py_R g c M H m d' O u' → post (nI (dk_ru g (t :: l))) u') : wpY_rule post u x := by
  subst hx
  have hnm := (py_nm h).1
  have hs' := py_low h hs (by simp; omega)
  rw [ye_rule, nI_1]
  refine yl_kind hnm hs'.1.1 hs'.1.2 (by omega) ?_
  cases l with
  | nil =>
    have ha : dk_ar t.1 = 0 := by have := hf.2; have : k - 1 + dk_ar t.1 = 0 := this; omega
    have n8 : t.1 ≠ 8 := fun z => by rw [z] at ha; exact absurd ha (by decide)
    have n9 : t.1 ≠ 9 := fun z => by rw [z] at ha; exact absurd ha (by decide)
    have n11 : t.1 ≠ 11 := fun z => by rw [z] at ha; exact absurd ha (by decide)
    refine yl_kind_any hnm (by simp at hl; omega) fun r => yl_val hnm hs'.1.1 hs'.1.2 (by omega) (br_f n8 ?_)
    have hp' := hp u d h
    have e : dk_ru g [t] = if t.1 = 10 then (if dk_hb g t.2 then 4 else 0) else 0 := by
      show (if t.1 = 8 then _ else if t.1 = 9 then _ else if t.1 = 10 then _ else if t.1 = 11 then _ else _) = _
      rw [if_neg n8, if_neg n9, if_neg n11]
    rw [e] at hp'
    rw [ye_rule_41]
    refine br_f n9 (yl_rule_68 hg h (fun a b => ?_) fun a => ?_)
    · rw [if_pos a, b] at hp'; exact hp'
    · rw [ye_rule_100]
      refine br_f n11 ?_
      by_cases a1 : t.1 = 10
      · rw [if_pos a1, if_neg (fun z => a ⟨a1, z⟩)] at hp'; exact hp'
      · rw [if_neg a1] at hp'; exact hp'
  | cons q l =>
    simp only [List.length_cons] at hl
    refine yl_kind hnm hs'.2.1.1 hs'.2.1.2 (by omega) (yl_val hnm hs'.1.1 hs'.1.2 (by omega) ?_)
    have hru : dk_ru g (t :: q :: l) = if t.1 = 8 then (if q.1 = 7 ∨ q.1 = 11 then 1 else 0) else if t.1 = 9 then (if q.1 = 3 then 2 else if q.1 = 4 then 3 else 0) else if t.1 = 10 then (if dk_hb g t.2 then 4 else 0) else if t.1 = 11 then (if q.1 = 8 ∧ dk_et l then 5 else 0) else 0 := rfl
    have r100 : (∀ u' d', py_R g c M H m d' O u' → post (nI (if t.1 = 11 then (if q.1 = 8 ∧ dk_et l then 5 else 0) else 0)) u') → yv_rule_100 post (nI p) t.1 q.1 u := fun z => yl_rule_100 h hs hf (by omega) z
    refine br_c (fun h8 => ?_) fun h8 => ?_
    · rw [if_pos h8] at hru
      refine br_c (fun a => ?_) fun a => br_c (fun b => ?_) fun b => ?_
      · have hp' := hp u d h; rw [hru, if_pos (Or.inl a)] at hp'; exact hp'
      · have hp' := hp u d h; rw [hru, if_pos (Or.inr b)] at hp'; exact hp'
      · rw [hru, if_neg (fun z => z.elim a b)] at hp
        rw [ye_rule_41]
        refine br_f (by rw [h8]; decide) (yl_rule_68 hg h (fun z => absurd (h8.symm.trans z) (by decide)) fun _ => r100 ?_)
        rw [if_neg (by rw [h8]; decide)]
        exact hp
    · rw [if_neg h8] at hru
      rw [ye_rule_41]
      refine br_c (fun h9 => ?_) fun h9 => ?_
      · rw [if_pos h9] at hru
        refine br_c (fun a => ?_) fun a => br_c (fun b => ?_) fun b => ?_
        · have hp' := hp u d h; rw [hru, if_pos a] at hp'; rw [ye_rule_57]; exact br_t a hp'
        · have hp' := hp u d h; rw [hru, if_neg a, if_pos b] at hp'; rw [ye_rule_57]; exact br_f a hp'
        · rw [hru, if_neg a, if_neg b] at hp
          refine yl_rule_68 hg h (fun z => absurd (h9.symm.trans z) (by decide)) fun _ => r100 ?_
          rw [if_neg (by rw [h9]; decide)]
          exact hp
      · rw [if_neg h9] at hru
        refine yl_rule_68 hg h (fun a b => ?_) fun a => r100 ?_
        · have hp' := hp u d h; rw [hru, if_pos a, b] at hp'; exact hp'
        · by_cases a1 : t.1 = 10
          · rw [if_neg (by rw [a1]; decide)]
            rw [hru, if_pos a1, if_neg (fun z => a ⟨a1, z⟩)] at hp
            exact hp
          · rw [hru, if_neg a1] at hp
            exact hp
theorem py_out0 {O : List dk_T} {u : SY} (h : py_R g c M H m d O u) : py_R g c M H m d [] (ys_outLen 0 u) := by
  obtain ⟨hG, hc, hM, hH, hm, hd, _⟩ := h
  exact ⟨hG, hc, hM, hH, hm, hd, rfl, trivial⟩
theorem yl_r228 {post : SY → Prop} {O suf : List dk_T} {u : SY} {q : Nat} {x y : Int32} (h : py_R g c M H m d O u) (hs : py_s m q suf) (hl : q + suf.length ≤ 30960) (hx : x = nI q) (hy : y = nI (q + suf.length)) (hp : ∀ u' d', py_R g c M H m d' (O ++ suf) u' → post u') : yv_replace_228 post x y u := by
  rw [ye_replace_228]
  exact yl_copy h hs hl hx hy fun u' h' => hp u' d h'
/-- the whole, with the redex's place -/
theorem yl_replace {post : SY → Prop} {A : List (List dk_T)} {T pre S S' suf O : List dk_T} {u : SY} {b h : Nat} {e : Bool} {x y : Int32} (hg : ga_ok g) (hA : ∀ i B, A[i]? = some B → py_s m (120 * i) B ∧ dk_fo B 1 ∧ 120 * i + B.length ≤ 30960) (hR : py_R g c M H m d O u) (hs : py_s m b T) (hl : b + T.length ≤ 30960) (eT : T = pre ++ S ++ suf) (hT : dk_fo T 1) (hS : dk_fo S 1) (hh : h = dk_ru g (S ++ suf)) (hr : dk_Rd g A e h S S') (hx : x = nI b) (hy : y = nI (b + pre.length)) (hp : ∀ u' d', py_R g c M H m d' (pre ++ S' ++ suf) u' → post u') : wpY_replace post u x y (dk_b e) := by
  subst hx hy
  have hlen : T.length = pre.length + (S.length + suf.length) := by rw [eT]; simp
  have hsp := hs
  rw [eT, List.append_assoc] at hsp
  obtain ⟨s1, s2⟩ := py_s_app.mp hsp
  obtain ⟨s3, s4⟩ := py_s_app.mp s2
  obtain ⟨t, l, eS, fl⟩ := dk_fo_pos (n := 0) hS
  have hSne : S ++ suf ≠ [] := by rw [eS]; simp
  obtain ⟨k, k0, fk⟩ := dk_fo_suf (a := pre) (b := S ++ suf) (n := 1) (by rw [← List.append_assoc, ← eT]; exact hT) hSne
  have eSs : S ++ suf = t :: (l ++ suf) := by rw [eS]; rfl
  rw [ye_replace]
  have s2' := s2
  rw [eSs] at s2' fk
  refine yl_rule hg hR s2' fk (by have : (S ++ suf).length = (l ++ suf).length + 1 := by rw [eSs]; rfl
                                  simp only [List.length_append] at this ⊢; omega) rfl ?_
  rw [← eSs, ← hh]
  intro u1 d1 h1
  refine yl_end' h1 s3 hS (by omega) rfl ?_
  refine yl_end' h1 hs hT hl rfl ?_
  have hl1 : S.length = l.length + 1 := by rw [eS]; rfl
  have hnm := (py_nm h1).1
  have s3' := py_low h1 s3 (by omega)
  rw [eS] at s3'
  -- the shared beginning, for any reading of the second child's place
  have hd : ∀ (r61 : Int32), (∀ u2, py_R g c M H m d1 pre u2 → ((nI h = 1 → (wpY_kind (fun r => ((r = 7 → (wpY_end (fun r2 => yv_replace_79 post (nI (b + pre.length)) (dk_b e) (nI h) (nI (b + pre.length + S.length)) (nI (b + T.length)) r61 t.2 r2 u2) u2 (nI (b + pre.length) + 2))) ∧ (¬ r = 7 → yv_replace_79 post (nI (b + pre.length)) (dk_b e) (nI h) (nI (b + pre.length + S.length)) (nI (b + T.length)) r61 t.2 (nI (b + pre.length) + 2) u2))) u2 (nI (b + pre.length) + 1))) ∧ (¬ nI h = 1 → yv_replace_89 post (nI (b + pre.length)) (dk_b e) (nI h) (nI (b + pre.length + S.length)) (nI (b + T.length)) r61 t.2 u2))) → wpY_val (fun r_81 => (wpY_copy (fun u_102 => (((nI h = 1 → (wpY_kind (fun r_409 => (((r_409 = 7 → (wpY_end (fun r_450 => ((yv_replace_79 post (nI (b + pre.length)) (dk_b e) (nI h) (nI (b + pre.length + S.length)) (nI (b + T.length)) r61 r_81 r_450 u_102))) u_102 (nI (b + pre.length) + 2))) ∧ (¬ r_409 = 7 → ((yv_replace_79 post (nI (b + pre.length)) (dk_b e) (nI h) (nI (b + pre.length + S.length)) (nI (b + T.length)) r61 r_81 (nI (b + pre.length) + 2) u_102)))))) u_102 (nI (b + pre.length) + 1))) ∧ (¬ nI h = 1 → ((yv_replace_89 post (nI (b + pre.length)) (dk_b e) (nI h) (nI (b + pre.length + S.length)) (nI (b + T.length)) r61 r_81 u_102)))))) (ys_outLen 0 u1) (nI b) (nI (b + pre.length)))) u1 (nI (b + pre.length)) := by
    intro r61 K
    refine yl_val hnm s3'.1.1 s3'.1.2 (by omega) ?_
    refine yl_copy (py_out0 h1) s1 (by omega) rfl rfl fun u2 h2 => ?_
    rw [List.nil_append] at h2
    exact K u2 h2
  have fin : ∀ (O' : List dk_T) (u2 : SY) (d2 : Nat → Int32), O' = pre ++ S' → py_R g c M H m d2 O' u2 → yv_replace_228 post (nI (b + pre.length + S.length)) (nI (b + T.length)) u2 := by
    intro O' u2 d2 eO h2
    subst eO
    exact yl_r228 h2 s4 (by omega) rfl (congrArg nI (by omega)) hp
  rw [nI_1]
  rw [nI_1] at hd
  rcases hr with ⟨rfl, hr⟩ | ⟨rfl, hr⟩ | ⟨rfl, hr⟩ | ⟨rfl, hr⟩ | ⟨rfl, hr⟩ | ⟨rfl, hr⟩
  · obtain ⟨t', q, B, Y, e1, k1, k2, hB, hY, rfl⟩ := hr
    have e2 : l = q :: (B ++ Y) := by rw [e1] at eS; injection eS with _ z; exact z.symm
    subst e2
    have hq : dk_fo (q :: B) 1 := ⟨by omega, by rw [k2]; exact hB⟩
    have s5 := s3
    rw [eS] at s5
    have s6 : py_s m (b + pre.length + 1) ((q :: B) ++ Y) := s5.2
    obtain ⟨s7, s8⟩ := py_s_app.mp s6
    simp only [List.length_cons, List.length_append] at hl1 s8
    refine yl_end' h1 s7 hq (by simp; omega) rfl (hd _ fun u2 h2 => br_t rfl ?_)
    have s7' := py_low h2 s7 (by simp; omega)
    refine yl_kind (py_nm h2).1 s7'.1.1 s7'.1.2 (by omega) (br_f (by rw [k2]; decide) ?_)
    rw [ye_replace_79]
    refine yl_subst h2 s7.2 hB (by omega) s8 hY (by omega) (Or.inl (Or.inl (by omega))) (nI_add _ 2) (congrArg nI (by simp only [List.length_append, List.length_cons, List.length_nil] <;> omega)) ?_
    intro u3 d3 h3
    rw [ye_replace_89]
    refine br_f (by decide) ?_
    rw [ye_replace_109]
    refine br_f (by decide) ?_
    rw [ye_replace_172]
    refine br_f (by decide) ?_
    rw [ye_replace_213]
    exact br_f (by decide) (fin _ u3 d3 rfl h3)
  · obtain ⟨t', q, D, B, Y, e1, k1, k2, hD, hB, hY, rfl⟩ := hr
    have e2 : l = q :: (D ++ (B ++ Y)) := by rw [e1] at eS; injection eS with _ z; exact z.symm
    subst e2
    have hq : dk_fo (q :: (D ++ B)) 1 := ⟨by omega, by rw [k2, show 1 - 1 + dk_ar 7 = 1 + 1 from by decide]; exact dk_fo_app hD hB⟩
    have s5 := s3
    rw [eS] at s5
    have s6 : py_s m (b + pre.length + 1) ((q :: (D ++ B)) ++ Y) := by
      have := s5.2
      simpa using this
    obtain ⟨s7, s8⟩ := py_s_app.mp s6
    have s9 : py_s m (b + pre.length + 1 + 1) (D ++ B) := s7.2
    obtain ⟨s10, s11⟩ := py_s_app.mp s9
    simp only [List.length_cons, List.length_append] at hl1 s8
    refine yl_end' h1 s7 hq (by simp; omega) rfl (hd _ fun u2 h2 => br_t rfl ?_)
    have s7' := py_low h2 s7 (by simp; omega)
    refine yl_kind (py_nm h2).1 s7'.1.1 s7'.1.2 (by omega) (br_t k2 ?_)
    refine yl_end' h2 s10 hD (by omega) (nI_add _ 2) ?_
    rw [ye_replace_79]
    refine yl_subst h2 s11 hB (by omega) s8 hY (by omega) (Or.inl (Or.inl (by omega))) rfl (congrArg nI (by simp only [List.length_append, List.length_cons, List.length_nil] <;> omega)) ?_
    intro u3 d3 h3
    rw [ye_replace_89]
    refine br_f (by decide) ?_
    rw [ye_replace_109]
    refine br_f (by decide) ?_
    rw [ye_replace_172]
    refine br_f (by decide) ?_
    rw [ye_replace_213]
    exact br_f (by decide) (fin _ u3 d3 rfl h3)
  · obtain ⟨t', q, P, Z, W, e1, k1, k2, hP, hZ, hW, rfl⟩ := hr
    have e2 : l = q :: (P ++ (S' ++ W)) := by rw [e1] at eS; injection eS with _ z; exact z.symm
    subst e2
    have hq : dk_fo [q] 1 := ⟨by omega, by show _ = 0; rw [k2]; decide⟩
    have s5 := s3
    rw [eS] at s5
    have s6 : py_s m (b + pre.length + 1) (([q] ++ P) ++ (S' ++ W)) := s5.2
    obtain ⟨s7, s8⟩ := py_s_app.mp s6
    have s9 := (py_s_app.mp s8).1
    simp only [List.length_cons, List.length_append] at hl1 s9
    refine yl_end_any hnm (by omega) fun r61 => hd _ fun u2 h2 => br_f (by decide) ?_
    rw [ye_replace_89]
    refine br_t rfl ?_
    refine yl_child (c := 2) (a := [q] ++ P) (py_nm h2).1 (by decide) (dk_fo_app hq hP) (py_low h2 s7 (by simp; omega)) (by simp; omega) ?_
    refine yl_term h2 s9 hZ (by simp; omega) (congrArg nI (by simp only [List.length_append, List.length_cons, List.length_nil] <;> omega)) fun u3 h3 => ?_
    rw [ye_replace_109]
    refine br_f (by decide) ?_
    rw [ye_replace_172]
    refine br_f (by decide) ?_
    rw [ye_replace_213]
    exact br_f (by decide) (fin _ u3 d1 rfl h3)
  · obtain ⟨t', q, N, P, Z, W, e1, k1, k2, hN, hP, hZ, hW, rfl⟩ := hr
    have e2 : l = q :: (N ++ (P ++ (Z ++ W))) := by rw [e1] at eS; injection eS with _ z; exact z.symm
    subst e2
    have hq : dk_fo (q :: N) 1 := ⟨by omega, by rw [k2]; exact hN⟩
    have s5 := s3
    rw [eS] at s5
    have s6 : py_s m (b + pre.length + 1) ((q :: N) ++ (P ++ (Z ++ W))) := s5.2
    obtain ⟨s7, s8⟩ := py_s_app.mp s6
    have s6' : py_s m (b + pre.length + 1) ((q :: N ++ (P ++ Z)) ++ W) := by simpa using s6
    obtain ⟨s9, s10⟩ := py_s_app.mp s6'
    have sN : py_s m (b + pre.length + 1 + 1) N := s7.2
    simp only [List.length_cons, List.length_append] at hl1 s8 s10
    refine yl_end' h1 s7 hq (by simp; omega) rfl (hd _ fun u2 h2 => br_f (by decide) ?_)
    rw [ye_replace_89]
    refine br_f (by decide) ?_
    rw [ye_replace_109]
    refine br_t rfl ?_
    refine yl_child (c := 3) (a := q :: N ++ (P ++ Z)) (py_nm h2).1 (by decide) (dk_fo_app hq (dk_fo_app hP hZ)) (py_low h2 s9 (by simp; omega)) (by simp; omega) ?_
    refine yl_put h2 fun u3 h3 => yl_put h3 fun u4 h4 => ?_
    refine yl_term h4 s10 hW (by omega) (congrArg nI (by simp only [List.length_append, List.length_cons, List.length_nil] <;> omega)) fun u5 h5 => ?_
    refine yl_term h5 sN hN (by omega) (nI_add _ 2) fun u6 h6 => ?_
    refine yl_put h6 fun u7 h7 => ?_
    refine yl_term h7 sN hN (by omega) (nI_add _ 2) fun u8 h8 => ?_
    refine yl_copy h8 s8 (by simp; omega) (congrArg nI (by simp only [List.length_append, List.length_cons, List.length_nil] <;> omega)) (congrArg nI (by simp only [List.length_append, List.length_cons, List.length_nil] <;> omega)) fun u9 h9 => ?_
    rw [ye_replace_172]
    refine br_f (by decide) ?_
    rw [ye_replace_213]
    refine br_f (by decide) (fin _ u9 d1 ?_ h9)
    simp
  · obtain ⟨j, i, Bd, e1, hj, hb, hAi, rfl⟩ := hr
    have hj16 : j < 16 := by have := hg.2.2.2.2.2.2.2; omega
    have et : t = (10, nI j) := by rw [e1] at eS; injection eS with z _; exact z.symm
    subst et
    obtain ⟨a1, a2, a3⟩ := hA i Bd hAi
    refine yl_end_any hnm (by omega) fun r61 => hd _ fun u2 h2 => br_f (by decide) ?_
    rw [ye_replace_89]
    refine br_f (by decide) ?_
    rw [ye_replace_109]
    refine br_f (by decide) ?_
    rw [ye_replace_172, h2.1.2.2.2.2.2.1]
    dsimp only
    rw [nI_clamp (by omega), hb, show (120 : Int32) = nI 120 from rfl, pk_mul]
    refine br_t rfl ?_
    have tl : ∀ u3, py_R g c M H m d1 (pre ++ dk_em e Bd) u3 → yv_replace_213 post (nI (b + pre.length)) (nI 4) (nI (b + pre.length + S.length)) (nI (b + T.length)) u3 := by
      intro u3 h3
      rw [ye_replace_213]
      exact br_f (by decide) (fin _ u3 d1 rfl h3)
    cases e with
    | false => exact br_t rfl ⟨vp_in_nI (by omega) (by omega), yl_term h2 a1 a2 a3 (congrArg nI (by omega)) tl⟩
    | true => exact br_f (by decide) ⟨vp_in_nI (by omega) (by omega), yl_erase h2 a1 a2 a3 (congrArg nI (by omega)) tl⟩
  · obtain ⟨t', q, f, e1, k1, k2, hf, rfl⟩ := hr
    have e2 : l = q :: (f ++ [(5, 0)]) := by rw [e1] at eS; injection eS with _ z; exact z.symm
    subst e2
    have s5 := s3
    rw [eS] at s5
    have s6 : py_s m (b + pre.length + 1 + 1) (f ++ [(5, 0)]) := s5.2.2
    have sf := (py_s_app.mp s6).1
    simp only [List.length_cons, List.length_append, List.length_nil] at hl1
    refine yl_end_any hnm (by omega) fun r61 => hd _ fun u2 h2 => br_f (by decide) ?_
    rw [ye_replace_89]
    refine br_f (by decide) ?_
    rw [ye_replace_109]
    refine br_f (by decide) ?_
    rw [ye_replace_172]
    refine br_f (by decide) ?_
    rw [ye_replace_213]
    refine br_t rfl (yl_shift (s := false) h2 sf hf (by omega) (nI_add _ 2) ?_)
    intro u3 d3 _ h3
    rw [dk_yf_false] at h3
    exact fin _ u3 d3 rfl h3
end
end
section
/-! the arena: subterms, what is kept, X's find and intern -/
def dk_sub (R S : List dk_T) : Prop := dk_fo R 1 ∧ ∃ a b, S = a ++ R ++ b
theorem dk_sub_refl {S : List dk_T} (h : dk_fo S 1) : dk_sub S S := ⟨h, [], [], by simp⟩
theorem dk_sub_trans {R S T : List dk_T} (h : dk_sub R S) (h2 : dk_sub S T) : dk_sub R T := by
  obtain ⟨h0, a, b, rfl⟩ := h
  obtain ⟨_, c, d, rfl⟩ := h2
  exact ⟨h0, c ++ a, b ++ d, by simp⟩
theorem dk_sub_len {R S : List dk_T} (h : dk_sub R S) : R.length ≤ S.length := by
  obtain ⟨h0, a, b, rfl⟩ := h
  simp; omega
/-- two terms overlap only by one holding the other -/
theorem dk_ov {p S suf R r : List dk_T} (hS : dk_fo S 1) (hR : dk_fo R 1) (e : p ++ (S ++ suf) = R ++ r) : R.length ≤ p.length ∨ p.length + S.length ≤ R.length := by
  by_cases h : R.length ≤ p.length
  · exact Or.inl h
  · right
    have e1 : R = p ++ R.drop p.length := by
      have : (p ++ (S ++ suf)).take p.length = (R ++ r).take p.length := by rw [e]
      rw [List.take_left' rfl, List.take_append_of_le_length (by omega)] at this
      conv => lhs; rw [← List.take_append_drop p.length R, ← this]
    have hne : R.drop p.length ≠ [] := by
      intro z
      have : (R.drop p.length).length = 0 := by rw [z]; rfl
      simp at this; omega
    have hR' := hR
    rw [e1] at hR'
    obtain ⟨m, hm, hf⟩ := dk_fo_suf hR' hne
    rw [show m = 1 + (m - 1) from by omega] at hf
    obtain ⟨c1, c2, ec, h1, h2⟩ := dk_fo_split hf
    have e2 : S ++ suf = c1 ++ (c2 ++ r) := by
      rw [e1, ec, List.append_assoc, List.append_assoc] at e
      exact List.append_cancel_left e
    obtain ⟨e3, _⟩ := dk_fo_pre hS h1 e2
    have : R.length = p.length + (c1.length + c2.length) := by
      conv => lhs; rw [e1, ec]
      simp
    rw [this, e3]; omega
theorem dk_sub_flat {R : List dk_T} (hR : dk_fo R 1) : ∀ {cs : List (List dk_T)} {a b : List dk_T}, (∀ c ∈ cs, dk_fo c 1) → cs.flatten = a ++ R ++ b → ∃ c ∈ cs, dk_sub R c := by
  intro cs
  induction cs with
  | nil =>
    intro a b _ e
    have h1 : (a ++ R ++ b).length = 0 := by rw [← e]; rfl
    have h2 := dk_fo_len hR
    simp only [List.length_append] at h1
    omega
  | cons c cs ih =>
    intro a b h e
    rw [List.flatten_cons] at e
    by_cases hl : c.length ≤ a.length
    · have e1 : a = c ++ a.drop c.length := by
        have : (c ++ cs.flatten).take c.length = (a ++ R ++ b).take c.length := by rw [e]
        rw [List.take_left' rfl, List.append_assoc, List.take_append_of_le_length (by omega)] at this
        conv => lhs; rw [← List.take_append_drop c.length a, ← this]
      have e2 : cs.flatten = a.drop c.length ++ R ++ b := by
        rw [e1] at e
        simp only [List.append_assoc] at e
        have := List.append_cancel_left e
        rw [List.append_assoc]
        exact this
      obtain ⟨x, hx, hs⟩ := ih (fun c hc => h c (by simp [hc])) e2
      exact ⟨x, by simp [hx], hs⟩
    · have e' : a ++ (R ++ b) = c ++ cs.flatten := by rw [e]; simp
      rcases dk_ov hR (h c (by simp)) e' with h1 | h1
      · exact absurd h1 (by omega)
      · refine ⟨c, by simp, hR, a, c.drop (a.length + R.length), ?_⟩
        have : (a ++ (R ++ b)).take (a.length + R.length) = (c ++ cs.flatten).take (a.length + R.length) := by rw [e']
        rw [← List.append_assoc, List.take_left' (by simp), List.take_append_of_le_length h1] at this
        rw [this, List.take_append_drop]
theorem dk_sub_cons {t : dk_T} {cs : List (List dk_T)} {R : List dk_T} (hcs : ∀ c ∈ cs, dk_fo c 1) (hl : cs.length = dk_ar t.1) (h : dk_sub R (t :: cs.flatten)) : R = t :: cs.flatten ∨ ∃ c ∈ cs, dk_sub R c := by
  obtain ⟨hR, a, b, e⟩ := h
  cases a with
  | nil =>
    left
    have hS : dk_fo (t :: cs.flatten) 1 := ⟨by omega, by rw [← hl]; have := dk_fo_flat hcs; simpa using this⟩
    have e' : (t :: cs.flatten) ++ [] = R ++ b := by rw [e]; simp
    exact (dk_fo_pre hS hR e').1.symm
  | cons x a =>
    right
    injection e with _ e
    exact dk_sub_flat hR hcs e
theorem dk_sub_child {t : dk_T} {cs : List (List dk_T)} {c : List dk_T} (hcs : ∀ c ∈ cs, dk_fo c 1) (hc : c ∈ cs) : dk_sub c (t :: cs.flatten) := by
  obtain ⟨x, y, e⟩ := List.append_of_mem hc
  exact ⟨hcs c hc, t :: x.flatten, y.flatten, by rw [e]; simp⟩
/-! what is always true of the arena -/
def dk_inv (g : dk_G) (A : List (List dk_T)) : Prop := A.length ≤ ga_NL g ∧ A.Nodup ∧ (∀ S ∈ A, dk_gd (ga_ne g) S ∧ S.length ≤ ga_WL g) ∧ (∀ (i : Nat) (S R : List dk_T), A[i]? = some S → dk_sub R S → R ≠ S → ∃ j : Nat, j < i ∧ A[j]? = some R) ∧ A[0]? = some [(1, 0)] ∧ A[1]? = some [(1, 1)] ∧ A[2]? = some [(2, 0)] ∧ A[3]? = some [(3, 0)]
theorem dk_idx {A : List (List dk_T)} (h : A.Nodup) {i j : Nat} {S : List dk_T} (hi : A[i]? = some S) (hj : A[j]? = some S) : i = j := (List.getElem?_inj (List.getElem?_eq_some_iff.mp hi).1 h).mp (hi.trans hj.symm)
theorem dk_inv_push {g : dk_G} {A : List (List dk_T)} {S : List dk_T} (h : dk_inv g A) (hS : S ∉ A) (hl : A.length < ga_NL g) (hg : dk_gd (ga_ne g) S) (hw : S.length ≤ ga_WL g) (hs : ∀ R, dk_sub R S → R ≠ S → R ∈ A) : dk_inv g (A ++ [S]) := by
  obtain ⟨h1, h2, h3, h4, h5, h6, h7, h8⟩ := h
  have lift : ∀ {i : Nat} {X : List dk_T}, A[i]? = some X → (A ++ [S])[i]? = some X := by
    intro i X hi
    rw [List.getElem?_append_left (List.getElem?_eq_some_iff.mp hi).1]; exact hi
  refine ⟨by simp; omega, ?_, ?_, ?_, lift h5, lift h6, lift h7, lift h8⟩
  · rw [List.nodup_append]
    refine ⟨h2, by simp, ?_⟩
    intro a ha b hb e
    simp at hb
    rw [e, hb] at ha
    exact hS ha
  · intro X hX
    rcases List.mem_append.mp hX with hX | hX
    · exact h3 X hX
    · simp at hX; rw [hX]; exact ⟨hg, hw⟩
  · intro i X R hi hR hne
    by_cases hi' : i < A.length
    · rw [List.getElem?_append_left hi'] at hi
      obtain ⟨j, hj, e⟩ := h4 i X R hi hR hne
      exact ⟨j, hj, lift e⟩
    · rw [List.getElem?_append_right (by omega)] at hi
      have e0 : i - A.length = 0 := by
        have := (List.getElem?_eq_some_iff.mp hi).1
        simp at this; omega
      rw [e0] at hi
      simp at hi
      subst hi
      obtain ⟨j, hj⟩ := List.getElem?_of_mem (hs R hR hne)
      exact ⟨j, by have := (List.getElem?_eq_some_iff.mp hj).1; omega, lift hj⟩
theorem dk_inv_take {g : dk_G} {A : List (List dk_T)} {k : Nat} (h : dk_inv g A) (hk : 4 ≤ k) : dk_inv g (A.take k) := by
  obtain ⟨h1, h2, h3, h4, h5, h6, h7, h8⟩ := h
  have get : ∀ {i : Nat} {X : List dk_T}, i < k → A[i]? = some X → (A.take k)[i]? = some X := by
    intro i X hi e
    rw [List.getElem?_take_of_lt hi]; exact e
  refine ⟨by simp; omega, h2.sublist (List.take_sublist k A), ?_, ?_, get (by omega) h5, get (by omega) h6, get (by omega) h7, get (by omega) h8⟩
  · intro S hS; exact h3 S (List.mem_of_mem_take hS)
  · intro i S R hi hR hne
    have hik : i < k := by
      have := (List.getElem?_eq_some_iff.mp hi).1
      simp at this; omega
    rw [List.getElem?_take_of_lt hik] at hi
    obtain ⟨j, hj, e⟩ := h4 i S R hi hR hne
    exact ⟨j, hj, get (by omega) e⟩
/-! X: nodes stand for terms, one for one -/
theorem px_N_mono {A A' : List (List dk_T)} {k : Int32} {pt pt' : Nat → Int32} {S : List dk_T} (h : px_N A k pt S) (hA : ∀ (i : Nat) (c : List dk_T), A[i]? = some c → A'[i]? = some c) (hp : ∀ j, j < 4 → pt' j = pt j) : px_N A' k pt' S := by
  obtain ⟨cs, h1, h2, h3, h4⟩ := h
  refine ⟨cs, ?_, h2, ?_, ?_⟩
  · rw [hp 0 (by omega)]; exact h1
  · intro j c hj
    obtain ⟨a, i, b, e⟩ := h3 j c hj
    have hj4 : j < 4 := by
      have := (List.getElem?_eq_some_iff.mp hj).1
      have := dk_ar4 k
      omega
    exact ⟨a, i, hA i c b, by rw [hp j hj4]; exact e⟩
  · intro j a b c
    rw [hp j a]; exact h4 j a b c
theorem px_N_fn {A : List (List dk_T)} {k : Int32} {pt pt' : Nat → Int32} {S S' : List dk_T} (hl : A.length ≤ 256) (h : px_N A k pt S) (h' : px_N A k pt' S') (hp : ∀ j, j < 4 → pt' j = pt j) : S = S' := by
  obtain ⟨cs, h1, h2, h3, h4⟩ := h
  obtain ⟨ds, h1', h2', h3', h4'⟩ := h'
  have e : cs = ds := by
    apply List.ext_getElem?
    intro j
    by_cases hj : j < cs.length
    · have hj' : j < ds.length := by omega
      rw [List.getElem?_eq_getElem hj, List.getElem?_eq_getElem hj']
      obtain ⟨_, i, a, b⟩ := h3 j _ (List.getElem?_eq_getElem hj)
      obtain ⟨_, i', a', b'⟩ := h3' j _ (List.getElem?_eq_getElem hj')
      have hj4 : j < 4 := by have := dk_ar4 k; omega
      have hi := (List.getElem?_eq_some_iff.mp a).1
      have hi' := (List.getElem?_eq_some_iff.mp a').1
      have : i = i' := by
        rw [hp j hj4, b] at b'
        exact (nI_eq (by omega) (by omega)).mp b'
      subst this
      exact a.symm.trans a'
    · rw [List.getElem?_eq_none (by omega), List.getElem?_eq_none (by omega)]
  rw [h1, h1', e, hp 0 (by omega)]
theorem px_N_inj {A : List (List dk_T)} {k k' : Int32} {pt pt' : Nat → Int32} {S : List dk_T} (hn : A.Nodup) (h : px_N A k pt S) (h' : px_N A k' pt' S) : k' = k ∧ ∀ j, j < 4 → pt' j = pt j := by
  obtain ⟨cs, h1, h2, h3, h4⟩ := h
  obtain ⟨ds, h1', h2', h3', h4'⟩ := h'
  rw [h1] at h1'
  injection h1' with e1 e2
  have ek : k' = k := (congrArg Prod.fst e1).symm
  subst ek
  have ev := congrArg Prod.snd e1
  dsimp only at ev
  have fc : ∀ c ∈ cs, dk_fo c 1 := fun c hc => by
    obtain ⟨j, hj⟩ := List.getElem?_of_mem hc
    exact (h3 j c hj).1
  have fd : ∀ c ∈ ds, dk_fo c 1 := fun c hc => by
    obtain ⟨j, hj⟩ := List.getElem?_of_mem hc
    exact (h3' j c hj).1
  have ec : cs = ds := dk_kids_inj (r := []) (s := []) fc fd (by omega) (by rw [e2])
  subst ec
  refine ⟨rfl, ?_⟩
  intro j hj
  by_cases hjc : j < cs.length
  · obtain ⟨_, i, a, b⟩ := h3 j _ (List.getElem?_eq_getElem hjc)
    obtain ⟨_, i', a', b'⟩ := h3' j _ (List.getElem?_eq_getElem hjc)
    rw [b, b', dk_idx hn a a']
  · cases j with
    | zero =>
      have : dk_ar k' = 0 := by omega
      rw [if_pos this, if_pos this] at ev
      exact ev.symm
    | succ j => rw [h4 (j + 1) hj (by omega) (by omega), h4' (j + 1) hj (by omega) (by omega)]
def dk_p4 (a b c d : Int32) : Nat → Int32 := fun j => if j = 0 then a else if j = 1 then b else if j = 2 then c else d
theorem xl_find_3 {post : Int32 → Prop} {A : List (List dk_T)} {u : SX} {k a b c d : Int32} {S : List dk_T} (hl : A.length ≤ 256) (hn : A.Nodup) (hA : px_A A u) (hN : px_N A k (dk_p4 a b c d) S) (h1 : ∀ i, A[i]? = some S → post (nI i)) (h2 : S ∉ A → post (-13)) : ∀ {e n t : Nat}, t + e = A.length → e < n → (∀ i, i < t → A[i]? ≠ some S) → xv_find_3 post k a b c d n (nI t) u := by
  intro e
  induction e with
  | zero =>
    intro n t ht hn' hlt
    obtain ⟨n, rfl⟩ : ∃ c, n = c + 1 := ⟨n - 1, by omega⟩
    rw [xe_find_3, hA.1, show A.length = t from by omega]
    refine br_t (Int32.le_refl _) (h2 ?_)
    intro hS
    obtain ⟨i, hi⟩ := List.getElem?_of_mem hS
    exact hlt i (by have := (List.getElem?_eq_some_iff.mp hi).1; omega) hi
  | succ e ih =>
    intro n t ht hn' hlt
    obtain ⟨n, rfl⟩ : ∃ c, n = c + 1 := ⟨n - 1, by omega⟩
    rw [xe_find_3, hA.1]
    refine br_f (nI_ge (by omega) (by omega)) (nm_r (show (4 : Int32) * nI t = nI (4 * t) from pk_mul 4 t) ?_)
    rw [show (nI (4 * t) + 1 : Int32) = nI (4 * t + 1) from nI_add _ 1, show (nI (4 * t) + 2 : Int32) = nI (4 * t + 2) from nI_add _ 2, show (nI (4 * t) + 3 : Int32) = nI (4 * t + 3) from nI_add _ 3]
    simp only [nI_clamp (show t < 2 ^ 31 by omega), nI_clamp (show 4 * t < 2 ^ 31 by omega), nI_clamp (show 4 * t + 1 < 2 ^ 31 by omega), nI_clamp (show 4 * t + 2 < 2 ^ 31 by omega), nI_clamp (show 4 * t + 3 < 2 ^ 31 by omega)]
    have htA : t < A.length := by omega
    obtain ⟨hNt, _⟩ := hA.2 t _ (List.getElem?_eq_getElem htA)
    have next : ¬ (xg_kind u t = k ∧ xg_part u (4 * t) = a ∧ xg_part u (4 * t + 1) = b ∧ xg_part u (4 * t + 2) = c ∧ xg_part u (4 * t + 3) = d) → ∀ x, x = nI t + 1 → xv_find_3 post k a b c d n x u := by
      intro hne
      refine nm_r (nI_1 _) (ih (by omega) (by omega) ?_)
      intro i hi
      by_cases hit : i = t
      · subst hit
        intro z
        rw [List.getElem?_eq_getElem htA] at z
        have z := Option.some.inj z
        rw [z] at hNt
        obtain ⟨e1, e2⟩ := px_N_inj hn hN hNt
        exact hne ⟨e1, e2 0 (by omega), e2 1 (by omega), e2 2 (by omega), e2 3 (by omega)⟩
      · exact hlt i (by omega)
    refine ⟨vp_in_nI (by omega) (by omega), br_c (fun z1 => ⟨vp_in_nI (by omega) (by omega), br_c (fun z2 => ⟨vp_in_nI (by omega) (by omega), br_c (fun z3 => ⟨vp_in_nI (by omega) (by omega), br_c (fun z4 => ⟨vp_in_nI (by omega) (by omega), br_c (fun z5 => ?_) fun z5 => next (fun z => z5 z.2.2.2.2)⟩) fun z4 => next (fun z => z4 z.2.2.2.1)⟩) fun z3 => next (fun z => z3 z.2.2.1)⟩) fun z2 => next (fun z => z2 z.2.1)⟩) fun z1 => next (fun z => z1 z.1)⟩
    refine h1 t ?_
    rw [List.getElem?_eq_getElem htA]
    congr 1
    rw [z1] at hNt
    refine px_N_fn hl hNt hN ?_
    intro j hj
    match j, hj with
    | 0, _ => exact z2.symm
    | 1, _ => exact z3.symm
    | 2, _ => exact z4.symm
    | 3, _ => exact z5.symm
theorem xl_find {post : Int32 → Prop} {A : List (List dk_T)} {u : SX} {k a b c d : Int32} {S : List dk_T} (hl : A.length ≤ 256) (hn : A.Nodup) (hA : px_A A u) (hN : px_N A k (dk_p4 a b c d) S) (h1 : ∀ i, A[i]? = some S → post (nI i)) (h2 : S ∉ A → post (-13)) : wpX_find post u k a b c d := by
  rw [xe_find]
  exact ⟨_, xl_find_3 hl hn hA hN h1 h2 (e := A.length) (n := A.length + 1) (t := 0) (by omega) (by omega) (fun i hi => absurd hi (by omega))⟩
section
variable {post : Int32 → SX → Prop} {g : dk_G} {A : List (List dk_T)} {M : dk_M} {F : dk_F} {T O S : List dk_T} {cap : Nat} {u : SX}
/-- the stacks of enter are as they were -/
def px_st (u u' : SX) : Prop := xg_openPos u' = xg_openPos u ∧ xg_openLeft u' = xg_openLeft u ∧ xg_made u' = xg_made u
theorem xl_intern_79 {k a b c d : Int32} (hg : ga_ok g) (hi1 : A.length ≤ ga_NL g) (hi2 : A.Nodup) (h : px_R g A M F T cap O u) (hN : px_N A k (dk_p4 a b c d) S) (hw : S.length < 2 ^ 31) (h0 : ga_WL g < S.length → post (-3) u) (h1 : S.length ≤ ga_WL g → ∀ i, A[i]? = some S → post (nI i) u) (h2 : S.length ≤ ga_WL g → S ∉ A → A.length = ga_NL g → post (-3) u) (h3 : S.length ≤ ga_WL g → S ∉ A → A.length < ga_NL g → ∀ u', px_st u u' → px_R g (A ++ [S]) M F T cap O u' → post (nI A.length) u') : xv_intern_79 post k a b c d (nI S.length) u := by
  have hA := h.2.1
  have hNL : ga_NL g ≤ 256 := hg.2.1
  have hWL : ga_WL g ≤ 120 := hg.2.2.2.1
  have hAl : A.length ≤ 256 := by omega
  rw [xe_intern_79, h.1.2.1, h.1.1, hA.1]
  by_cases hW : S.length ≤ ga_WL g
  · refine br_t (nI_le hW (by omega)) (xl_find hAl hi2 hA hN (fun i hi' => ?_) fun hS => ?_)
    · exact br_f (nI_pos (by have := (List.getElem?_eq_some_iff.mp hi').1; omega)) (h1 hW i hi')
    · refine br_t (by decide) ?_
      by_cases hc : A.length < ga_NL g
      · refine br_t (nI_lt hc (by omega)) ?_
        rw [show (4 : Int32) * nI A.length = nI (4 * A.length) from pk_mul 4 _, show (nI (4 * A.length) + 1 : Int32) = nI (4 * A.length + 1) from nI_add _ 1, show (nI (4 * A.length) + 2 : Int32) = nI (4 * A.length + 2) from nI_add _ 2, show (nI (4 * A.length) + 3 : Int32) = nI (4 * A.length + 3) from nI_add _ 3]
        simp only [nI_clamp (show A.length < 2 ^ 31 by omega), nI_clamp (show 4 * A.length < 2 ^ 31 by omega), nI_clamp (show 4 * A.length + 1 < 2 ^ 31 by omega), nI_clamp (show 4 * A.length + 2 < 2 ^ 31 by omega), nI_clamp (show 4 * A.length + 3 < 2 ^ 31 by omega)]
        refine ⟨vp_in_nI (by omega) (by omega), nm_e ⟨vp_in_nI (by omega) (by omega), nm_e ⟨vp_in_nI (by omega) (by omega), nm_e ⟨vp_in_nI (by omega) (by omega), nm_e ⟨vp_in_nI (by omega) (by omega), nm_e ⟨vp_in_nI (by omega) (by omega), nm_e (nm_r (nI_1 _) ?_)⟩⟩⟩⟩⟩⟩
        refine h3 hW hS hc _ ⟨rfl, rfl, rfl⟩ ⟨h.1, ⟨?_, ?_⟩, h.2.2.1, h.2.2.2.1, h.2.2.2.2.1, h.2.2.2.2.2⟩
        · show nI (A.length + 1) = nI (A ++ [S]).length
          simp
        · intro i X hX
          show px_N (A ++ [S]) (upd (xg_kind u) A.length k i) (fun j => upd (upd (upd (upd (xg_part u) (4 * A.length) a) (4 * A.length + 1) b) (4 * A.length + 2) c) (4 * A.length + 3) d (4 * i + j)) X ∧ upd (xg_heavy u) A.length (nI S.length) i = nI X.length
          have lift : ∀ (i : Nat) (X : List dk_T), A[i]? = some X → (A ++ [S])[i]? = some X := by
            intro i X hi
            rw [List.getElem?_append_left (List.getElem?_eq_some_iff.mp hi).1]; exact hi
          by_cases hi' : i < A.length
          · rw [List.getElem?_append_left hi'] at hX
            obtain ⟨n1, n2⟩ := hA.2 i X hX
            rw [pk_un (by omega), pk_un (by omega)]
            refine ⟨px_N_mono n1 lift ?_, n2⟩
            intro j hj
            try dsimp only
            rw [pk_un (by omega), pk_un (by omega), pk_un (by omega), pk_un (by omega)]
          · have hlt := (List.getElem?_eq_some_iff.mp hX).1
            simp at hlt
            have ei : i = A.length := by omega
            subst ei
            simp at hX
            subst hX
            rw [pk_us, pk_us]
            refine ⟨px_N_mono hN lift ?_, rfl⟩
            intro j hj
            try dsimp only
            match j, hj with
            | 0, _ => rw [pk_un (by omega), pk_un (by omega), pk_un (by omega), Nat.add_zero, pk_us]; rfl
            | 1, _ => rw [pk_un (by omega), pk_un (by omega), pk_us]; rfl
            | 2, _ => rw [pk_un (by omega), pk_us]; rfl
            | 3, _ => rw [pk_us]; rfl
      · refine br_f (nI_nlt (by omega) (by omega)) (h2 hW hS ?_)
        omega
  · exact br_f (nI_ge (by omega) (by omega)) (h0 (by omega))
theorem dk_ar_cases (k : Int32) : dk_ar k = 0 ∨ dk_ar k = 1 ∨ dk_ar k = 2 ∨ dk_ar k = 4 := by
  unfold dk_ar dk_kd
  repeat' split
  all_goals simp
/-- a child's weight, read -/
theorem xl_heavy {j : Nat} {k : Int32} {pt : Nat → Int32} {cs : List (List dk_T)} {c : List dk_T} (hl : A.length ≤ 256) (hA : px_A A u) (h3 : ∀ (j : Nat) (c : List dk_T), cs[j]? = some c → dk_fo c 1 ∧ ∃ i : Nat, A[i]? = some c ∧ pt j = nI i) (hj : cs[j]? = some c) : vp_in (pt j) 256 ∧ xg_heavy u (pt j).toNatClampNeg = nI c.length := by
  obtain ⟨_, i, a, e⟩ := h3 j c hj
  have hi := (List.getElem?_eq_some_iff.mp a).1
  rw [e, nI_clamp (by omega)]
  exact ⟨vp_in_nI (by omega) (by omega), (hA.2 i c a).2⟩
theorem xl_intern {k a b c d : Int32} (hg : ga_ok g) (hi1 : A.length ≤ ga_NL g) (hi2 : A.Nodup) (h : px_R g A M F T cap O u) (hN : px_N A k (dk_p4 a b c d) S) (hw : S.length < 2 ^ 31) (h0 : ga_WL g < S.length → post (-3) u) (h1 : S.length ≤ ga_WL g → ∀ i, A[i]? = some S → post (nI i) u) (h2 : S.length ≤ ga_WL g → S ∉ A → A.length = ga_NL g → post (-3) u) (h3 : S.length ≤ ga_WL g → S ∉ A → A.length < ga_NL g → ∀ u', px_st u u' → px_R g (A ++ [S]) M F T cap O u' → post (nI A.length) u') : wpX_intern post u k a b c d := by
  have fin := xl_intern_79 (post := post) hg hi1 hi2 h hN hw h0 h1 h2 h3
  have hNL : ga_NL g ≤ 256 := hg.2.1
  have hAl : A.length ≤ 256 := by omega
  have hN' := hN
  obtain ⟨cs, e1, e2, e3, _⟩ := hN'
  have hv := fun (j : Nat) (x : List dk_T) => xl_heavy (j := j) (c := x) (k := k) hAl h.2.1 e3
  rw [xe_intern]
  refine xl_arity ?_
  have hlen : S.length = 1 + cs.flatten.length := by rw [e1]; simp; omega
  rcases dk_ar_cases k with hk | hk | hk | hk
  · rw [hk] at e2 ⊢
    have : cs = [] := List.length_eq_zero_iff.mp e2
    subst this
    rw [show S.length = 1 from by rw [hlen]; rfl] at fin
    refine br_t (by decide) ?_
    rw [xe_intern_26]; refine br_t (by decide) ?_
    rw [xe_intern_43]; refine br_t (by decide) ?_
    rw [xe_intern_61]; exact br_t (by decide) fin
  · rw [hk] at e2 ⊢
    match cs, e2 with
    | [x], _ =>
      obtain ⟨v0, w0⟩ := hv 0 x rfl
      refine br_f (by decide) ⟨v0, ?_⟩
      rw [show S.length = 1 + x.length from by rw [hlen]; simp] at fin
      refine nm_r (e' := nI (1 + x.length)) (by rw [show a = dk_p4 a b c d 0 from rfl, w0]; exact nI_add 1 _) ?_
      rw [xe_intern_26]; refine br_t (by decide) ?_
      rw [xe_intern_43]; refine br_t (by decide) ?_
      rw [xe_intern_61]; exact br_t (by decide) fin
  · rw [hk] at e2 ⊢
    match cs, e2 with
    | [x, y], _ =>
      obtain ⟨v0, w0⟩ := hv 0 x rfl
      obtain ⟨v1, w1⟩ := hv 1 y rfl
      refine br_f (by decide) ⟨v0, ?_⟩
      rw [show S.length = 1 + x.length + y.length from by rw [hlen]; simp; omega] at fin
      refine nm_r (e' := nI (1 + x.length)) (by rw [show a = dk_p4 a b c d 0 from rfl, w0]; exact nI_add 1 _) ?_
      rw [xe_intern_26]; refine br_f (by decide) ⟨v1, ?_⟩
      refine nm_r (e' := nI (1 + x.length + y.length)) (by rw [show b = dk_p4 a b c d 1 from rfl, w1]; exact nI_add _ _) ?_
      rw [xe_intern_43]; refine br_t (by decide) ?_
      rw [xe_intern_61]; exact br_t (by decide) fin
  · rw [hk] at e2 ⊢
    match cs, e2 with
    | [x, y, z, w], _ =>
      obtain ⟨v0, w0⟩ := hv 0 x rfl
      obtain ⟨v1, w1⟩ := hv 1 y rfl
      obtain ⟨v2, w2⟩ := hv 2 z rfl
      obtain ⟨v3, w3⟩ := hv 3 w rfl
      refine br_f (by decide) ⟨v0, ?_⟩
      rw [show S.length = 1 + x.length + y.length + z.length + w.length from by rw [hlen]; simp; omega] at fin
      refine nm_r (e' := nI (1 + x.length)) (by rw [show a = dk_p4 a b c d 0 from rfl, w0]; exact nI_add 1 _) ?_
      rw [xe_intern_26]; refine br_f (by decide) ⟨v1, ?_⟩
      refine nm_r (e' := nI (1 + x.length + y.length)) (by rw [show b = dk_p4 a b c d 1 from rfl, w1]; exact nI_add _ _) ?_
      rw [xe_intern_43]; refine br_f (by decide) ⟨v2, ?_⟩
      refine nm_r (e' := nI (1 + x.length + y.length + z.length)) (by rw [show c = dk_p4 a b c d 2 from rfl, w2]; exact nI_add _ _) ?_
      rw [xe_intern_61]; refine br_f (by decide) ⟨v3, ?_⟩
      exact nm_r (e' := nI (1 + x.length + y.length + z.length + w.length)) (by rw [show d = dk_p4 a b c d 3 from rfl, w3]; exact nI_add _ _) fin
end
end
section
/-! Y: find, and the copy of a new node -/
def py_A (A : List (List dk_T)) (m : Nat → Int64) : Prop := ∀ (i : Nat) (S : List dk_T), A[i]? = some S → py_s m (120 * i) S
/-- bounds that hold of every arena here -/
def dk_bd (A : List (List dk_T)) : Prop := A.length ≤ 256 ∧ ∀ S ∈ A, dk_fo S 1 ∧ S.length ≤ 120
theorem dk_inv_bd {g : dk_G} {A : List (List dk_T)} (hg : ga_ok g) (h : dk_inv g A) : dk_bd A := by
  refine ⟨?_, fun S hS => ?_⟩
  · have := h.1; have := hg.2.1; omega
  · obtain ⟨a, b⟩ := h.2.2.1 S hS
    have := hg.2.2.2.1
    exact ⟨a.1, by omega⟩
theorem dk_bd_pos {A : List (List dk_T)} (h : dk_bd A) {i : Nat} {S : List dk_T} (hi : A[i]? = some S) : i < 256 ∧ dk_fo S 1 ∧ S.length ≤ 120 ∧ 120 * i + S.length ≤ 30720 := by
  have h1 := (List.getElem?_eq_some_iff.mp hi).1
  obtain ⟨h2, h3⟩ := h.2 S (List.mem_of_getElem? hi)
  have := h.1
  exact ⟨by omega, h2, h3, by omega⟩
/-- the comparison of one node -/
theorem yl_find_19 {post : Int32 → Prop} {J : Int32 → Prop} {u : SY} {p t : Nat} {S : List dk_T} (hn : yg_nmem u = 47344) (hp : p + S.length ≤ 47344) (ht : 120 * t + S.length ≤ 47344) (h1 : dk_sg (yg_mem u) (120 * t) (S.map dk_en) → post (nI t)) (h2 : ¬ dk_sg (yg_mem u) (120 * t) (S.map dk_en) → J (nI (t + 1))) : ∀ {l a : List dk_T} {n : Nat}, S = a ++ l → dk_sg (yg_mem u) (120 * t) (a.map dk_en) → dk_sg (yg_mem u) (p + a.length) (l.map dk_en) → l.length < n → yv_find_19 post J (nI p) (nI (p + S.length)) (nI t) n (nI (p + a.length)) u := by
  intro l
  induction l with
  | nil =>
    intro a n e ha hl hn'
    obtain ⟨n, rfl⟩ : ∃ c, n = c + 1 := ⟨n - 1, by simp at hn'; omega⟩
    rw [List.append_nil] at e
    subst e
    rw [ye_find_19]
    refine br_t (Int32.le_refl _) ?_
    rw [ye_find_56]
    exact br_t rfl (h1 ha)
  | cons x l ih =>
    intro a n e ha hl hn'
    obtain ⟨n, rfl⟩ : ∃ c, n = c + 1 := ⟨n - 1, by simp at hn'; omega⟩
    have hlen : S.length = a.length + (l.length + 1) := by rw [e]; simp
    simp only [List.length_cons] at hn'
    have e1 : (nI t * 120 + nI (p + a.length)) - nI p = nI (120 * t + a.length) := by
      rw [show (120 : Int32) = nI 120 from rfl, pk_mul, nI_add, pk_sub (by omega)]
      exact congrArg nI (by omega)
    rw [ye_find_19, e1, hn, nI_clamp (by omega), nI_clamp (by omega), hl.1]
    have el : p + a.length + 1 = p + (a ++ [x]).length := by simp; omega
    refine br_f (nI_ge (by omega) (by omega)) ⟨vp_in_nI (by omega) (by omega), vp_in_nI (by omega) (by omega), br_c (fun he => nm_r (nI_1 _) ?_) fun he => ?_⟩
    · rw [el]
      refine ih (by rw [e]; simp) ?_ ?_ (by omega)
      · rw [List.map_append, dk_sg_app]
        refine ⟨ha, ?_, trivial⟩
        rw [List.length_map]; exact he
      · rw [← el]; exact hl.2
    · rw [ye_find_56]
      refine br_f ?_ (nm_r (nI_1 _) (h2 ?_))
      · rw [nI_eq (by omega) (by omega)]; omega
      · intro z
        rw [e, List.map_append, dk_sg_app] at z
        refine he ?_
        have := z.2.1
        rw [List.length_map] at this
        exact this
/-- a node's cells are S's, or not -/
theorem py_find_iff {m : Nat → Int64} {B S : List dk_T} {p : Nat} (hB : py_s m p B) (fB : dk_fo B 1) (fS : dk_fo S 1) (kS : ∀ t ∈ S, dk_kk t.1) : dk_sg m p (S.map dk_en) ↔ B = S := by
  constructor
  · intro h
    have kB := py_s_kk hB
    have hB2 := (py_s_sg.mp hB).1
    have pw : ∀ j, (h1 : j < B.length) → (h2 : j < S.length) → B[j] = S[j] := by
      intro j h1 h2
      have a := dk_sg_get hB2 (j := j) (by simpa using h1)
      have b := dk_sg_get h (j := j) (by simpa using h2)
      rw [a] at b
      simp at b
      exact dk_en_inj (kB _ (List.getElem_mem h1)) (kS _ (List.getElem_mem h2)) b
    by_cases hl : S.length ≤ B.length
    · have e : B = S ++ B.drop S.length := by
        have : B.take S.length = S := by
          apply List.ext_getElem
          · simp; omega
          · intro j h1 h2
            rw [List.getElem_take]
            exact pw j (by omega) h2
        conv => lhs; rw [← List.take_append_drop S.length B, this]
      have e2 : B ++ [] = S ++ B.drop S.length := by rw [List.append_nil]; exact e
      exact (dk_fo_pre fB fS e2).1
    · have e : S = B ++ S.drop B.length := by
        have : S.take B.length = B := by
          apply List.ext_getElem
          · simp; omega
          · intro j h1 h2
            rw [List.getElem_take]
            exact (pw j h2 (by omega)).symm
        conv => lhs; rw [← List.take_append_drop B.length S, this]
      have e2 : S ++ [] = B ++ S.drop B.length := by rw [List.append_nil]; exact e
      exact ((dk_fo_pre fS fB e2).1).symm
  · intro e
    subst e
    exact (py_s_sg.mp hB).1
theorem yl_find_8 {post : Int32 → Prop} {u : SY} {p : Nat} {A : List (List dk_T)} {S : List dk_T} (hn : yg_nmem u = 47344) (hc : yg_count u = nI A.length) (hb : dk_bd A) (hA : py_A A (yg_mem u)) (hs : py_s (yg_mem u) p S) (hf : dk_fo S 1) (hp : p + S.length ≤ 47344) (hS : S.length ≤ 120) (h1 : ∀ i, A[i]? = some S → post (nI i)) (h2 : S ∉ A → post (-13)) : ∀ {e n t : Nat}, t + e = A.length → e < n → (∀ i, i < t → A[i]? ≠ some S) → yv_find_8 post (nI p) (nI (p + S.length)) n (nI t) u := by
  have hl := hb.1
  intro e
  induction e with
  | zero =>
    intro n t ht hn' hlt
    obtain ⟨n, rfl⟩ : ∃ c, n = c + 1 := ⟨n - 1, by omega⟩
    rw [ye_find_8, hc, show A.length = t from by omega]
    refine br_t (Int32.le_refl _) (h2 ?_)
    intro hS
    obtain ⟨i, hi⟩ := List.getElem?_of_mem hS
    exact hlt i (by have := (List.getElem?_eq_some_iff.mp hi).1; omega) hi
  | succ e ih =>
    intro n t ht hn' hlt
    obtain ⟨n, rfl⟩ : ∃ c, n = c + 1 := ⟨n - 1, by omega⟩
    have htA : t < A.length := by omega
    have hAt := List.getElem?_eq_getElem htA
    have hiff := py_find_iff (hA t _ hAt) (hb.2 _ (List.getElem_mem htA)).1 hf (py_s_kk hs)
    rw [ye_find_8, hc]
    refine br_f (nI_ge (by omega) (by omega)) ⟨S.length + 1, ?_⟩
    have := yl_find_19 (post := post) (J := fun x3' => yv_find_8 post (nI p) (nI (p + S.length)) n x3' u) (u := u) (p := p) (t := t) (S := S) hn hp (by omega) ?_ ?_ (l := S) (a := []) (n := S.length + 1) rfl trivial ?_ (by omega)
    · exact this
    · intro z
      exact h1 t (by rw [hAt, hiff.mp z])
    · intro z
      refine ih (by omega) (by omega) ?_
      intro i hi
      by_cases hit : i = t
      · subst hit
        rw [hAt]
        intro w
        exact z (hiff.mpr (Option.some.inj w))
      · exact hlt i (by omega)
    · exact (py_s_sg.mp hs).1
theorem yl_find {post : Int32 → Prop} {u : SY} {p : Nat} {x : Int32} {A : List (List dk_T)} {S : List dk_T} (hn : yg_nmem u = 47344) (hc : yg_count u = nI A.length) (hb : dk_bd A) (hA : py_A A (yg_mem u)) (hs : py_s (yg_mem u) p S) (hf : dk_fo S 1) (hp : p + S.length ≤ 47344) (hS : S.length ≤ 120) (hx : x = nI p) (h1 : ∀ i, A[i]? = some S → post (nI i)) (h2 : S ∉ A → post (-13)) : wpY_find post u x := by
  subst hx
  rw [ye_find]
  refine yl_end hn hs hf hp ⟨A.length + 1, ?_⟩
  exact yl_find_8 hn hc hb hA hs hf hp hS h1 h2 (e := A.length) (t := 0) (by omega) (by omega) (fun i hi => absurd hi (by omega))
section
variable {g : dk_G} {c : Nat} {M : dk_M} {H : dk_H} {m : Nat → Int64} {d : Nat → Int32}
theorem py_A_low {A : List (List dk_T)} {O : List dk_T} {u : SY} (h : py_R g c M H m d O u) (hb : dk_bd A) (hA : py_A A m) : py_A A (yg_mem u) := by
  intro i S hi
  have := (dk_bd_pos hb hi).2.2.2
  exact py_low h (hA i S hi) (by omega)
/-- a store below the output -/
theorem py_setm {O : List dk_T} {u : SY} {k : Nat} {x : Int64} (h : py_R g c M H m d O u) (hk : k < 30960) : py_R g c M H (vp_updL m k x) d O (ys_mem (vp_updL (yg_mem u) k x) u) := by
  obtain ⟨h1, h2, h3, h4, h5, h6, h7, h8⟩ := h
  refine ⟨h1, h2, h3, h4, ?_, h6, h7, ?_⟩
  · intro i hi
    show vp_updL (yg_mem u) k x i = vp_updL m k x i
    by_cases e : i = k
    · subst e; rw [pk_uLs, pk_uLs]
    · rw [pk_uLn e, pk_uLn e]; exact h5 i hi
  · refine dk_sg_congr h8 ?_
    intro j hj _
    show vp_updL (yg_mem u) k x j = _
    rw [pk_uLn (by omega)]
theorem py_setc {O : List dk_T} {u : SY} {k : Nat} (h : py_R g c M H m d O u) : py_R g k M H m d O (ys_count (nI k) u) := ⟨h.1, rfl, h.2.2⟩
/-- the copy of a new node -/
theorem yl_enter_74 {post : Int32 → SY → Prop} {J J34 : Int32 → SY → Prop} {O S : List dk_T} {q : Nat} (hc : c < 256) (hS : S.length ≤ 120) (hq : 30960 ≤ q) (hq2 : q + S.length ≤ 47344) : ∀ {l a : List dk_T} {n : Nat} {u : SY} {m : Nat → Int64}, S = a ++ l → py_R g c M H m d O u → dk_sg (yg_mem u) (q + a.length) (l.map dk_en) → dk_sg m (120 * c) (a.map dk_en) → l.length < n → (∀ u' m', py_R g (c + 1) M H m' d O u' → dk_sg m' (120 * c) (S.map dk_en) → (∀ i, i < 120 * c ∨ 120 * c + S.length ≤ i → m' i = m i) → J34 (nI q + (-1)) u') → yv_enter_74 post J J34 (nI (q + S.length)) (nI q) n (nI (q + a.length)) u := by
  intro l
  induction l with
  | nil =>
    intro a n u m e h hl ha hn hp
    obtain ⟨n, rfl⟩ : ∃ c, n = c + 1 := ⟨n - 1, by simp at hn; omega⟩
    rw [List.append_nil] at e
    subst e
    rw [ye_enter_74, h.2.1]
    exact br_t (Int32.le_refl _) (nm_r (nI_1 _) (nm_e (hp _ m (py_setc h) ha (fun _ _ => rfl))))
  | cons x l ih =>
    intro a n u m e h hl ha hn hp
    obtain ⟨n, rfl⟩ : ∃ c, n = c + 1 := ⟨n - 1, by simp at hn; omega⟩
    have hlen : S.length = a.length + (l.length + 1) := by rw [e]; simp
    simp only [List.length_cons] at hn
    have e1 : (nI c * 120 + nI (q + a.length)) - nI q = nI (120 * c + a.length) := by
      rw [show (120 : Int32) = nI 120 from rfl, pk_mul, nI_add, pk_sub (by omega)]
      exact congrArg nI (by omega)
    rw [ye_enter_74, h.2.1, (py_nm h).1, e1, nI_clamp (by omega), nI_clamp (by omega), hl.1]
    have el : q + a.length + 1 = q + (a ++ [x]).length := by simp; omega
    refine br_f (nI_ge (by omega) (by omega)) ⟨vp_in_nI (by omega) (by omega), vp_in_nI (by omega) (by omega), nm_e (nm_r (nI_1 _) ?_)⟩
    rw [el]
    refine ih (by rw [e]; simp) (py_setm h (by omega)) ?_ ?_ (by omega) ?_
    · rw [← el]
      refine dk_sg_congr hl.2 ?_
      intro j hj _
      show vp_updL (yg_mem u) _ _ j = _
      rw [pk_uLn (by omega)]
    · rw [List.map_append, dk_sg_app]
      constructor
      · refine dk_sg_congr ha ?_
        intro j _ hj
        simp at hj
        rw [pk_uLn (by omega)]
      · refine ⟨?_, trivial⟩
        rw [List.length_map, pk_uLs]
    · intro u' m' h' hs' hm'
      refine hp u' m' h' hs' ?_
      intro i hi
      rw [hm' i hi, pk_uLn (by omega)]
end
end
section
/-! enter: closing a subterm in X -/
section
variable {post : Int32 → SX → Prop} {g : dk_G} {A : List (List dk_T)} {M : dk_M} {F : dk_F} {T O : List dk_T} {cap : Nat} {u : SX}
theorem px_R_m {p : Nat → Int32} (h : px_R g A M F T cap O u) : px_R g A M F T cap O (xs_made p u) := h
theorem px_R_lm {p q : Nat → Int32} (h : px_R g A M F T cap O u) : px_R g A M F T cap O (xs_openLeft_made p q u) := h
theorem px_R_p {p : Nat → Int32} (h : px_R g A M F T cap O u) : px_R g A M F T cap O (xs_openPos p u) := h
theorem px_R_pl {p q : Nat → Int32} (h : px_R g A M F T cap O u) : px_R g A M F T cap O (xs_openPos_openLeft p q u) := h
/-- what stands on the stacks when a subterm has been closed -/
def ex_fr (o w i : Nat) (u u' : SX) : Prop := (∀ j, j < o → xg_openPos u' j = xg_openPos u j) ∧ (∀ j, j + 1 < o → xg_openLeft u' j = xg_openLeft u j) ∧ (∀ j, j + 1 = o → xg_openLeft u' j = xg_openLeft u j - 1) ∧ (∀ j, j < w → xg_made u' j = xg_made u j) ∧ xg_made u' w = nI i
/-- the call of intern for a token whose children are made -/
theorem xl_itok {t : dk_T} {cs : List (List dk_T)} {S : List dk_T} {p w : Nat} (hg : ga_ok g) (hi : dk_inv g A) (h : px_R g A M F T cap O u) (hS : S = t :: cs.flatten) (hcs : ∀ c ∈ cs, dk_fo c 1) (hl : cs.length = dk_ar t.1) (hv : 0 < dk_ar t.1 → t.2 = 0) (hp : T[p]? = some t) (hw : w ≤ 200) (hm : ∀ (j : Nat) (c : List dk_T), cs[j]? = some c → ∃ i : Nat, A[i]? = some c ∧ xg_made u (w + j) = nI i) (hSl : S.length ≤ ga_WL g) (h1 : ∀ i, A[i]? = some S → post (nI i) u) (h2 : S ∉ A → A.length = ga_NL g → post (-3) u) (h3 : S ∉ A → A.length < ga_NL g → ∀ u', px_st u u' → px_R g (A ++ [S]) M F T cap O u' → post (nI A.length) u') : wpX_internToken post u (nI p) (nI (dk_ar t.1)) (nI w) := by
  obtain ⟨c1, c2, c3, c4⟩ := pc_g h.2.2.2.2.1 hp
  have hWL : ga_WL g ≤ 120 := hg.2.2.2.1
  have go : ∀ a b c d : Int32, (dk_ar t.1 = 0 → a = t.2) → (∀ j, j < dk_ar t.1 → dk_p4 a b c d j = xg_made u (w + j)) → (∀ j, j < 4 → 1 ≤ j → dk_ar t.1 ≤ j → dk_p4 a b c d j = 0) → xv_internToken_83 post (nI p) a b c d u := by
    intro a b c d ha hb hc
    rw [xe_internToken_83, nI_clamp (by omega), c1]
    refine ⟨vp_in_nI (by omega) (by omega), ?_⟩
    refine xl_intern hg hi.1 hi.2.1 h (S := S) ⟨cs, ?_, hl, ?_, hc⟩ (by omega) (fun z => absurd z (by omega)) (fun _ => h1) (fun _ => h2) (fun _ => h3)
    · rw [hS]
      congr 1
      apply Prod.ext
      · rfl
      · show t.2 = _
        by_cases hz : dk_ar t.1 = 0
        · rw [if_pos hz]; exact (ha hz).symm
        · rw [if_neg hz]; exact hv (by omega)
    · intro j c hj
      refine ⟨hcs c (List.mem_of_getElem? hj), ?_⟩
      obtain ⟨i, e1, e2⟩ := hm j c hj
      refine ⟨i, e1, ?_⟩
      rw [hb j (by have := (List.getElem?_eq_some_iff.mp hj).1; omega)]
      exact e2
  have k1 : (nI w + 1 : Int32) = nI (w + 1) := nI_add _ 1
  have k2 : (nI w + 2 : Int32) = nI (w + 2) := nI_add _ 2
  have k3 : (nI w + 3 : Int32) = nI (w + 3) := nI_add _ 3
  rw [xe_internToken]
  refine br_t (nI_pos' (by omega)) ?_
  rcases dk_ar_cases t.1 with hk | hk | hk | hk
  · rw [hk] at go ⊢
    rw [nI_clamp (by omega), c2]
    refine br_t (by decide) ⟨vp_in_nI (by omega) (by omega), ?_⟩
    rw [xe_internToken_26]; refine br_t (by decide) ?_
    rw [xe_internToken_45]; refine br_t (by decide) ?_
    rw [xe_internToken_64]; refine br_t (by decide) (go _ _ _ _ (fun _ => rfl) (fun j hj => absurd hj (by omega)) ?_)
    intro j hj h1' _
    match j, hj, h1' with
    | 1, _, _ => rfl
    | 2, _, _ => rfl
    | 3, _, _ => rfl
  · rw [hk] at go ⊢
    rw [nI_clamp (n := w) (by omega)]
    refine br_f (by decide) ⟨vp_in_nI (by omega) (by omega), ?_⟩
    rw [xe_internToken_26]; refine br_t (by decide) ?_
    rw [xe_internToken_45]; refine br_t (by decide) ?_
    rw [xe_internToken_64]; refine br_t (by decide) (go _ _ _ _ (fun z => absurd z (by omega)) ?_ ?_)
    · intro j hj
      match j, hj with
      | 0, _ => rfl
    · intro j hj h1' _
      match j, hj, h1' with
      | 1, _, _ => rfl
      | 2, _, _ => rfl
      | 3, _, _ => rfl
  · rw [hk] at go ⊢
    rw [nI_clamp (n := w) (by omega)]
    refine br_f (by decide) ⟨vp_in_nI (by omega) (by omega), ?_⟩
    rw [xe_internToken_26, k1, nI_clamp (by omega)]; refine br_f (by decide) ⟨vp_in_nI (by omega) (by omega), ?_⟩
    rw [xe_internToken_45]; refine br_t (by decide) ?_
    rw [xe_internToken_64]; refine br_t (by decide) (go _ _ _ _ (fun z => absurd z (by omega)) ?_ ?_)
    · intro j hj
      match j, hj with
      | 0, _ => rfl
      | 1, _ => rfl
    · intro j hj h1' h2'
      match j, hj, h2' with
      | 2, _, _ => rfl
      | 3, _, _ => rfl
  · rw [hk] at go ⊢
    rw [nI_clamp (n := w) (by omega)]
    refine br_f (by decide) ⟨vp_in_nI (by omega) (by omega), ?_⟩
    rw [xe_internToken_26, k1, nI_clamp (by omega)]; refine br_f (by decide) ⟨vp_in_nI (by omega) (by omega), ?_⟩
    rw [xe_internToken_45, k2, nI_clamp (by omega)]; refine br_f (by decide) ⟨vp_in_nI (by omega) (by omega), ?_⟩
    rw [xe_internToken_64, k3, nI_clamp (by omega)]; refine br_f (by decide) ⟨vp_in_nI (by omega) (by omega), go _ _ _ _ (fun z => absurd z (by omega)) ?_ ?_⟩
    · intro j hj
      match j, hj with
      | 0, _ => rfl
      | 1, _ => rfl
      | 2, _ => rfl
      | 3, _ => rfl
    · intro j hj h1' h2'
      exact absurd hj (by omega)
/-- the subterm S at p, whose children are all made, is closed -/
theorem xl_close {J : Int32 → Int32 → Int32 → SX → Prop} {t : dk_T} {cs : List (List dk_T)} {S : List dk_T} {x : Int32} {p w o q n : Nat} (hg : ga_ok g) (hi : dk_inv g A) (h : px_R g A M F T cap O u) (hS : S = t :: cs.flatten) (hcs : ∀ c ∈ cs, dk_fo c 1) (hl : cs.length = dk_ar t.1) (hv : 0 < dk_ar t.1 → t.2 = 0) (hp : T[p]? = some t) (hw : w ≤ 200) (ho : o ≤ 200) (hq : q ≤ 200) (hm : ∀ (j : Nat) (c : List dk_T), cs[j]? = some c → ∃ i : Nat, A[i]? = some c ∧ xg_made u (w + j) = nI i) (hSl : S.length ≤ ga_WL g) (hop : xg_openPos u o = nI p) (hol : xg_openLeft u o = 0) (h1 : ∀ i, A[i]? = some S → ∀ u', px_R g A M F T cap O u' → ex_fr o w i u u' → xv_enter_57 post J x n (nI o) (nI (w + 1)) (nI (q + 1)) u') (h2 : S ∉ A → A.length = ga_NL g → post (-3) u) (h3 : S ∉ A → A.length < ga_NL g → ∀ u', px_R g (A ++ [S]) M F T cap O u' → ex_fr o w A.length u u' → xv_enter_57 post J x n (nI o) (nI (w + 1)) (nI (q + 1)) u') : xv_enter_57 post J x (n + 1) (nI (o + 1)) (nI (w + cs.length)) (nI q) u := by
  obtain ⟨c1, c2, c3, c4⟩ := pc_g h.2.2.2.2.1 hp
  have h4 := dk_ar4 t.1
  have hNL : ga_NL g ≤ 256 := hg.2.1
  rw [xe_enter_57, nI_pred, nI_clamp (by omega), hol]
  refine br_f (nI_ge (b := 256) (by omega) (by decide)) (br_f (nI_nle (by omega) (by omega)) ⟨vp_in_nI (by omega) (by omega), br_t rfl (nm_r (pk_m1 _) ⟨vp_in_nI (by omega) (by omega), ?_⟩)⟩)
  rw [nI_clamp (by omega), hop]
  refine nm_e ⟨vp_in_nI (by omega) (by omega), ?_⟩
  rw [nI_clamp (by omega), c1]
  refine xl_arity ?_
  have e1 : nI (w + cs.length) - nI (dk_ar t.1) = nI w := by rw [hl, pk_sub (by omega)]; exact congrArg nI (by omega)
  rw [e1]
  -- behind intern
  have fin : ∀ (r : Nat) (A' : List (List dk_T)) (u1 : SX), r < 2 ^ 31 → px_st u u1 → px_R g A' M F T cap O u1 → (∀ u', px_R g A' M F T cap O u' → ex_fr o w r u u' → xv_enter_57 post J x n (nI o) (nI (w + 1)) (nI (q + 1)) u') → ((0 ≤ nI r → (∀ x2_132 : Int32, x2_132 = nI w → (vp_in x2_132 256 ∧ ∀ a_made_134 : Nat → Int32, a_made_134 = upd (xg_made u1) x2_132.toNatClampNeg (nI r) → (∀ x2_135 : Int32, x2_135 = x2_132 + 1 → (((nI o ≤ 0 → (∀ x4_137 : Int32, x4_137 = nI q + 1 → ((xv_enter_57 post J x n (nI o) x2_135 x4_137 (xs_made a_made_134 u1))))) ∧ (¬ nI o ≤ 0 → (vp_in (nI o - 1) 256 ∧ (vp_in (nI o - 1) 256 ∧ ∀ a_openLeft_140 : Nat → Int32, a_openLeft_140 = upd (xg_openLeft u1) (nI o - 1).toNatClampNeg (((xg_openLeft u1) (nI o - 1).toNatClampNeg) - 1) → (∀ x4_141 : Int32, x4_141 = nI q + 1 → ((xv_enter_57 post J x n (nI o) x2_135 x4_141 (xs_openLeft_made a_openLeft_140 a_made_134 u1))))))))))))) ∧ (¬ 0 ≤ nI r → (post (-3) u1))) := by
    intro r A' u1 hr hst hR K
    obtain ⟨s1, s2, s3⟩ := hst
    refine br_t (nI_pos' hr) (nm_e ⟨vp_in_nI (by omega) (by omega), nm_e (nm_r (nI_1 _) ?_)⟩)
    rw [nI_clamp (by omega)]
    refine br_c (fun h0 => nm_r (nI_1 _) (K _ (px_R_m hR) ?_)) fun h0 => ?_
    · have ho0 : o = 0 := by
        rw [show (0 : Int32) = nI 0 from rfl, nI_leI (by omega) (by decide)] at h0
        omega
      subst ho0
      refine ⟨fun j hj => absurd hj (by omega), fun j hj => absurd hj (by omega), fun j hj => absurd hj (by omega), ?_, ?_⟩
      · intro j hj
        show upd (xg_made u1) w (nI r) j = _
        rw [pk_un (by omega), s3]
      · show upd (xg_made u1) w (nI r) w = _
        rw [pk_us]
    · have ho0 : 0 < o := by
        apply Nat.pos_of_ne_zero
        intro z
        exact h0 (by rw [z]; decide)
      rw [ni_s1 ho0, nI_clamp (by omega)]
      refine ⟨vp_in_nI (by omega) (by omega), vp_in_nI (by omega) (by omega), nm_e (nm_r (nI_1 _) (K _ (px_R_lm hR) ?_))⟩
      refine ⟨?_, ?_, ?_, ?_, ?_⟩
      · intro j hj
        show xg_openPos u1 j = _
        rw [s1]
      · intro j hj
        show upd (xg_openLeft u1) (o - 1) _ j = _
        rw [pk_un (by omega), s2]
      · intro j hj
        have : j = o - 1 := by omega
        subst this
        show upd (xg_openLeft u1) (o - 1) _ (o - 1) = _
        rw [pk_us, s2]
      · intro j hj
        show upd (xg_made u1) w (nI r) j = _
        rw [pk_un (by omega), s3]
      · show upd (xg_made u1) w (nI r) w = _
        rw [pk_us]
  have hAl : A.length ≤ 256 := by have := hi.1; omega
  refine xl_itok hg hi h hS hcs hl hv hp hw hm hSl ?_ ?_ ?_
  · intro i hAi
    exact fin i A u (by have := (List.getElem?_eq_some_iff.mp hAi).1; omega) ⟨rfl, rfl, rfl⟩ h (h1 i hAi)
  · intro z1 z2
    exact br_f (by decide) (h2 z1 z2)
  · intro z1 z2 u1 hst hR
    exact fin A.length (A ++ [S]) u1 (by omega) hst hR (h3 z1 z2)
end
/-! Y: passing over places that don't end here -/
def dk_ne (T : List dk_T) (q e : Nat) : Prop := ∀ a R b, T = a ++ R ++ b → a.length = q → dk_fo R 1 → q + R.length ≠ e
theorem dk_at_pos {T : List dk_T} {q : Nat} (hT : dk_fo T 1) (hq : q < T.length) : ∃ a R b, T = a ++ R ++ b ∧ a.length = q ∧ dk_fo R 1 := by
  have e : T = T.take q ++ T.drop q := (List.take_append_drop q T).symm
  have hne : T.drop q ≠ [] := by
    intro z
    have : (T.drop q).length = 0 := by rw [z]; rfl
    simp at this; omega
  have hT' := hT
  rw [e] at hT'
  obtain ⟨m, hm, hf⟩ := dk_fo_suf hT' hne
  rw [show m = 1 + (m - 1) from by omega] at hf
  obtain ⟨R, b, eb, h1, _⟩ := dk_fo_split hf
  exact ⟨T.take q, R, b, by rw [List.append_assoc, ← eb]; exact e, by simp; omega, h1⟩
section
variable {post : Int32 → SY → Prop} {g : dk_G} {c : Nat} {M : dk_M} {H : dk_H} {m : Nat → Int64} {d : Nat → Int32} {T : List dk_T} {u : SY}
theorem py_O_s (h : py_R g c M H m d T u) (hk : ∀ t ∈ T, dk_kk t.1) (hl : T.length ≤ 120) : py_s (yg_mem u) 30960 T := by
  have := h.2.2.2.2.2.2.2
  rw [List.take_of_length_le (by omega)] at this
  exact py_s_sg.mpr ⟨this, hk⟩
theorem yl_pass {J : Int32 → SY → Prop} {e lo : Nat} (h : py_R g c M H m d T u) (hT : dk_fo T 1) (hk : ∀ t ∈ T, dk_kk t.1) (hl : T.length ≤ 120) (he : e ≤ 200) : ∀ {k hi : Nat}, hi = lo + k → hi ≤ T.length → (∀ q, lo ≤ q → q < hi → dk_ne T q e) → yv_enter_34 post J (nI (30960 + e)) (lo + 1) (nI (30960 + lo) + (-1)) u → yv_enter_34 post J (nI (30960 + e)) (hi + 1) (nI (30960 + hi) + (-1)) u := by
  intro k
  induction k with
  | zero => intro hi hh _ _ K; subst hh; exact K
  | succ k ih =>
    intro hi hh hlT hne K
    obtain ⟨a, R, b, e1, e2, e3⟩ := dk_at_pos hT (q := hi - 1) (by omega)
    have hs := py_O_s h hk hl
    rw [e1, List.append_assoc] at hs
    have s2 := (py_s_app.mp (py_s_app.mp hs).2).1
    rw [e2] at s2
    have hRl : hi - 1 + R.length ≤ T.length := by rw [e1]; simp; omega
    rw [ye_enter_34, ni_m1 (by omega), show 30960 + hi - 1 = 30960 + (hi - 1) from by omega]
    refine br_f (nI_nlt (b := 30960) (by omega) (by omega)) (yl_end (py_nm h).1 s2 e3 (by omega) (br_f ?_ (nm_e ?_)))
    · rw [nI_eq (by omega) (by omega)]
      have := hne (hi - 1) (by omega) (by omega) a R b e1 e2 e3
      omega
    · have := ih (hi := hi - 1) (by omega) (by omega) (fun q h1 h2 => hne q h1 (by omega)) K
      rw [show hi - 1 + 1 = hi from by omega] at this
      exact this
end
end
section
/-! enter: both sides in step -/
def ex_X (g : dk_G) (T : List dk_T) (p l : Nat) (A A' : List (List dk_T)) (i : Nat) : Prop := ∀ (post : Int32 → SX → Prop) (n o w : Nat) (u : SX) (M : dk_M) (F : dk_F) (cap : Nat) (O : List dk_T), px_R g A M F T cap O u → l ≤ n → o ≤ p → w ≤ p → (∀ u' q, q ≤ l → px_R g A' M F T cap O u' → ex_fr o w i u u' → xv_enter_57 post (xv_enter_20 post (n - l)) (nI (p + l - 1)) (257 - q) (nI o) (nI (w + 1)) (nI q) u') → xv_enter_20 post n (nI o) (nI w) (nI p) u
def ex_XF (g : dk_G) (T : List dk_T) (p l : Nat) (A A' : List (List dk_T)) : Prop := ∀ (post : Int32 → SX → Prop) (n o w : Nat) (u : SX) (M : dk_M) (F : dk_F) (cap : Nat) (O : List dk_T), px_R g A M F T cap O u → l ≤ n → o ≤ p → w ≤ p → (∀ u', px_R g A' M F T cap O u' → post (-3) u') → xv_enter_20 post n (nI o) (nI w) (nI p) u
def ex_Y (g : dk_G) (T : List dk_T) (p l : Nat) (A A' : List (List dk_T)) : Prop := ∀ (post : Int32 → SY → Prop) (n : Nat) (u : SY) (M : dk_M) (H : dk_H) (m : Nat → Int64) (d : Nat → Int32), py_R g A.length M H m d T u → py_A A m → l ≤ n → (∀ u' m', py_R g A'.length M H m' d T u' → py_A A' m' → (∀ i, 30720 ≤ i → m' i = m i) → yv_enter_34 post (yv_enter_18 post (n - l)) (nI (30960 + (p + l))) (p + 1) (nI (30960 + p) + (-1)) u') → yv_enter_18 post n (nI (30960 + (p + 1))) u
def ex_YF (g : dk_G) (T : List dk_T) (p l : Nat) (A A' : List (List dk_T)) : Prop := ∀ (post : Int32 → SY → Prop) (n : Nat) (u : SY) (M : dk_M) (H : dk_H) (m : Nat → Int64) (d : Nat → Int32), py_R g A.length M H m d T u → py_A A m → l ≤ n → (∀ u' m', py_R g A'.length M H m' d T u' → py_A A' m' → (∀ i, 30720 ≤ i → m' i = m i) → post (-3) u') → yv_enter_18 post n (nI (30960 + (p + 1))) u
def ex_out (g : dk_G) (A A' : List (List dk_T)) (S : List dk_T) : Prop := (∃ B, A' = A ++ B) ∧ dk_inv g A' ∧ ∀ R ∈ A', R ∈ A ∨ dk_sub R S
def ex_bad (g : dk_G) (A' : List (List dk_T)) (S : List dk_T) : Prop := A'.length = ga_NL g ∧ ∃ R, dk_sub R S ∧ R ∉ A'
/-! the states between two children: cs1 is done, cs2 to come -/
def ex_kX (g : dk_G) (T : List dk_T) (p : Nat) (cs1 cs2 : List (List dk_T)) (A A' : List (List dk_T)) (i : Nat) : Prop := ∀ (post : Int32 → SX → Prop) (n o w q : Nat) (u : SX) (M : dk_M) (F : dk_F) (cap : Nat) (O : List dk_T), px_R g A M F T cap O u → cs2.flatten.length ≤ n → o ≤ p → w ≤ p → q ≤ cs1.flatten.length → xg_openPos u o = nI p → xg_openLeft u o = nI cs2.length → (∀ (j : Nat) (c : List dk_T), cs1[j]? = some c → ∃ i' : Nat, A[i']? = some c ∧ xg_made u (w + j) = nI i') → (∀ u' q', q' ≤ 1 + (cs1 ++ cs2).flatten.length → px_R g A' M F T cap O u' → ex_fr o w i u u' → xv_enter_57 post (xv_enter_20 post (n - cs2.flatten.length)) (nI (p + (cs1 ++ cs2).flatten.length)) (257 - q') (nI o) (nI (w + 1)) (nI q') u') → xv_enter_57 post (xv_enter_20 post n) (nI (p + cs1.flatten.length)) (257 - q) (nI (o + 1)) (nI (w + cs1.length)) (nI q) u
def ex_kXF (g : dk_G) (T : List dk_T) (p : Nat) (cs1 cs2 : List (List dk_T)) (A A' : List (List dk_T)) : Prop := ∀ (post : Int32 → SX → Prop) (n o w q : Nat) (u : SX) (M : dk_M) (F : dk_F) (cap : Nat) (O : List dk_T), px_R g A M F T cap O u → cs2.flatten.length ≤ n → o ≤ p → w ≤ p → q ≤ cs1.flatten.length → xg_openPos u o = nI p → xg_openLeft u o = nI cs2.length → (∀ (j : Nat) (c : List dk_T), cs1[j]? = some c → ∃ i' : Nat, A[i']? = some c ∧ xg_made u (w + j) = nI i') → (∀ u', px_R g A' M F T cap O u' → post (-3) u') → xv_enter_57 post (xv_enter_20 post n) (nI (p + cs1.flatten.length)) (257 - q) (nI (o + 1)) (nI (w + cs1.length)) (nI q) u
def ex_kY (g : dk_G) (T : List dk_T) (p : Nat) (cs1 cs2 : List (List dk_T)) (A A' : List (List dk_T)) : Prop := ∀ (post : Int32 → SY → Prop) (n j : Nat) (u : SY) (M : dk_M) (H : dk_H) (m : Nat → Int64) (d : Nat → Int32), py_R g A.length M H m d T u → py_A A m → cs2.flatten.length ≤ n → p + 1 ≤ j → j ≤ p + 1 + cs1.flatten.length → (∀ q, p < q → q < j → dk_ne T q (p + 1 + cs1.flatten.length)) → (∀ u' m', py_R g A'.length M H m' d T u' → py_A A' m' → (∀ i, 30720 ≤ i → m' i = m i) → yv_enter_34 post (yv_enter_18 post (n - cs2.flatten.length)) (nI (30960 + (p + 1 + (cs1 ++ cs2).flatten.length))) (p + 1) (nI (30960 + p) + (-1)) u') → yv_enter_34 post (yv_enter_18 post n) (nI (30960 + (p + 1 + cs1.flatten.length))) (j + 1) (nI (30960 + j) + (-1)) u
def ex_kYF (g : dk_G) (T : List dk_T) (p : Nat) (cs1 cs2 : List (List dk_T)) (A A' : List (List dk_T)) : Prop := ∀ (post : Int32 → SY → Prop) (n j : Nat) (u : SY) (M : dk_M) (H : dk_H) (m : Nat → Int64) (d : Nat → Int32), py_R g A.length M H m d T u → py_A A m → cs2.flatten.length ≤ n → p + 1 ≤ j → j ≤ p + 1 + cs1.flatten.length → (∀ q, p < q → q < j → dk_ne T q (p + 1 + cs1.flatten.length)) → (∀ u' m', py_R g A'.length M H m' d T u' → py_A A' m' → (∀ i, 30720 ≤ i → m' i = m i) → post (-3) u') → yv_enter_34 post (yv_enter_18 post n) (nI (30960 + (p + 1 + cs1.flatten.length))) (j + 1) (nI (30960 + j) + (-1)) u
section
variable {g : dk_G} {T pre suf S : List dk_T} {t : dk_T} {cs : List (List dk_T)}
/-- places in done children end there -/
theorem dk_ne_in {pr x c r : List dk_T} {q m : Nat} (e : T = pr ++ x ++ (c ++ r)) (hx : dk_fo x m) (hc : 0 < c.length) (h1 : pr.length ≤ q) (h2 : q < pr.length + x.length) : dk_ne T q (pr.length + x.length + c.length) := by
  intro a R b e1 e2 e3 e4
  have e5 : x = x.take (q - pr.length) ++ x.drop (q - pr.length) := (List.take_append_drop _ _).symm
  have hne : x.drop (q - pr.length) ≠ [] := by
    intro z
    have : (x.drop (q - pr.length)).length = 0 := by rw [z]; rfl
    simp at this; omega
  have hx' := hx
  rw [e5] at hx'
  obtain ⟨k, hk, hf⟩ := dk_fo_suf hx' hne
  rw [show k = 1 + (k - 1) from by omega] at hf
  obtain ⟨c1, c2, ec, f1, f2⟩ := dk_fo_split hf
  have ea : a = pr ++ x.take (q - pr.length) := by
    have : (a ++ R ++ b).take q = (pr ++ x ++ (c ++ r)).take q := by rw [← e1, ← e]
    rw [List.append_assoc, List.take_left' e2, e5, List.append_assoc, List.append_assoc, ← List.append_assoc pr, List.take_left' (by simp; omega)] at this
    rw [this]
  have e6 : R ++ b = c1 ++ (c2 ++ (c ++ r)) := by
    have : a ++ (R ++ b) = a ++ (c1 ++ (c2 ++ (c ++ r))) := by
      rw [← List.append_assoc, ← e1, e, ea]
      conv => lhs; rw [e5, ec]
      simp
    exact List.append_cancel_left this
  obtain ⟨e7, _⟩ := dk_fo_pre e3 f1 e6
  have : (x.drop (q - pr.length)).length = c1.length + c2.length := by rw [ec]; simp
  simp at this
  rw [e7] at e4
  omega
/-- places ahead of S don't end inside S -/
theorem dk_ne_out {q e : Nat} (eT : T = pre ++ S ++ suf) (hS : dk_fo S 1) (hq : q < pre.length) (h1 : pre.length < e) (h2 : e < pre.length + S.length) : dk_ne T q e := by
  intro a R b e1 e2 e3 e4
  have ea : pre = a ++ pre.drop q := by
    have : (a ++ R ++ b).take q = (pre ++ S ++ suf).take q := by rw [← e1, ← eT]
    rw [List.append_assoc, List.take_left' e2, List.append_assoc, List.take_append_of_le_length (by omega)] at this
    rw [this, List.take_append_drop]
  have e5 : pre.drop q ++ (S ++ suf) = R ++ b := by
    have : a ++ (pre.drop q ++ (S ++ suf)) = a ++ (R ++ b) := by
      rw [← List.append_assoc, ← ea, ← List.append_assoc, ← List.append_assoc, ← eT, ← e1]
    exact List.append_cancel_left this
  have hl : (pre.drop q).length = pre.length - q := by simp
  rcases dk_ov hS e3 e5 with z | z <;> omega
theorem dk_ne_self {e : Nat} (eT : T = pre ++ S ++ suf) (hS : dk_fo S 1) (he : e ≠ pre.length + S.length) : dk_ne T pre.length e := by
  intro a R b e1 e2 e3 e4
  have : a ++ (R ++ b) = pre ++ (S ++ suf) := by rw [← List.append_assoc, ← e1, eT, List.append_assoc]
  obtain ⟨_, e5⟩ := List.append_inj this e2
  obtain ⟨e6, _⟩ := dk_fo_pre e3 hS e5
  rw [e6] at e4
  omega
/-- the last child is done: S itself -/
theorem ex_last (hg : ga_ok g) (hT : dk_gd (ga_ne g) T) (hTl : T.length ≤ ga_WL g) (eT : T = pre ++ S ++ suf) (eS : S = t :: cs.flatten) (hcs : ∀ c ∈ cs, dk_fo c 1) (hl : cs.length = dk_ar t.1) (A : List (List dk_T)) (hi : dk_inv g A) (hA : ∀ c ∈ cs, c ∈ A) : ∃ A', ex_out g A A' S ∧ ((∃ i : Nat, A'[i]? = some S ∧ ex_kX g T pre.length cs [] A A' i ∧ ex_kY g T pre.length cs [] A A') ∨ (ex_bad g A' S ∧ ex_kXF g T pre.length cs [] A A' ∧ ex_kYF g T pre.length cs [] A A')) := by
  have hWL : ga_WL g ≤ 120 := hg.2.2.2.1
  have hNL : ga_NL g ≤ 256 := hg.2.1
  have hS : dk_fo S 1 := by
    rw [eS]; exact ⟨by omega, by rw [← hl]; have := dk_fo_flat hcs; simpa using this⟩
  have hTlen : T.length = pre.length + (S.length + suf.length) := by rw [eT]; simp
  have hSl : S.length = 1 + cs.flatten.length := by rw [eS]; simp; omega
  have hSl' : S.length ≤ ga_WL g := by omega
  have hkk : ∀ x ∈ T, dk_kk x.1 := fun x hx => (hT.2 x hx).1
  have htT : t ∈ T := by rw [eT, eS]; simp
  have hSgd : dk_gd (ga_ne g) S := ⟨hS, fun x hx => hT.2 x (by rw [eT]; simp [hx])⟩
  have hp : T[pre.length]? = some t := by rw [eT, eS]; simp
  have hsub : ∀ R, dk_sub R S → R ≠ S → R ∈ A := by
    intro R hR hne
    rw [eS] at hR hne
    rcases dk_sub_cons hcs hl hR with z | ⟨c, hc, hs⟩
    · exact absurd z hne
    · obtain ⟨j, hj⟩ := List.getElem?_of_mem (hA c hc)
      by_cases hRc : R = c
      · rw [hRc]; exact hA c hc
      · obtain ⟨j', _, hj'⟩ := hi.2.2.2.1 j c R hj hs hRc
        exact List.mem_of_getElem? hj'
  have hbd := dk_inv_bd hg hi
  -- Y arrives at S
  have yarr : ∀ (post : Int32 → SY → Prop) (n j : Nat) (u : SY) (M : dk_M) (H : dk_H) (m : Nat → Int64) (d : Nat → Int32), py_R g A.length M H m d T u → py_A A m → pre.length + 1 ≤ j → j ≤ pre.length + 1 + cs.flatten.length → (∀ q, pre.length < q → q < j → dk_ne T q (pre.length + 1 + cs.flatten.length)) → (∀ i : Nat, A[i]? = some S → yv_enter_34 post (yv_enter_18 post n) (nI (30960 + (pre.length + 1 + cs.flatten.length))) (pre.length + 1) (nI (30960 + pre.length) + (-1)) u) → (S ∉ A → A.length = ga_NL g → post (-3) u) → (S ∉ A → A.length < ga_NL g → ∀ u' m', py_R g (A ++ [S]).length M H m' d T u' → py_A (A ++ [S]) m' → (∀ i, 30720 ≤ i → m' i = m i) → yv_enter_34 post (yv_enter_18 post n) (nI (30960 + (pre.length + 1 + cs.flatten.length))) (pre.length + 1) (nI (30960 + pre.length) + (-1)) u') → yv_enter_34 post (yv_enter_18 post n) (nI (30960 + (pre.length + 1 + cs.flatten.length))) (j + 1) (nI (30960 + j) + (-1)) u := by
    intro post n j u M H m d hR hAm hj1 hj2 hne K1 K2 K3
    refine yl_pass (lo := pre.length + 1) hR hT.1 hkk (by omega) (by omega) (k := j - (pre.length + 1)) (by omega) (by omega) (fun q h1 h2 => hne q (by omega) h2) ?_
    have hs := py_O_s hR hkk (by omega)
    rw [eT, List.append_assoc] at hs
    have s2 := (py_s_app.mp (py_s_app.mp hs).2).1
    have hnm := (py_nm hR).1
    rw [ye_enter_34, show 30960 + (pre.length + 1) = 30960 + pre.length + 1 from by omega, pk_m1]
    refine br_f (nI_nlt (b := 30960) (by omega) (by omega)) (yl_end hnm s2 hS (by omega) (br_t (congrArg nI (by omega)) ?_))
    refine yl_find hnm hR.2.1 hbd (py_A_low hR hbd hAm) s2 hS (by omega) (by omega) rfl ?_ ?_
    · intro i hAi
      exact br_t (nI_pos' (by have := (List.getElem?_eq_some_iff.mp hAi).1; have := hi.1; omega)) (nm_e (K1 i hAi))
    · intro hSA
      refine br_f (by decide) ?_
      rw [hR.2.1, hR.1.1]
      refine br_c (fun z => K2 hSA ((nI_eq (by have := hi.1; omega) (by omega)).mp z)) fun z => ⟨S.length + 1, ?_⟩
      have hlt : A.length < ga_NL g := by
        have := hi.1
        have : A.length ≠ ga_NL g := fun w => z (by rw [w])
        omega
      rw [show 30960 + (pre.length + 1 + cs.flatten.length) = 30960 + pre.length + S.length from by omega]
      have := yl_enter_74 (post := post) (J := yv_enter_18 post n) (J34 := yv_enter_34 post (yv_enter_18 post n) (nI (30960 + pre.length + S.length)) (pre.length + 1)) (O := T) (S := S) (q := 30960 + pre.length) (by omega) (by omega) (by omega) (by omega) (l := S) (a := []) (n := S.length + 1) (u := u) rfl hR (py_s_sg.mp s2).1 trivial (by omega) ?_
      · exact this
      · intro u' m' hR' hm1 hm2
        have K3' := K3 hSA hlt u' m' (by simpa using hR') ?_ ?_
        · rw [show 30960 + (pre.length + 1 + cs.flatten.length) = 30960 + pre.length + S.length from by omega] at K3'
          exact K3'
        · intro i X hX
          by_cases hi' : i < A.length
          · rw [List.getElem?_append_left hi'] at hX
            have hb := dk_bd_pos hbd hX
            refine py_s_congr (hAm i X hX) ?_
            intro j _ hj
            refine hm2 j (Or.inl ?_)
            have : 120 * i + 120 ≤ 120 * A.length := by omega
            omega
          · have hlt := (List.getElem?_eq_some_iff.mp hX).1
            simp at hlt
            have ei : i = A.length := by omega
            subst ei
            simp at hX
            subst hX
            exact py_s_sg.mpr ⟨hm1, fun x hx => (hSgd.2 x hx).1⟩
        · intro i hi'
          exact hm2 i (Or.inr (by omega))
  by_cases hSA : S ∈ A
  · obtain ⟨i, hAi⟩ := List.getElem?_of_mem hSA
    refine ⟨A, ⟨⟨[], by simp⟩, hi, fun R hR => Or.inl hR⟩, Or.inl ⟨i, hAi, ?_, ?_⟩⟩
    · intro post n o w q u M F cap O hR hn ho hw hq hop hol hm K
      rw [show 257 - q = (256 - q) + 1 from by omega]
      refine xl_close hg hi hR eS hcs hl (hT.2 t htT).2.1 hp (by omega) (by omega) (by omega) hm hSl' hop hol ?_ (fun z => absurd hSA z) (fun z => absurd hSA z)
      intro i' hAi' u' hR' hfr
      rw [dk_idx hi.2.1 hAi' hAi] at hfr
      have := K u' (q + 1) (by rw [List.append_nil]; omega) hR' hfr
      rw [List.append_nil, show n - ([] : List (List dk_T)).flatten.length = n from by simp, show 257 - (q + 1) = 256 - q from by omega] at this
      exact this
    · intro post n j u M H m d hR hAm hn hj1 hj2 hne K
      refine yarr post n j u M H m d hR hAm hj1 hj2 hne ?_ (fun z => absurd hSA z) (fun z => absurd hSA z)
      intro i' _
      have := K u m hR hAm (fun _ _ => rfl)
      rw [List.append_nil, show n - ([] : List (List dk_T)).flatten.length = n from by simp] at this
      exact this
  · by_cases hc : A.length = ga_NL g
    · refine ⟨A, ⟨⟨[], by simp⟩, hi, fun R hR => Or.inl hR⟩, Or.inr ⟨⟨hc, S, dk_sub_refl hS, hSA⟩, ?_, ?_⟩⟩
      · intro post n o w q u M F cap O hR hn ho hw hq hop hol hm K
        rw [show 257 - q = (256 - q) + 1 from by omega]
        exact xl_close hg hi hR eS hcs hl (hT.2 t htT).2.1 hp (by omega) (by omega) (by omega) hm hSl' hop hol (fun i z => absurd (List.mem_of_getElem? z) hSA) (fun _ _ => K u hR) (fun _ z => absurd z (by omega))
      · intro post n j u M H m d hR hAm hn hj1 hj2 hne K
        exact yarr post n j u M H m d hR hAm hj1 hj2 hne (fun i z => absurd (List.mem_of_getElem? z) hSA) (fun _ _ => K u m hR hAm (fun _ _ => rfl)) (fun _ z => absurd z (by omega))
    · have hlt : A.length < ga_NL g := by have := hi.1; omega
      refine ⟨A ++ [S], ⟨⟨[S], rfl⟩, dk_inv_push hi hSA hlt hSgd hSl' hsub, ?_⟩, Or.inl ⟨A.length, by simp, ?_, ?_⟩⟩
      · intro R hR
        rcases List.mem_append.mp hR with z | z
        · exact Or.inl z
        · simp at z; rw [z]; exact Or.inr (dk_sub_refl hS)
      · intro post n o w q u M F cap O hR hn ho hw hq hop hol hm K
        rw [show 257 - q = (256 - q) + 1 from by omega]
        refine xl_close hg hi hR eS hcs hl (hT.2 t htT).2.1 hp (by omega) (by omega) (by omega) hm hSl' hop hol (fun i z => absurd (List.mem_of_getElem? z) hSA) (fun _ z => absurd z hc) ?_
        intro _ _ u' hR' hfr
        have := K u' (q + 1) (by rw [List.append_nil]; omega) hR' hfr
        rw [List.append_nil, show n - ([] : List (List dk_T)).flatten.length = n from by simp, show 257 - (q + 1) = 256 - q from by omega] at this
        exact this
      · intro post n j u M H m d hR hAm hn hj1 hj2 hne K
        refine yarr post n j u M H m d hR hAm hj1 hj2 hne (fun i z => absurd (List.mem_of_getElem? z) hSA) (fun _ z => absurd z hc) ?_
        intro _ _ u' m' hR' hAm' hsc
        have := K u' m' hR' hAm' hsc
        rw [List.append_nil, show n - ([] : List (List dk_T)).flatten.length = n from by simp] at this
        exact this
end
end
section
/-! enter: the induction -/
section
variable {g : dk_G} {T : List dk_T}
/-- all subterms shorter than k, in step -/
def ex_P (g : dk_G) (T : List dk_T) (k : Nat) : Prop := ∀ (S pre suf : List dk_T) (A : List (List dk_T)), S.length ≤ k → T = pre ++ S ++ suf → dk_fo S 1 → dk_inv g A → ∃ A', ex_out g A A' S ∧ ((∃ i : Nat, A'[i]? = some S ∧ ex_X g T pre.length S.length A A' i ∧ ex_Y g T pre.length S.length A A') ∨ (ex_bad g A' S ∧ ex_XF g T pre.length S.length A A' ∧ ex_YF g T pre.length S.length A A'))
/-- Y goes on to the next child -/
theorem ey_next {post : Int32 → SY → Prop} {pre suf S : List dk_T} {t : dk_T} {cs1 cs2 : List (List dk_T)} {c : List dk_T} {n j : Nat} {u : SY} {k : Nat} {M : dk_M} {H : dk_H} {m : Nat → Int64} {d : Nat → Int32} (hT : dk_gd (ga_ne g) T) (hTl : T.length ≤ 120) (eT : T = pre ++ S ++ suf) (hS : dk_fo S 1) (eS : S = t :: (cs1 ++ c :: cs2).flatten) (hc : 0 < c.length) (hR : py_R g k M H m d T u) (hj1 : pre.length + 1 ≤ j) (hj2 : j ≤ pre.length + 1 + cs1.flatten.length) (hne : ∀ q, pre.length < q → q < j → dk_ne T q (pre.length + 1 + cs1.flatten.length)) (K : yv_enter_18 post n (nI (30960 + (pre.length + 1 + cs1.flatten.length + 1))) u) : yv_enter_34 post (yv_enter_18 post n) (nI (30960 + (pre.length + 1 + cs1.flatten.length))) (j + 1) (nI (30960 + j) + (-1)) u := by
  have hkk : ∀ x ∈ T, dk_kk x.1 := fun x hx => (hT.2 x hx).1
  have hTlen : T.length = pre.length + (S.length + suf.length) := by rw [eT]; simp
  have hSl : S.length = 1 + (cs1.flatten.length + (c.length + cs2.flatten.length)) := by
    rw [eS, List.length_cons, List.flatten_append, List.flatten_cons, List.length_append, List.length_append]; omega
  refine yl_pass (lo := 0) hR hT.1 hkk hTl (by omega) (k := j) (by omega) (by omega) ?_ ?_
  · intro q _ hq
    by_cases h1 : pre.length < q
    · exact hne q h1 hq
    · by_cases h2 : q = pre.length
      · subst h2
        exact dk_ne_self eT hS (by omega)
      · exact dk_ne_out eT hS (by omega) (by omega) (by omega)
  · rw [ye_enter_34]
    refine br_t (by decide) (nm_r (nI_1 _) ?_)
    exact K
theorem ex_kids (hg : ga_ok g) (hT : dk_gd (ga_ne g) T) (hTl : T.length ≤ ga_WL g) {k : Nat} (IH : ex_P g T k) {pre suf S : List dk_T} {t : dk_T} (eT : T = pre ++ S ++ suf) (hk : S.length ≤ k + 1) : ∀ (cs2 cs1 : List (List dk_T)) (A : List (List dk_T)), S = t :: (cs1 ++ cs2).flatten → (∀ c ∈ cs1 ++ cs2, dk_fo c 1) → (cs1 ++ cs2).length = dk_ar t.1 → dk_inv g A → (∀ c ∈ cs1, c ∈ A) → ∃ A', ex_out g A A' S ∧ ((∃ i : Nat, A'[i]? = some S ∧ ex_kX g T pre.length cs1 cs2 A A' i ∧ ex_kY g T pre.length cs1 cs2 A A') ∨ (ex_bad g A' S ∧ ex_kXF g T pre.length cs1 cs2 A A' ∧ ex_kYF g T pre.length cs1 cs2 A A')) := by
  have hWL : ga_WL g ≤ 120 := hg.2.2.2.1
  have hTlen : T.length = pre.length + (S.length + suf.length) := by rw [eT]; simp
  intro cs2
  induction cs2 with
  | nil =>
    intro cs1 A eS hcs hl hi hA
    rw [List.append_nil] at eS hcs hl
    exact ex_last hg hT hTl eT eS hcs hl A hi hA
  | cons c cs2 ih =>
    intro cs1 A eS hcs hl hi hA
    have h4 := dk_ar4 t.1
    have hc1 := hcs c (by simp)
    have hcl := dk_fo_len hc1
    have hlens : (cs1 ++ c :: cs2).length = cs1.length + (cs2.length + 1) := by simp
    have hS : dk_fo S 1 := by
      rw [eS]; exact ⟨by omega, by rw [← hl]; have := dk_fo_flat hcs; simpa using this⟩
    have hSl : S.length = 1 + (cs1.flatten.length + (c.length + cs2.flatten.length)) := by
      rw [eS, List.length_cons, List.flatten_append, List.flatten_cons, List.length_append, List.length_append]; omega
    have eC : T = (pre ++ t :: cs1.flatten) ++ c ++ (cs2.flatten ++ suf) := by rw [eT, eS]; simp
    have hpc : (pre ++ t :: cs1.flatten).length = pre.length + 1 + cs1.flatten.length := by simp; omega
    have hcS : dk_sub c S := by rw [eS]; exact dk_sub_child hcs (by simp)
    have ecs : cs1 ++ [c] ++ cs2 = cs1 ++ c :: cs2 := by simp
    have fl1 : (cs1 ++ [c]).flatten.length = cs1.flatten.length + c.length := by simp
    -- X goes on to the next child
    have xnext : ∀ (post : Int32 → SX → Prop) (n o w q : Nat) (u : SX), (c :: cs2).flatten.length ≤ n → o ≤ pre.length → q ≤ cs1.flatten.length → xg_openLeft u o = nI (c :: cs2).length → xv_enter_20 post n (nI (o + 1)) (nI (w + cs1.length)) (nI (pre ++ t :: cs1.flatten).length) u → xv_enter_57 post (xv_enter_20 post n) (nI (pre.length + cs1.flatten.length)) (257 - q) (nI (o + 1)) (nI (w + cs1.length)) (nI q) u := by
      intro post n o w q u hn ho hq hol K
      rw [show 257 - q = (256 - q) + 1 from by omega, xe_enter_57, nI_pred, nI_clamp (by omega), hol]
      refine br_f (nI_ge (b := 256) (by omega) (by decide)) (br_f (nI_nle (by omega) (by omega)) ⟨vp_in_nI (by omega) (by omega), br_f (nI_ne0 (by simp) (by simp; omega)) (nm_r (nI_1 _) ?_)⟩)
      rw [hpc, show pre.length + 1 + cs1.flatten.length = pre.length + cs1.flatten.length + 1 from by omega] at K
      exact K
    have fl2 : (c :: cs2).flatten.length = c.length + cs2.flatten.length := by simp
    obtain ⟨A1, ⟨⟨B1, hB1⟩, hi1, hsub1⟩, hout⟩ := IH c (pre ++ t :: cs1.flatten) (cs2.flatten ++ suf) A (by omega) eC hc1 hi
    have hwb : ∀ w, w ≤ pre.length → w + cs1.length ≤ (pre ++ t :: cs1.flatten).length := by
      intro w hw
      have : cs1.length ≤ cs1.flatten.length := by
        have := dk_fo_len (dk_fo_flat (cs := cs1) (fun x hx => hcs x (by simp [hx])))
        exact this
      omega
    rcases hout with ⟨i1, hi1c, hX1, hY1⟩ | ⟨⟨hb1, R, hR1, hR2⟩, hX1, hY1⟩
    · have hA1 : ∀ x ∈ A, x ∈ A1 := fun x hx => by rw [hB1]; simp [hx]
      obtain ⟨A', ⟨⟨B2, hB2⟩, hi2, hsub2⟩, hout2⟩ := ih (cs1 ++ [c]) A1 (by rw [ecs]; exact eS) (by rw [ecs]; exact hcs) (by rw [ecs]; exact hl) hi1 (by
        intro x hx
        rcases List.mem_append.mp hx with hx | hx
        · exact hA1 x (hA x hx)
        · simp at hx; rw [hx]; exact List.mem_of_getElem? hi1c)
      have hlift : ∀ (i : Nat) (x : List dk_T), A[i]? = some x → A1[i]? = some x := by
        intro i x hx
        rw [hB1, List.getElem?_append_left (List.getElem?_eq_some_iff.mp hx).1]; exact hx
      have xmade : ∀ (w : Nat) (u u' : SX) (o : Nat), ex_fr (o + 1) (w + cs1.length) i1 u u' → (∀ (j : Nat) (x : List dk_T), cs1[j]? = some x → ∃ i' : Nat, A[i']? = some x ∧ xg_made u (w + j) = nI i') → ∀ (j : Nat) (x : List dk_T), (cs1 ++ [c])[j]? = some x → ∃ i' : Nat, A1[i']? = some x ∧ xg_made u' (w + j) = nI i' := by
        intro w u u' o hfr hm j x hj
        by_cases hjl : j < cs1.length
        · rw [List.getElem?_append_left hjl] at hj
          obtain ⟨i', e1, e2⟩ := hm j x hj
          exact ⟨i', hlift i' x e1, by rw [hfr.2.2.2.1 (w + j) (by omega)]; exact e2⟩
        · have hlt := (List.getElem?_eq_some_iff.mp hj).1
          simp at hlt
          have ej : j = cs1.length := by omega
          subst ej
          simp at hj
          subst hj
          exact ⟨i1, hi1c, hfr.2.2.2.2⟩
      have xleft : ∀ (u u' : SX) (o w : Nat), ex_fr (o + 1) w i1 u u' → xg_openLeft u o = nI (c :: cs2).length → xg_openLeft u' o = nI cs2.length := by
        intro u u' o w hfr hol
        rw [hfr.2.2.1 o rfl, hol]
        exact nI_pred _
      have ynext : ∀ q, pre.length < q → q < pre.length + 1 + cs1.flatten.length → dk_ne T q (pre.length + 1 + (cs1 ++ [c]).flatten.length) := by
        intro q h1 h2
        have e1 : T = (pre ++ [t]) ++ cs1.flatten ++ (c ++ (cs2.flatten ++ suf)) := by rw [eC]; simp
        have := dk_ne_in (q := q) e1 (dk_fo_flat (fun x hx => hcs x (by simp [hx]))) (by omega) (by simp; omega) (by simp only [List.length_append, List.length_cons, List.length_nil]; omega)
        have e2 : (pre ++ [t]).length + cs1.flatten.length + c.length = pre.length + 1 + (cs1 ++ [c]).flatten.length := by
          rw [fl1]; simp only [List.length_append, List.length_cons, List.length_nil]; omega
        rw [e2] at this
        exact this
      have ho2 : ex_out g A A' S := by
        refine ⟨⟨B1 ++ B2, by rw [hB2, hB1]; simp⟩, hi2, ?_⟩
        intro R hR
        rcases hsub2 R hR with z | z
        · rcases hsub1 R z with z | z
          · exact Or.inl z
          · exact Or.inr (dk_sub_trans z hcS)
        · exact Or.inr z
      rcases hout2 with ⟨i2, hi2S, hX2, hY2⟩ | ⟨hb2, hX2, hY2⟩
      · refine ⟨A', ho2, Or.inl ⟨i2, hi2S, ?_, ?_⟩⟩
        · intro post n o w q u M F cap O hR hn ho hw hq hop hol hm K
          refine xnext post n o w q u hn ho hq hol ?_
          refine hX1 post n (o + 1) (w + cs1.length) u M F cap O hR (by omega) (by omega) (hwb w hw) ?_
          intro u1 q1 hq1 hR1 hfr1
          rw [hpc, show pre.length + 1 + cs1.flatten.length + c.length - 1 = pre.length + (cs1 ++ [c]).flatten.length from by omega]
          have := hX2 post (n - c.length) o w q1 u1 M F cap O hR1 (by omega) ho hw (by omega) (by rw [hfr1.1 o (by omega)]; exact hop) (xleft u u1 o _ hfr1 hol) (xmade w u u1 o hfr1 hm) ?_
          · rw [show w + (cs1 ++ [c]).length = w + cs1.length + 1 from by simp; omega] at this
            exact this
          · intro u2 q2 hq2 hR2 hfr2
            have := K u2 q2 (by rw [← ecs]; exact hq2) hR2 ⟨?_, ?_, ?_, ?_, hfr2.2.2.2.2⟩
            · rw [ecs, show n - c.length - cs2.flatten.length = n - (c :: cs2).flatten.length from by omega]
              exact this
            · intro j hj; rw [hfr2.1 j hj, hfr1.1 j (by omega)]
            · intro j hj; rw [hfr2.2.1 j hj, hfr1.2.1 j (by omega)]
            · intro j hj; rw [hfr2.2.2.1 j hj, hfr1.2.1 j (by omega)]
            · intro j hj; rw [hfr2.2.2.2.1 j hj, hfr1.2.2.2.1 j (by omega)]
        · intro post n j u M H m d hR hAm hn hj1 hj2 hne K
          refine ey_next hT (by omega) eT hS eS (by omega) hR hj1 hj2 hne ?_
          have := hY1 post n u M H m d hR hAm (by omega) ?_
          · rw [hpc] at this; exact this
          · intro u1 m1 hR1 hAm1 hsc1
            rw [hpc]
            have := hY2 post (n - c.length) (pre.length + 1 + cs1.flatten.length) u1 M H m1 d hR1 hAm1 (by omega) (by omega) (by omega) ynext ?_
            · rw [show pre.length + 1 + (cs1 ++ [c]).flatten.length = pre.length + 1 + cs1.flatten.length + c.length from by omega] at this; exact this
            · intro u2 m2 hR2 hAm2 hsc2
              have := K u2 m2 hR2 hAm2 (fun i hi => (hsc2 i hi).trans (hsc1 i hi))
              rw [ecs, show n - c.length - cs2.flatten.length = n - (c :: cs2).flatten.length from by omega]
              exact this
      · refine ⟨A', ho2, Or.inr ⟨hb2, ?_, ?_⟩⟩
        · intro post n o w q u M F cap O hR hn ho hw hq hop hol hm K
          refine xnext post n o w q u hn ho hq hol ?_
          refine hX1 post n (o + 1) (w + cs1.length) u M F cap O hR (by omega) (by omega) (hwb w hw) ?_
          intro u1 q1 hq1 hR1 hfr1
          rw [hpc, show pre.length + 1 + cs1.flatten.length + c.length - 1 = pre.length + (cs1 ++ [c]).flatten.length from by omega]
          have := hX2 post (n - c.length) o w q1 u1 M F cap O hR1 (by omega) ho hw (by omega) (by rw [hfr1.1 o (by omega)]; exact hop) (xleft u u1 o _ hfr1 hol) (xmade w u u1 o hfr1 hm) K
          rw [show w + (cs1 ++ [c]).length = w + cs1.length + 1 from by simp; omega] at this
          exact this
        · intro post n j u M H m d hR hAm hn hj1 hj2 hne K
          refine ey_next hT (by omega) eT hS eS (by omega) hR hj1 hj2 hne ?_
          have := hY1 post n u M H m d hR hAm (by omega) ?_
          · rw [hpc] at this; exact this
          · intro u1 m1 hR1 hAm1 hsc1
            rw [hpc]
            have := hY2 post (n - c.length) (pre.length + 1 + cs1.flatten.length) u1 M H m1 d hR1 hAm1 (by omega) (by omega) (by omega) ynext ?_
            · rw [show pre.length + 1 + (cs1 ++ [c]).flatten.length = pre.length + 1 + cs1.flatten.length + c.length from by omega] at this; exact this
            · intro u2 m2 hR2 hAm2 hsc2
              exact K u2 m2 hR2 hAm2 (fun i hi => (hsc2 i hi).trans (hsc1 i hi))
    · refine ⟨A1, ⟨⟨B1, hB1⟩, hi1, fun R hR => (hsub1 R hR).imp id (fun z => dk_sub_trans z hcS)⟩, Or.inr ⟨⟨hb1, R, dk_sub_trans hR1 hcS, hR2⟩, ?_, ?_⟩⟩
      · intro post n o w q u M F cap O hR hn ho hw hq hop hol hm K
        refine xnext post n o w q u hn ho hq hol ?_
        exact hX1 post n (o + 1) (w + cs1.length) u M F cap O hR (by omega) (by omega) (hwb w hw) K
      · intro post n j u M H m d hR hAm hn hj1 hj2 hne K
        refine ey_next hT (by omega) eT hS eS (by omega) hR hj1 hj2 hne ?_
        have := hY1 post n u M H m d hR hAm (by omega) K
        rw [hpc] at this
        exact this
theorem ex_all (hg : ga_ok g) (hT : dk_gd (ga_ne g) T) (hTl : T.length ≤ ga_WL g) : ∀ k, ex_P g T k := by
  have hWL : ga_WL g ≤ 120 := hg.2.2.2.1
  intro k
  induction k with
  | zero =>
    intro S pre suf A hk eT hS
    have := dk_fo_len hS
    omega
  | succ k IH =>
    intro S pre suf A hk eT hS hi
    have hTlen : T.length = pre.length + (S.length + suf.length) := by rw [eT]; simp
    obtain ⟨t, l, eS, fl⟩ := dk_fo_pos (n := 0) hS
    rw [Nat.zero_add] at fl
    obtain ⟨cs, hl, ecs, hcs⟩ := dk_fo_kids fl
    have eS' : S = t :: ([] ++ cs).flatten := by rw [eS, List.nil_append, ecs]
    have hSl : S.length = 1 + cs.flatten.length := by rw [eS']; simp; omega
    have h4 := dk_ar4 t.1
    have hp : T[pre.length]? = some t := by rw [eT, eS]; simp
    have hkk : ∀ x ∈ T, dk_kk x.1 := fun x hx => (hT.2 x hx).1
    obtain ⟨A', ho, hout⟩ := ex_kids hg hT hTl IH eT hk cs [] A eS' hcs hl hi (by simp)
    -- X opens S
    have xopen : ∀ (post : Int32 → SX → Prop) (n o w : Nat) (u : SX) (M : dk_M) (F : dk_F) (cap : Nat) (O : List dk_T), px_R g A M F T cap O u → S.length ≤ n → o ≤ pre.length → (∀ u', px_R g A M F T cap O u' → xg_openPos u' o = nI pre.length → xg_openLeft u' o = nI cs.length → (∀ j, j < o → xg_openPos u' j = xg_openPos u j ∧ xg_openLeft u' j = xg_openLeft u j) → xg_made u' = xg_made u → xv_enter_57 post (xv_enter_20 post (n - 1)) (nI pre.length) 257 (nI (o + 1)) (nI w) (nI 0) u') → xv_enter_20 post n (nI o) (nI w) (nI pre.length) u := by
      intro post n o w u M F cap O hR hn ho K
      obtain ⟨c1, c2, c3, c4⟩ := pc_g hR.2.2.2.2.1 hp
      obtain ⟨n, rfl⟩ : ∃ c, n = c + 1 := ⟨n - 1, by omega⟩
      rw [xe_enter_20, hR.2.2.2.2.1.1, nI_clamp (by omega), nI_clamp (by omega), c1]
      refine br_f (nI_ge (by omega) (by omega)) ⟨vp_in_nI (by omega) (by omega), nm_e ⟨vp_in_nI (by omega) (by omega), xl_arity ⟨vp_in_nI (by omega) (by omega), nm_e (nm_r (nI_1 _) ⟨257, ?_⟩)⟩⟩⟩
      refine K _ (px_R_pl hR) ?_ ?_ ?_ rfl
      · show upd (xg_openPos u) o _ o = _
        rw [pk_us]
      · show upd (xg_openLeft u) o _ o = _
        rw [pk_us, hl]
      · intro j hj
        constructor
        · show upd (xg_openPos u) o _ j = _
          rw [pk_un (by omega)]
        · show upd (xg_openLeft u) o _ j = _
          rw [pk_un (by omega)]
    -- Y begins at S
    have yopen : ∀ (post : Int32 → SY → Prop) (n : Nat) (u : SY) (M : dk_M) (H : dk_H) (m : Nat → Int64) (d : Nat → Int32), py_R g A.length M H m d T u → S.length ≤ n → yv_enter_34 post (yv_enter_18 post (n - 1)) (nI (30960 + (pre.length + 1))) (pre.length + 1 + 1) (nI (30960 + (pre.length + 1)) + (-1)) u → yv_enter_18 post n (nI (30960 + (pre.length + 1))) u := by
      intro post n u M H m d hR hn K
      obtain ⟨n, rfl⟩ : ∃ c, n = c + 1 := ⟨n - 1, by omega⟩
      have o1 := hR.2.2.2.2.2.2.1
      rw [show min T.length 16384 = T.length from by omega] at o1
      rw [ye_enter_18, o1, show (30960 : Int32) + nI T.length = nI (30960 + T.length) from nI_add 30960 _]
      refine br_f (nI_nlt (by omega) (by omega)) (nm_r (e' := nI (30960 + (pre.length + 1)) + (-1)) (Int32.sub_eq_add_neg _ _) ⟨pre.length + 1 + 1, K⟩)
    refine ⟨A', ho, ?_⟩
    rcases hout with ⟨i, hAi, hX, hY⟩ | ⟨hb, hX, hY⟩
    · refine Or.inl ⟨i, hAi, ?_, ?_⟩
      · intro post n o w u M F cap O hR hn ho hw K
        refine xopen post n o w u M F cap O hR hn ho ?_
        intro u1 hR1 hop hol hst hmd
        refine hX post (n - 1) o w 0 u1 M F cap O hR1 (by omega) ho hw (by simp) hop hol (by simp) ?_
        intro u2 q2 hq2 hR2 hfr2
        rw [List.nil_append] at hq2 ⊢
        have := K u2 q2 (by omega) hR2 ⟨?_, ?_, ?_, ?_, hfr2.2.2.2.2⟩
        · rw [show n - 1 - cs.flatten.length = n - S.length from by omega, show pre.length + cs.flatten.length = pre.length + S.length - 1 from by omega]
          exact this
        · intro j hj; rw [hfr2.1 j hj, (hst j hj).1]
        · intro j hj; rw [hfr2.2.1 j hj, (hst j (by omega)).2]
        · intro j hj; rw [hfr2.2.2.1 j hj, (hst j (by omega)).2]
        · intro j hj; rw [hfr2.2.2.2.1 j hj, hmd]
      · intro post n u M H m d hR hAm hn K
        refine yopen post n u M H m d hR hn ?_
        have := hY post (n - 1) (pre.length + 1) u M H m d hR hAm (by omega) (by omega) (by simp) (fun q h1 h2 => absurd h1 (by omega)) ?_
        · exact this
        · intro u2 m2 hR2 hAm2 hsc2
          have := K u2 m2 hR2 hAm2 hsc2
          rw [List.nil_append, show n - 1 - cs.flatten.length = n - S.length from by omega, show pre.length + 1 + cs.flatten.length = pre.length + S.length from by omega]
          exact this
    · refine Or.inr ⟨hb, ?_, ?_⟩
      · intro post n o w u M F cap O hR hn ho hw K
        refine xopen post n o w u M F cap O hR hn ho ?_
        intro u1 hR1 hop hol hst hmd
        exact hX post (n - 1) o w 0 u1 M F cap O hR1 (by omega) ho hw (by simp) hop hol (by simp) K
      · intro post n u M H m d hR hAm hn K
        refine yopen post n u M H m d hR hn ?_
        exact hY post (n - 1) (pre.length + 1) u M H m d hR hAm (by omega) (by omega) (by simp) (fun q h1 h2 => absurd h1 (by omega)) K
end
end
section
/-! every redex contracts, to a good term -/
/-- the entries name nodes -/
def dk_ev (g : dk_G) (A : List (List dk_T)) : Prop := ∀ k, k < ga_ne g → (ga_eb g k = -13 ∨ ∃ j, j < A.length ∧ ga_eb g k = nI j) ∧ (∃ j, j < A.length ∧ ga_ec g k = nI j) ∧ (∃ j, j < A.length ∧ ga_et g k = nI j)
theorem dk_ev_app {g : dk_G} {A B : List (List dk_T)} (h : dk_ev g A) : dk_ev g (A ++ B) := by
  intro k hk
  obtain ⟨h1, ⟨j2, a2, b2⟩, ⟨j3, a3, b3⟩⟩ := h k hk
  refine ⟨?_, ⟨j2, by simp; omega, b2⟩, ⟨j3, by simp; omega, b3⟩⟩
  rcases h1 with h1 | ⟨j, a, b⟩
  · exact Or.inl h1
  · exact Or.inr ⟨j, by simp; omega, b⟩
section
variable {g : dk_G} {ne : Nat}
theorem dk_ok5 (v : Int32) : dk_ok ne (5, v) := ⟨by show dk_kk 5; unfold dk_kk; decide, fun h => absurd h (by show ¬ 0 < dk_ar 5; decide), fun h => absurd h (by show ¬ (5 : Int32) = 10; decide)⟩
theorem dk_okk {k : Int32} (h : k = 2 ∨ k = 3 ∨ k = 4 ∨ k = 6 ∨ k = 8 ∨ k = 9 ∨ k = 11) : dk_ok ne (k, 0) := by
  refine ⟨?_, fun _ => rfl, fun z => ?_⟩
  · show dk_kk k
    unfold dk_kk
    rcases h with h | h | h | h | h | h | h <;> rw [h] <;> decide
  · have z : k = 10 := z
    rw [z] at h
    exact absurd h (by decide)
theorem dk_ok_sf {b : Int32} {q : dk_T × Nat} (h : dk_ok ne q.1) : dk_ok ne (dk_sf b q) := by
  obtain ⟨⟨k, v⟩, r⟩ := q
  show dk_ok ne (if k = 5 ∧ ¬ v < nI r then (k, v + b) else (k, v))
  split
  · rename_i z
    rw [z.1]; exact dk_ok5 _
  · exact h
theorem dk_z_ok {S : List dk_T} (hf : dk_fo S 1) (h : ∀ t ∈ S, dk_ok ne t) : ∀ q ∈ dk_z S, dk_ok ne q.1 := by
  intro q hq
  refine h q.1 ?_
  rw [← dk_z_map hf]
  exact List.mem_map_of_mem hq
theorem dk_gd_sh {b : Int32} {S : List dk_T} (h : dk_gd ne S) : dk_gd ne (dk_sh b S) := by
  refine ⟨dk_sh_fo h.1, ?_⟩
  intro t ht
  obtain ⟨q, hq, e⟩ := List.mem_map.mp ht
  rw [← e]
  exact dk_ok_sf (dk_z_ok h.1 h.2 q hq)
theorem dk_gd_su {B Y : List dk_T} (h : dk_gd ne B) (hY : dk_gd ne Y) : dk_gd ne (dk_su B Y) := by
  refine ⟨dk_su_fo h.1 hY.1, ?_⟩
  intro t ht
  obtain ⟨q, hq, e⟩ := List.mem_flatMap.mp ht
  have hok := dk_z_ok h.1 h.2 q hq
  unfold dk_bf at e
  split at e
  · split at e
    · exact (dk_gd_sh hY).2 t e
    · split at e
      · simp at e; rw [e]; exact hok
      · simp at e; rw [e]; exact dk_ok5 _
  · simp at e; rw [e]; exact hok
theorem dk_gd_vs {Q : List dk_T} (h : dk_gd ne Q) : dk_gd ne (dk_vs Q) := by
  refine ⟨dk_vs_fo h.1, ?_⟩
  intro t ht
  obtain ⟨q, hq, e⟩ := List.mem_flatMap.mp ht
  have hok := dk_z_ok h.1 h.2 q hq
  unfold dk_vf at e
  split at e
  · split at e
    · rcases List.mem_cons.mp e with e | e
      · rw [e]; exact dk_okk (by simp)
      · simp at e; rw [e]; exact dk_ok5 _
    · split at e
      · simp at e; rw [e]; exact hok
      · simp at e; rw [e]; exact dk_ok5 _
  · simp at e; rw [e]; exact hok
theorem dk_gd_er {S : List dk_T} (h : dk_gd ne S) : dk_gd ne (dk_er S 0) := by
  refine ⟨dk_er_fo' h.1, ?_⟩
  intro t ht
  rcases dk_er_mem ht with ht | ⟨q, hq, e1, e2⟩
  · exact h.2 t ht
  · have := (h.2 q hq).2.1 (by rw [e1]; decide)
    rw [e2, this]
    exact dk_okk (by simp)
theorem dk_gd_em {e : Bool} {S : List dk_T} (h : dk_gd ne S) : dk_gd ne (dk_em e S) := by
  cases e with
  | false => exact h
  | true => exact dk_gd_er h
theorem dk_gd_repl {pre S S' suf : List dk_T} (h : dk_gd ne (pre ++ S ++ suf)) (hS : dk_fo S 1) (hS' : dk_gd ne S') : dk_gd ne (pre ++ S' ++ suf) := by
  refine ⟨dk_fo_repl hS hS'.1 h.1, ?_⟩
  intro t ht
  simp only [List.mem_append] at ht
  rcases ht with (ht | ht) | ht
  · exact h.2 t (by simp [ht])
  · exact hS'.2 t ht
  · exact h.2 t (by simp [ht])
theorem dk_rd_ex {A : List (List dk_T)} {S suf : List dk_T} (e : Bool) (hS : dk_gd (ga_ne g) S) (hA : ∀ B ∈ A, dk_gd (ga_ne g) B) (hAl : A.length ≤ 256) (hE : dk_ev g A) (hne16 : ga_ne g ≤ 16) (hr : dk_ru g (S ++ suf) ≠ 0) : ∃ S', dk_Rd g A e (dk_ru g (S ++ suf)) S S' ∧ dk_gd (ga_ne g) S' := by
  obtain ⟨hf, hok⟩ := hS
  obtain ⟨t, l, rfl, fl⟩ := dk_fo_pos (n := 0) hf
  rw [Nat.zero_add] at fl
  have hru : dk_ru g (t :: l ++ suf) = if t.1 = 8 then (if dk_hk (l ++ suf) = 7 ∨ dk_hk (l ++ suf) = 11 then 1 else 0) else if t.1 = 9 then (if dk_hk (l ++ suf) = 3 then 2 else if dk_hk (l ++ suf) = 4 then 3 else 0) else if t.1 = 10 then (if dk_hb g t.2 then 4 else 0) else if t.1 = 11 then (if dk_hk (l ++ suf) = 8 ∧ dk_et (l ++ suf).tail then 5 else 0) else 0 := rfl
  have sub : ∀ {X : List dk_T}, (∀ x ∈ X, x ∈ l) → dk_fo X 1 → dk_gd (ga_ne g) X := fun h1 h2 => ⟨h2, fun x hx => hok x (by simp [h1 x hx])⟩
  by_cases h8 : t.1 = 8
  · rw [if_pos h8] at hru
    rw [h8, show dk_ar 8 = 1 + 1 from by decide] at fl
    obtain ⟨a, Y, rfl, fa, fY⟩ := dk_fo_split fl
    obtain ⟨q, x, rfl, fx⟩ := dk_fo_pos (n := 0) fa
    rw [Nat.zero_add] at fx
    have hq : dk_hk (q :: x ++ Y ++ suf) = q.1 := rfl
    rw [hq] at hru
    by_cases h7 : q.1 = 7
    · rw [if_pos (Or.inl h7)] at hru
      rw [h7, show dk_ar 7 = 1 + 1 from by decide] at fx
      obtain ⟨D, B, rfl, fD, fB⟩ := dk_fo_split fx
      refine ⟨dk_su B Y, Or.inr (Or.inl ⟨hru, t, q, D, B, Y, by simp, h8, h7, fD, fB, fY, rfl⟩), dk_gd_su (sub (by intro x hx; simp [hx]) fB) (sub (by intro x hx; simp [hx]) fY)⟩
    · by_cases h11 : q.1 = 11
      · rw [if_pos (Or.inr h11)] at hru
        rw [h11, show dk_ar 11 = 1 from by decide] at fx
        refine ⟨dk_su x Y, Or.inl ⟨hru, t, q, x, Y, by simp, h8, h11, fx, fY, rfl⟩, dk_gd_su (sub (by intro y hy; simp [hy]) fx) (sub (by intro y hy; simp [hy]) fY)⟩
      · rw [if_neg (fun z => z.elim h7 h11)] at hru
        exact absurd hru hr
  · rw [if_neg h8] at hru
    by_cases h9 : t.1 = 9
    · rw [if_pos h9] at hru
      rw [h9, show dk_ar 9 = 1 + (1 + (1 + 1)) from by decide] at fl
      obtain ⟨a, r1, rfl, fa, f1⟩ := dk_fo_split fl
      obtain ⟨P, r2, rfl, fP, f2⟩ := dk_fo_split f1
      obtain ⟨Z, W, rfl, fZ, fW⟩ := dk_fo_split f2
      obtain ⟨q, x, rfl, fx⟩ := dk_fo_pos (n := 0) fa
      rw [Nat.zero_add] at fx
      have hq : dk_hk (q :: x ++ (P ++ (Z ++ W)) ++ suf) = q.1 := rfl
      rw [hq] at hru
      by_cases h3 : q.1 = 3
      · rw [if_pos h3] at hru
        rw [h3, show dk_ar 3 = 0 from by decide] at fx
        cases dk_fo0 fx
        exact ⟨Z, Or.inr (Or.inr (Or.inl ⟨hru, t, q, P, Z, W, by simp, h9, h3, fP, fZ, fW, rfl⟩)), sub (by intro y hy; simp [hy]) fZ⟩
      · rw [if_neg h3] at hru
        by_cases h4 : q.1 = 4
        · rw [if_pos h4] at hru
          rw [h4, show dk_ar 4 = 1 from by decide] at fx
          refine ⟨_, Or.inr (Or.inr (Or.inr (Or.inl ⟨hru, t, q, x, P, Z, W, by simp, h9, h4, fx, fP, fZ, fW, rfl⟩))), ?_, ?_⟩
          · have f9 : dk_fo ((9, 0) :: (x ++ (P ++ (Z ++ W)))) 1 := ⟨by omega, by
              show dk_fo _ (1 - 1 + dk_ar 9)
              rw [show 1 - 1 + dk_ar 9 = 1 + (1 + (1 + 1)) from by decide]
              exact dk_fo_app fx (dk_fo_app fP (dk_fo_app fZ fW))⟩
            refine ⟨by omega, by show 0 < 1 - 1 + dk_ar 8; decide, ?_⟩
            show dk_fo _ (1 - 1 + dk_ar 8 - 1 + dk_ar 8)
            rw [show 1 - 1 + dk_ar 8 - 1 + dk_ar 8 = 1 + (1 + 1) from by decide]
            exact dk_fo_app fW (dk_fo_app fx f9)
          · intro y hy
            have hl : ∀ z, z ∈ W ∨ z ∈ x ∨ z ∈ P ∨ z ∈ Z → dk_ok (ga_ne g) z := by
              intro z hz
              apply hok
              simp only [List.mem_cons, List.mem_append]
              rcases hz with hz | hz | hz | hz <;> simp [hz]
            simp only [List.mem_cons, List.mem_append] at hy
            rcases hy with hy | hy | hy | hy | hy | hy | hy | hy | hy
            · rw [hy]; exact dk_okk (by simp)
            · rw [hy]; exact dk_okk (by simp)
            · exact hl y (by simp [hy])
            · exact hl y (by simp [hy])
            · rw [hy]; exact dk_okk (by simp)
            · exact hl y (by simp [hy])
            · exact hl y (by simp [hy])
            · exact hl y (by simp [hy])
            · exact hl y (by simp [hy])
        · rw [if_neg h4] at hru
          exact absurd hru hr
    · rw [if_neg h9] at hru
      by_cases h10 : t.1 = 10
      · rw [if_pos h10] at hru
        rw [h10, show dk_ar 10 = 0 from by decide] at fl
        cases dk_fo0 fl
        cases hb : dk_hb g t.2 with
        | false => rw [hb] at hru; exact absurd hru hr
        | true =>
          rw [hb, if_pos rfl] at hru
          unfold dk_hb at hb
          simp only [Bool.and_eq_true, decide_eq_true_eq] at hb
          obtain ⟨⟨b1, b2⟩, b3⟩ := hb
          obtain ⟨j, hj, ej⟩ := nI_of b1
          rw [ej, nI_leI (by omega) hj] at b2
          rw [ej, nI_clamp hj] at b3
          rcases (hE j (by omega)).1 with z | ⟨i, hi, ei⟩
          · rw [z] at b3; exact absurd b3 (by decide)
          · refine ⟨dk_em e A[i], Or.inr (Or.inr (Or.inr (Or.inr (Or.inl ⟨hru, j, i, A[i], ?_, by omega, ei, List.getElem?_eq_getElem hi, rfl⟩)))), dk_gd_em (hA _ (List.getElem_mem hi))⟩
            rw [← ej, ← h10]
      · rw [if_neg h10] at hru
        by_cases h11 : t.1 = 11
        · rw [if_pos h11] at hru
          rw [h11, show dk_ar 11 = 1 from by decide] at fl
          obtain ⟨q, x, rfl, fx⟩ := dk_fo_pos (n := 0) fl
          rw [Nat.zero_add] at fx
          have hq : dk_hk (q :: x ++ suf) = q.1 := rfl
          have ht : (q :: x ++ suf).tail = x ++ suf := rfl
          rw [hq, ht] at hru
          by_cases hx : q.1 = 8 ∧ dk_et (x ++ suf) = true
          · rw [if_pos hx] at hru
            rw [hx.1, show dk_ar 8 = 1 + 1 from by decide] at fx
            obtain ⟨f, a, rfl, ff, fa⟩ := dk_fo_split fx
            obtain ⟨y, y', rfl, fy⟩ := dk_fo_pos (n := 0) fa
            rw [Nat.zero_add] at fy
            have het := hx.2
            unfold dk_et at het
            rw [List.append_assoc, dk_sk_fo ff] at het
            simp at het
            have ey : y = (5, 0) := het.1
            subst ey
            have fy : dk_fo y' (dk_ar 5) := fy
            rw [dk_ar5] at fy
            cases dk_fo0 fy
            exact ⟨dk_sh (-1) f, Or.inr (Or.inr (Or.inr (Or.inr (Or.inr ⟨hru, t, q, f, rfl, h11, hx.1, ff, rfl⟩)))), dk_gd_sh (sub (by intro z hz; simp [hz]) ff)⟩
          · rw [if_neg hx] at hru
            exact absurd hru hr
        · rw [if_neg h11] at hru
          exact absurd hru hr
end
/-- where the first redex stands -/
theorem dk_fr_some {g : dk_G} {eta : Bool} : ∀ {l : List dk_T} {k j : Nat}, dk_fr g eta l k = some j → ∃ a b, l = a ++ b ∧ a.length = j ∧ b ≠ [] ∧ dk_rx g eta b = true := by
  intro l
  induction l with
  | nil => intro k j h; exact absurd h (by simp [dk_fr])
  | cons t l ih =>
    intro k j h
    have hfr : dk_fr g eta (t :: l) k = if dk_rx g eta (t :: l) then (if k = 0 then some 0 else (dk_fr g eta l (k - 1)).map (· + 1)) else (dk_fr g eta l k).map (· + 1) := rfl
    have hrec : ∀ k', (dk_fr g eta l k').map (· + 1) = some j → ∃ a b, t :: l = a ++ b ∧ a.length = j ∧ b ≠ [] ∧ dk_rx g eta b = true := by
      intro k' hk
      cases hz : dk_fr g eta l k' with
      | none => rw [hz] at hk; simp at hk
      | some j' =>
        rw [hz] at hk
        simp at hk
        obtain ⟨a, b, e1, e2, e3, e4⟩ := ih hz
        exact ⟨t :: a, b, by rw [e1]; rfl, by simp [e2, hk], e3, e4⟩
    rw [hfr] at h
    cases hr : dk_rx g eta (t :: l) with
    | false => rw [hr, if_neg (by simp)] at h; exact hrec k h
    | true =>
      rw [hr, if_pos rfl] at h
      by_cases hk : k = 0
      · rw [if_pos hk] at h
        simp at h
        exact ⟨[], t :: l, rfl, by rw [← h]; rfl, by simp, hr⟩
      · rw [if_neg hk] at h; exact hrec _ h
end
section
/-! enter whole, and NORM, in step -/
def lk_eX (g : dk_G) (A A' : List (List dk_T)) (T : List dk_T) (r : Int32) : Prop := ∀ (post : Int32 → SX → Prop) (u : SX) (M : dk_M) (F : dk_F) (cap : Nat) (O : List dk_T), px_R g A M F T cap O u → (∀ u', px_R g A' M F T cap O u' → post r u') → wpX_enter post u
def lk_eY (g : dk_G) (A A' : List (List dk_T)) (T : List dk_T) (r : Int32) : Prop := ∀ (post : Int32 → SY → Prop) (u : SY) (M : dk_M) (H : dk_H) (m : Nat → Int64) (d : Nat → Int32), py_R g A.length M H m d T u → py_A A m → (∀ u' m', py_R g A'.length M H m' d T u' → py_A A' m' → (∀ i, 30720 ≤ i → m' i = m i) → post r u') → wpY_enter post u
theorem lk_enter {g : dk_G} {T : List dk_T} {A : List (List dk_T)} (hg : ga_ok g) (hT : dk_gd (ga_ne g) T) (hTl : T.length ≤ ga_WL g) (hi : dk_inv g A) : ∃ (r : Int32) (A' : List (List dk_T)), ex_out g A A' T ∧ ((∃ i : Nat, r = nI i ∧ A'[i]? = some T) ∨ (r = -3 ∧ ex_bad g A' T)) ∧ lk_eX g A A' T r ∧ lk_eY g A A' T r := by
  have hWL : ga_WL g ≤ 120 := hg.2.2.2.1
  have hkk : ∀ x ∈ T, dk_kk x.1 := fun x hx => (hT.2 x hx).1
  have hT1 := dk_fo_len hT.1
  obtain ⟨A', ho, hout⟩ := ex_all hg hT hTl T.length T [] [] A (Nat.le_refl _) (by simp) hT.1 hi
  have xin : ∀ (post : Int32 → SX → Prop) (u : SX) (M : dk_M) (F : dk_F) (cap : Nat) (O : List dk_T), px_R g A M F T cap O u → xv_enter_20 post (T.length + 1) (nI 0) (nI 0) (nI ([] : List dk_T).length) u → wpX_enter post u := by
    intro post u M F cap O hR K
    rw [xe_enter, hR.2.2.2.2.1.1, hR.1.2.1]
    exact br_t (nI_le hTl (by omega)) ⟨_, K⟩
  have yin : ∀ (post : Int32 → SY → Prop) (u : SY) (M : dk_M) (H : dk_H) (m : Nat → Int64) (d : Nat → Int32), py_R g A.length M H m d T u → yv_enter_18 post (T.length + 1) (nI (30960 + (([] : List dk_T).length + 1))) u → wpY_enter post u := by
    intro post u M H m d hR K
    have o1 := hR.2.2.2.2.2.2.1
    rw [show min T.length 16384 = T.length from by omega] at o1
    rw [ye_enter, o1, hR.1.2.1]
    exact br_t (nI_le hTl (by omega)) ⟨_, K⟩
  rcases hout with ⟨i, hAi, hX, hY⟩ | ⟨hb, hX, hY⟩
  · refine ⟨nI i, A', ho, Or.inl ⟨i, rfl, hAi⟩, ?_, ?_⟩
    · intro post u M F cap O hR K
      refine xin post u M F cap O hR ?_
      refine hX post (T.length + 1) 0 0 u M F cap O hR (by omega) (by simp) (by simp) ?_
      intro u' q hq hR' hfr
      rw [show 257 - q = (256 - q) + 1 from by omega, xe_enter_57]
      refine br_f (nI_ge (b := 256) (by omega) (by decide)) (br_t (by decide) (nm_r (nI_1 _) ?_))
      rw [show T.length + 1 - T.length = 0 + 1 from by omega, xe_enter_20, hR'.2.2.2.2.1.1, show ([] : List dk_T).length + T.length - 1 + 1 = T.length from by simp; omega]
      refine br_t (Int32.le_refl _) ?_
      rw [hfr.2.2.2.2]
      exact K u' hR'
    · intro post u M H m d hR hA K
      refine yin post u M H m d hR ?_
      refine hY post (T.length + 1) u M H m d hR hA (by omega) ?_
      intro u' m' hR' hA' hsc
      have o1 := hR'.2.2.2.2.2.2.1
      rw [show min T.length 16384 = T.length from by omega] at o1
      rw [ye_enter_34]
      refine br_t (by decide) (nm_r (nI_1 _) ?_)
      have hb' := dk_inv_bd hg ho.2.1
      rw [show T.length + 1 - T.length = 0 + 1 from by omega, ye_enter_18, o1, show (30960 : Int32) + nI T.length = nI (30960 + T.length) from nI_add 30960 _]
      refine br_t (nI_lt (by simp) (by simp; omega)) ?_
      refine yl_find (py_nm hR').1 hR'.2.1 hb' (py_A_low hR' hb' hA') (py_O_s hR' hkk (by omega)) hT.1 (by omega) (by omega) rfl ?_ ?_
      · intro i' hi'
        rw [dk_idx ho.2.1.2.1 hi' hAi]
        exact K u' m' hR' hA' hsc
      · intro z
        exact absurd (List.mem_of_getElem? hAi) z
  · refine ⟨-3, A', ho, Or.inr ⟨rfl, hb⟩, ?_, ?_⟩
    · intro post u M F cap O hR K
      refine xin post u M F cap O hR ?_
      exact hX post (T.length + 1) 0 0 u M F cap O hR (by omega) (by simp) (by simp) K
    · intro post u M H m d hR hA K
      refine yin post u M H m d hR ?_
      exact hY post (T.length + 1) u M H m d hR hA (by omega) K
section
variable {g : dk_G} {c : Nat} {M : dk_M} {H : dk_H} {d : Nat → Int32} {T : List dk_T}
theorem yl_norm_25 {post : Int32 → SY → Prop} {J : Int32 → SY → Prop} {x1 : Int32} (hl : T.length ≤ 120) : ∀ {l a : List dk_T} {n : Nat} {u : SY} {m : Nat → Int64}, T = a ++ l → py_R g c M H m d T u → dk_sg m 30720 (a.map dk_en) → l.length < n → (∀ u' m', py_R g c M H m' d T u' → dk_sg m' 30720 (T.map dk_en) → (∀ i, i < 30720 ∨ 30840 ≤ i → m' i = m i) → ∃ n66 : Nat, yv_norm_66 post J x1 n66 (-13) 30720 u') → yv_norm_25 post J x1 n (nI a.length) u := by
  intro l
  induction l with
  | nil =>
    intro a n u m e hR ha hn K
    obtain ⟨n, rfl⟩ : ∃ c, n = c + 1 := ⟨n - 1, by simp at hn; omega⟩
    rw [List.append_nil] at e
    have o1 := hR.2.2.2.2.2.2.1
    rw [show min T.length 16384 = T.length from by omega] at o1
    rw [ye_norm_25, o1, ← e]
    exact br_t (Int32.le_refl _) (K u m hR (by rw [e]; exact ha) (fun _ _ => rfl))
  | cons x l ih =>
    intro a n u m e hR ha hn K
    obtain ⟨n, rfl⟩ : ∃ c, n = c + 1 := ⟨n - 1, by simp at hn; omega⟩
    have hlen : T.length = a.length + (l.length + 1) := by rw [e]; simp
    simp only [List.length_cons] at hn
    have o1 := hR.2.2.2.2.2.2.1
    rw [show min T.length 16384 = T.length from by omega] at o1
    have o2 := hR.2.2.2.2.2.2.2
    rw [List.take_of_length_le (by omega)] at o2
    have ex : yg_mem u (30960 + a.length) = dk_en x := by
      rw [e, List.map_append, dk_sg_app] at o2
      have := o2.2.1
      rw [List.length_map] at this
      exact this
    rw [ye_norm_25, o1, (py_nm hR).1, show (30960 : Int32) + nI a.length = nI (30960 + a.length) from nI_add 30960 _, show (30720 : Int32) + nI a.length = nI (30720 + a.length) from nI_add 30720 _, nI_clamp (by omega), nI_clamp (by omega), ex]
    refine br_f (nI_ge (by omega) (by omega)) ⟨vp_in_nI (by omega) (by omega), vp_in_nI (by omega) (by omega), nm_e (nm_r (nI_1 _) ?_)⟩
    have el : a.length + 1 = (a ++ [x]).length := by simp
    rw [el]
    refine ih (by rw [e]; simp) (py_setm hR (by omega)) ?_ (by omega) ?_
    · rw [List.map_append, dk_sg_app]
      constructor
      · refine dk_sg_congr ha ?_
        intro j _ hj
        simp at hj
        rw [pk_uLn (by omega)]
      · refine ⟨?_, trivial⟩
        rw [List.length_map, pk_uLs]
    · intro u' m' h1 h2 h3
      refine K u' m' h1 h2 ?_
      intro i hi
      rw [h3 i hi, pk_uLn (by omega)]
/-- Y's search for the first redex -/
theorem yl_norm_66 {post : Int32 → SY → Prop} {J : Int32 → SY → Prop} {x1 : Int32} {m : Nat → Int64} (hg : ga_ok g) (hl : T.length ≤ 120) (hT : dk_fo T 1) (hs : py_s m 30720 T) : ∀ {l a : List dk_T} {n : Nat} {u : SY} {d : Nat → Int32}, T = a ++ l → py_R g c M H m d T u → l.length + 1 < n → (dk_fr g true l 0 = none → ∀ u' d', py_R g c M H m d' T u' → yv_norm_98 post J x1 (-13) u') → (∀ j, dk_fr g true l 0 = some j → ∀ u' d', py_R g c M H m d' T u' → yv_norm_98 post J x1 (nI (30720 + (a.length + j))) u') → yv_norm_66 post J x1 n (-13) (nI (30720 + a.length)) u := by
  intro l
  induction l with
  | nil =>
    intro a n u d e hR hn K1 K2
    obtain ⟨n, rfl⟩ : ∃ c, n = c + 1 := ⟨n - 1, by simp at hn; omega⟩
    rw [List.append_nil] at e
    have o1 := hR.2.2.2.2.2.2.1
    rw [show min T.length 16384 = T.length from by omega] at o1
    rw [ye_norm_66, o1, ← e, show (30720 : Int32) + nI T.length = nI (30720 + T.length) from nI_add 30720 _]
    exact br_t (Int32.le_refl _) (K1 rfl u d hR)
  | cons t l ih =>
    intro a n u d e hR hn K1 K2
    obtain ⟨n, rfl⟩ : ∃ c, n = c + 1 := ⟨n - 1, by simp at hn; omega⟩
    have hlen : T.length = a.length + (l.length + 1) := by rw [e]; simp
    simp only [List.length_cons] at hn
    have o1 := hR.2.2.2.2.2.2.1
    rw [show min T.length 16384 = T.length from by omega] at o1
    obtain ⟨k, k0, fk⟩ := dk_fo_suf (a := a) (b := t :: l) (n := 1) (by rw [← e]; exact hT) (by simp)
    have hs' := hs
    rw [e] at hs'
    have hfr : dk_fr g true (t :: l) 0 = if dk_rx g true (t :: l) then some 0 else (dk_fr g true l 0).map (· + 1) := rfl
    have hrx : dk_rx g true (t :: l) = decide (dk_ru g (t :: l) ≠ 0) := by unfold dk_rx; simp
    have hru5 : dk_ru g (t :: l) < 2 ^ 31 := by
      have : dk_ru g (t :: l) ≤ 5 := by
        show (if _ then _ else _) ≤ 5
        repeat' split
        all_goals omega
      omega
    rw [ye_norm_66, o1, show (30720 : Int32) + nI T.length = nI (30720 + T.length) from nI_add 30720 _]
    refine br_f (nI_ge (by omega) (by omega)) (br_f (by decide) (yl_rule hg hR (py_s_app.mp hs').2 fk (by omega) rfl ?_))
    intro u1 d1 hR1
    refine br_c (fun h0 => nm_r (nI_1 _) ?_) fun h0 => nm_r (nI_1 _) ?_
    · have hz : dk_ru g (t :: l) = 0 := (nI_eq hru5 (by decide)).mp h0
      rw [hrx, hz, if_neg (by simp)] at hfr
      have el : 30720 + a.length + 1 = 30720 + (a ++ [t]).length := by simp; omega
      rw [el]
      refine ih (by rw [e]; simp) hR1 (by omega) ?_ ?_
      · intro z; exact K1 (by rw [hfr, z]; rfl)
      · intro j z
        have := K2 (j + 1) (by rw [hfr, z]; rfl)
        rw [show (a ++ [t]).length + j = a.length + (j + 1) from by simp; omega]
        exact this
    · have hz : dk_ru g (t :: l) ≠ 0 := fun z => h0 (by rw [z]; rfl)
      rw [hrx, if_pos (by simpa using hz)] at hfr
      have K := K2 0 hfr u1 d1 hR1
      obtain ⟨n, rfl⟩ : ∃ c, n = c + 1 := ⟨n - 1, by omega⟩
      rw [ye_norm_66]
      exact br_c (fun _ => K) fun _ => br_t (nI_pos' (by omega)) K
end
/-! NORM -/
def lk_no (g : dk_G) (A A' : List (List dk_T)) (tk' : Nat) (r : Int32) : Prop := (∃ B, A' = A ++ B) ∧ dk_inv g A' ∧ tk' ≤ ga_FL g ∧ (r = -3 ∨ r = -4 ∨ ∃ i : Nat, r = nI i ∧ i < A'.length)
def lk_nX (g : dk_G) (A A' : List (List dk_T)) (tk tk' : Nat) (T : List dk_T) (r : Int32) : Prop := ∀ (post : Int32 → SX → Prop) (u : SX) (k bs : Nat) (bl : Int32) (F : dk_F) (cap : Nat) (O : List dk_T), px_R g A (bs, tk, bl) F T cap O u → k ≤ tk → (∀ u' T' cap' O', px_R g A' (bs, tk', bl) F T' cap' O' u' → post r u') → xv_normCurrent_2 post (ga_FL g - tk + 1) (nI k) u
def lk_nY (g : dk_G) (A A' : List (List dk_T)) (tk tk' : Nat) (T : List dk_T) (r : Int32) : Prop := ∀ (post : Int32 → SY → Prop) (u : SY) (k bs : Nat) (bl : Int32) (H : dk_H) (m : Nat → Int64) (d : Nat → Int32), py_R g A.length (bs, tk, bl) H m d T u → py_A A m → k ≤ tk → (∀ u' m' d' O', py_R g A'.length (bs, tk', bl) H m' d' O' u' → py_A A' m' → post r u') → yv_norm_2 post (ga_FL g - tk + 1) (nI k) u
theorem px_R_tk {g : dk_G} {A : List (List dk_T)} {bs tk k : Nat} {bl : Int32} {F : dk_F} {T : List dk_T} {cap : Nat} {O : List dk_T} {u : SX} (h : px_R g A (bs, tk, bl) F T cap O u) : px_R g A (bs, k, bl) F T cap O (xs_tickCount (nI k) u) := ⟨h.1, h.2.1, ⟨h.2.2.1.1, rfl, h.2.2.1.2.2⟩, h.2.2.2.1, h.2.2.2.2.1, h.2.2.2.2.2⟩
theorem py_R_tk {g : dk_G} {c bs tk k : Nat} {bl : Int32} {H : dk_H} {m : Nat → Int64} {d : Nat → Int32} {O : List dk_T} {u : SY} (h : py_R g c (bs, tk, bl) H m d O u) : py_R g c (bs, k, bl) H m d O (ys_ticks (nI k) u) := ⟨h.1, h.2.1, ⟨h.2.2.1.1, rfl, h.2.2.1.2.2⟩, h.2.2.2.1, h.2.2.2.2.1, h.2.2.2.2.2.1, h.2.2.2.2.2.2⟩
/-- a text that is too long -/
theorem yl_norm_long {post : Int32 → SY → Prop} {g : dk_G} {c : Nat} {M : dk_M} {H : dk_H} {m : Nat → Int64} {d : Nat → Int32} {T : List dk_T} {u : SY} {n k : Nat} (hg : ga_ok g) (hR : py_R g c M H m d T u) (hl : ga_WL g < T.length) (hk : k ≤ 200) (K : post (-3) u) : yv_norm_2 post (n + 1) (nI k) u := by
  have hWL : ga_WL g ≤ 120 := hg.2.2.2.1
  rw [ye_norm_2, hR.2.2.2.2.2.2.1, hR.1.2.1]
  exact br_f (nI_nlt (a := 200) (by omega) (by decide)) (br_f (nI_ge (by omega) (by omega)) K)
theorem lk_norm_step {g : dk_G} (hg : ga_ok g) {tk : Nat} {T : List dk_T} {A : List (List dk_T)} (htk : tk ≤ ga_FL g) (hT : dk_gd (ga_ne g) T) (hTl : T.length ≤ ga_WL g) (hi : dk_inv g A) (hE : dk_ev g A) (IH : tk < ga_FL g → ∀ T', dk_gd (ga_ne g) T' → T'.length ≤ ga_WL g → ∃ (r : Int32) (A' : List (List dk_T)) (tk' : Nat), lk_no g A A' tk' r ∧ lk_nX g A A' (tk + 1) tk' T' r ∧ lk_nY g A A' (tk + 1) tk' T' r) : ∃ (r : Int32) (A' : List (List dk_T)) (tk' : Nat), lk_no g A A' tk' r ∧ lk_nX g A A' tk tk' T r ∧ lk_nY g A A' tk tk' T r := by
  have hWL : ga_WL g ≤ 120 := hg.2.2.2.1
  have hFL : ga_FL g ≤ 200 := hg.2.2.2.2.2.1
  have hNL : ga_NL g ≤ 256 := hg.2.1
  have hne : ga_ne g ≤ 16 := by have := hg.2.2.2.2.2.2.2; omega
  have hAl : A.length ≤ 256 := by have := hi.1; omega
  have hbd := dk_inv_bd hg hi
  have hT120 : T.length ≤ 120 := by omega
  have hkk : ∀ x ∈ T, dk_kk x.1 := fun x hx => (hT.2 x hx).1
  -- X's search
  have xs : ∀ (post : Int32 → SX → Prop) (u : SX) (k bs : Nat) (bl : Int32) (F : dk_F) (cap : Nat) (O : List dk_T), px_R g A (bs, tk, bl) F T cap O u → k ≤ tk → (dk_fr g true T 0 = none → wpX_enter (fun r u' => post r u') u) → (∀ j, dk_fr g true T 0 = some j → tk = ga_FL g → post (-4) u) → (∀ j, dk_fr g true T 0 = some j → tk < ga_FL g → wpX_contract (fun r u' => ((r = 0 → post (-3) u') ∧ (¬ r = 0 → ∀ x, x = nI k + 1 → xv_normCurrent_2 post (ga_FL g - tk) x u'))) (xs_tickCount (nI (tk + 1)) u) (nI j) 1) → xv_normCurrent_2 post (ga_FL g - tk + 1) (nI k) u := by
    intro post u k bs bl F cap O hR hk K1 K2 K3
    rw [xe_normCurrent_2, hR.1.2.2.1, show xg_tickCount u = nI tk from hR.2.2.1.2.1]
    refine br_f (nI_nlt (by omega) (by omega)) (xl_findRedex (k := 0) (eta := true) hg hR.1 hR.2.2.2.2.1 hT.1 (by decide) (fun z => br_f (by decide) (K1 z)) fun j hj => ?_)
    have hjl : j < T.length := by
      obtain ⟨a, b, e1, e2, e3, _⟩ := dk_fr_some hj
      have : 0 < b.length := List.length_pos_iff.mpr e3
      have : T.length = a.length + b.length := by rw [e1]; simp
      omega
    refine br_t (nI_pos' (by omega)) ?_
    by_cases hlt : tk < ga_FL g
    · exact br_t (nI_lt hlt (by omega)) (nm_r (nI_1 _) (K3 j hj hlt))
    · exact br_f (nI_nlt (by omega) (by omega)) (K2 j hj (by omega))
  -- Y's search
  have ys : ∀ (post : Int32 → SY → Prop) (u : SY) (k bs : Nat) (bl : Int32) (H : dk_H) (m : Nat → Int64) (d : Nat → Int32), py_R g A.length (bs, tk, bl) H m d T u → py_A A m → k ≤ tk → (∀ u' m' d', py_R g A.length (bs, tk, bl) H m' d' T u' → py_A A m' → py_s m' 30720 T → ((dk_fr g true T 0 = none → yv_norm_98 post (yv_norm_2 post (ga_FL g - tk)) (nI k) (-13) u') ∧ ∀ j, dk_fr g true T 0 = some j → yv_norm_98 post (yv_norm_2 post (ga_FL g - tk)) (nI k) (nI (30720 + j)) u')) → yv_norm_2 post (ga_FL g - tk + 1) (nI k) u := by
    intro post u k bs bl H m d hR hA hk K
    have o1 := hR.2.2.2.2.2.2.1
    rw [show min T.length 16384 = T.length from by omega] at o1
    rw [ye_norm_2, o1, hR.1.2.1]
    refine br_f (nI_nlt (a := 200) (by omega) (by decide)) (br_t (nI_le hTl (by omega)) ⟨T.length + 1, ?_⟩)
    refine yl_norm_25 hT120 (l := T) (a := []) rfl hR trivial (by omega) ?_
    intro u1 m1 hR1 hs1 hsc1
    have hA1 : py_A A m1 := by
      intro i X hX
      have := dk_bd_pos hbd hX
      exact py_s_congr (hA i X hX) (fun j _ hj => hsc1 j (Or.inl (by omega)))
    have hs : py_s m1 30720 T := py_s_sg.mpr ⟨hs1, hkk⟩
    refine ⟨T.length + 2, ?_⟩
    refine yl_norm_66 hg hT120 hT.1 hs (l := T) (a := []) rfl hR1 (by omega) ?_ ?_
    · intro z u2 d2 hR2
      exact (K u2 m1 d2 hR2 hA1 hs).1 z
    · intro j z u2 d2 hR2
      have := (K u2 m1 d2 hR2 hA1 hs).2 j z
      rw [show ([] : List dk_T).length + j = j from by simp]
      exact this
  cases hfr : dk_fr g true T 0 with
  | none =>
    obtain ⟨r, A', ho, hr, hX, hY⟩ := lk_enter hg hT hTl hi
    refine ⟨r, A', tk, ⟨ho.1, ho.2.1, htk, ?_⟩, ?_, ?_⟩
    · rcases hr with ⟨i, e1, e2⟩ | ⟨e, _⟩
      · exact Or.inr (Or.inr ⟨i, e1, (List.getElem?_eq_some_iff.mp e2).1⟩)
      · exact Or.inl e
    · intro post u k bs bl F cap O hR hk K
      refine xs post u k bs bl F cap O hR hk (fun _ => ?_) (fun j z => absurd (hfr.symm.trans z) (by simp)) (fun j z => absurd (hfr.symm.trans z) (by simp))
      exact hX _ u _ F cap O hR fun u' hR' => K u' T cap O hR'
    · intro post u k bs bl H m d hR hA hk K
      refine ys post u k bs bl H m d hR hA hk ?_
      intro u1 m1 d1 hR1 hA1 hs1
      refine ⟨fun _ => ?_, fun j z => absurd (hfr.symm.trans z) (by simp)⟩
      rw [ye_norm_98]
      refine br_f (by decide) ?_
      exact hY _ u1 _ H m1 d1 hR1 hA1 fun u' m' hR' hA' _ => K u' m' d1 T hR' hA'
  | some j =>
    obtain ⟨pre, b, e1, e2, e3, e4⟩ := dk_fr_some hfr
    obtain ⟨k0, hk0, fb⟩ := dk_fo_suf (a := pre) (b := b) (n := 1) (by rw [← e1]; exact hT.1) e3
    rw [show k0 = 1 + (k0 - 1) from by omega] at fb
    obtain ⟨S, suf, e5, fS, _⟩ := dk_fo_split fb
    have eT : T = pre ++ S ++ suf := by rw [e1, e5]; simp
    have hrx : dk_ru g (S ++ suf) ≠ 0 := by
      rw [e5] at e4
      unfold dk_rx at e4
      simp at e4
      exact e4
    have hSgd : dk_gd (ga_ne g) S := ⟨fS, fun x hx => hT.2 x (by rw [eT]; simp [hx])⟩
    obtain ⟨S', hRd, hS'⟩ := dk_rd_ex true hSgd (fun B hB => (hi.2.2.1 B hB).1) hAl hE hne hrx
    have hT' : dk_gd (ga_ne g) (pre ++ S' ++ suf) := dk_gd_repl (by rw [← eT]; exact hT) fS hS'
    have hTlen : T.length = pre.length + (S.length + suf.length) := by rw [eT]; simp
    have hyA : ∀ m, py_A A m → ∀ (i : Nat) (B : List dk_T), A[i]? = some B → py_s m (120 * i) B ∧ dk_fo B 1 ∧ 120 * i + B.length ≤ 30960 := by
      intro m hA i B hB
      have := dk_bd_pos hbd hB
      exact ⟨hA i B hB, this.2.1, by omega⟩
    by_cases hlt : tk < ga_FL g
    · -- Y's step
      have ystep : ∀ (post : Int32 → SY → Prop) (u : SY) (k bs : Nat) (bl : Int32) (H : dk_H) (m : Nat → Int64) (d : Nat → Int32), py_R g A.length (bs, tk, bl) H m d T u → py_A A m → k ≤ tk → (∀ u' m' d', py_R g A.length (bs, tk + 1, bl) H m' d' (pre ++ S' ++ suf) u' → py_A A m' → yv_norm_2 post (ga_FL g - tk) (nI (k + 1)) u') → yv_norm_2 post (ga_FL g - tk + 1) (nI k) u := by
        intro post u k bs bl H m d hR hA hk K
        refine ys post u k bs bl H m d hR hA hk ?_
        intro u1 m1 d1 hR1 hA1 hs1
        refine ⟨fun z => absurd (hfr.symm.trans z) (by simp), fun j' z => ?_⟩
        have ej : j' = j := Option.some.inj (z.symm.trans hfr)
        subst ej
        rw [ye_norm_98, show yg_ticks u1 = nI tk from hR1.2.2.1.2.1, hR1.1.2.2.1]
        refine br_t (nI_pos' (by omega)) (br_f ?_ (nm_r (nI_1 _) ?_))
        · rw [nI_eq (by omega) (by omega)]; omega
        · refine yl_replace (e := true) hg (hyA m1 hA1) (py_R_tk hR1) hs1 (by omega) eT hT.1 fS rfl hRd rfl (congrArg nI (by omega)) ?_
          intro u2 d2 hR2
          exact nm_r (nI_1 _) (K u2 m1 d2 hR2 hA1)
      have xstep : ∀ (post : Int32 → SX → Prop) (u : SX) (k bs : Nat) (bl : Int32) (F : dk_F) (cap : Nat) (O : List dk_T), px_R g A (bs, tk, bl) F T cap O u → k ≤ tk → ((pre ++ S' ++ suf).length ≤ ga_WL g → ∀ u', px_R g A (bs, tk + 1, bl) F (pre ++ S' ++ suf) (ga_WL g) (pre ++ S' ++ suf) u' → xv_normCurrent_2 post (ga_FL g - tk) (nI (k + 1)) u') → (ga_WL g < (pre ++ S' ++ suf).length → ∀ u', px_R g A (bs, tk + 1, bl) F T (ga_WL g) (pre ++ S' ++ suf) u' → post (-3) u') → xv_normCurrent_2 post (ga_FL g - tk + 1) (nI k) u := by
        intro post u k bs bl F cap O hR hk K1 K2
        refine xs post u k bs bl F cap O hR hk (fun z => absurd (hfr.symm.trans z) (by simp)) (fun j' z h => absurd hlt (by omega)) ?_
        intro j' z _
        have ej : j' = j := Option.some.inj (z.symm.trans hfr)
        subst ej
        rw [← e2]
        refine xl_contract (e := true) hg (fun B hB => hi.2.2.1 B hB) hAl (px_R_tk hR) eT fS hRd hT'.1 ?_ ?_
        · intro hl u' hR'
          exact br_f (by decide) (nm_r (nI_1 _) (K1 hl u' hR'))
        · intro hl u' hR'
          exact br_t rfl (K2 hl u' hR')
      by_cases hlen : (pre ++ S' ++ suf).length ≤ ga_WL g
      · obtain ⟨r, A', tk', hno, hX, hY⟩ := IH hlt _ hT' hlen
        refine ⟨r, A', tk', hno, ?_, ?_⟩
        · intro post u k bs bl F cap O hR hk K
          refine xstep post u k bs bl F cap O hR hk ?_ (fun z => absurd hlen (by omega))
          intro _ u' hR'
          have := hX post u' (k + 1) bs bl F _ _ hR' (by omega) K
          rw [show ga_FL g - (tk + 1) + 1 = ga_FL g - tk from by omega] at this
          exact this
        · intro post u k bs bl H m d hR hA hk K
          refine ystep post u k bs bl H m d hR hA hk ?_
          intro u' m' d' hR' hA'
          have := hY post u' (k + 1) bs bl H m' d' hR' hA' (by omega) K
          rw [show ga_FL g - (tk + 1) + 1 = ga_FL g - tk from by omega] at this
          exact this
      · refine ⟨-3, A, tk + 1, ⟨⟨[], by simp⟩, hi, by omega, Or.inl rfl⟩, ?_, ?_⟩
        · intro post u k bs bl F cap O hR hk K
          exact xstep post u k bs bl F cap O hR hk (fun z => absurd z hlen) (fun _ u' hR' => K u' _ _ _ hR')
        · intro post u k bs bl H m d hR hA hk K
          refine ystep post u k bs bl H m d hR hA hk ?_
          intro u' m' d' hR' hA'
          rw [show ga_FL g - tk = (ga_FL g - tk - 1) + 1 from by omega]
          exact yl_norm_long hg hR' (by omega) (by omega) (K u' m' d' _ hR' hA')
    · refine ⟨-4, A, tk, ⟨⟨[], by simp⟩, hi, htk, Or.inr (Or.inl rfl)⟩, ?_, ?_⟩
      · intro post u k bs bl F cap O hR hk K
        exact xs post u k bs bl F cap O hR hk (fun z => absurd (hfr.symm.trans z) (by simp)) (fun _ _ _ => K u _ _ _ hR) (fun _ _ z => absurd z hlt)
      · intro post u k bs bl H m d hR hA hk K
        refine ys post u k bs bl H m d hR hA hk ?_
        intro u1 m1 d1 hR1 hA1 hs1
        refine ⟨fun z => absurd (hfr.symm.trans z) (by simp), fun j' z => ?_⟩
        rw [ye_norm_98, show yg_ticks u1 = nI tk from hR1.2.2.1.2.1, hR1.1.2.2.1]
        have ej : j' = j := Option.some.inj (z.symm.trans hfr)
        refine br_t (nI_pos' (by omega)) (br_t ?_ (K u1 m1 d1 _ hR1 hA1))
        rw [show tk = ga_FL g from by omega]
theorem lk_norm {g : dk_G} (hg : ga_ok g) : ∀ (f tk : Nat) (T : List dk_T) (A : List (List dk_T)), ga_FL g - tk = f → tk ≤ ga_FL g → dk_gd (ga_ne g) T → T.length ≤ ga_WL g → dk_inv g A → dk_ev g A → ∃ (r : Int32) (A' : List (List dk_T)) (tk' : Nat), lk_no g A A' tk' r ∧ lk_nX g A A' tk tk' T r ∧ lk_nY g A A' tk tk' T r := by
  intro f
  induction f with
  | zero =>
    intro tk T A hf htk hT hTl hi hE
    exact lk_norm_step hg htk hT hTl hi hE (fun z => absurd z (by omega))
  | succ f ih =>
    intro tk T A hf htk hT hTl hi hE
    exact lk_norm_step hg htk hT hTl hi hE (fun z T' hT' hl' => ih (tk + 1) T' A (by omega) (by omega) hT' hl' hi hE)
end
section
/-! the calls of INFER on NORM and ENTER, in step -/
def lk_X (g : dk_G) (A A' : List (List dk_T)) (tk tk' : Nat) (r : Int32) (W : (Int32 → SX → Prop) → SX → Prop) : Prop := ∀ (post : Int32 → SX → Prop) (u : SX) (bs : Nat) (bl : Int32) (F : dk_F) (T : List dk_T) (cap : Nat) (O : List dk_T), px_R g A (bs, tk, bl) F T cap O u → (∀ u' T' cap' O', px_R g A' (bs, tk', bl) F T' cap' O' u' → post r u') → W post u
def lk_Y (g : dk_G) (A A' : List (List dk_T)) (tk tk' : Nat) (r : Int32) (W : (Int32 → SY → Prop) → SY → Prop) : Prop := ∀ (post : Int32 → SY → Prop) (u : SY) (bs : Nat) (bl : Int32) (H : dk_H) (m : Nat → Int64) (d : Nat → Int32) (O : List dk_T), py_R g A.length (bs, tk, bl) H m d O u → py_A A m → (∀ u' m' d' O', py_R g A'.length (bs, tk', bl) H m' d' O' u' → py_A A' m' → post r u') → W post u
/-- NORM of a written text, of any length -/
theorem lk_normT {g : dk_G} (hg : ga_ok g) {tk : Nat} {T : List dk_T} {A : List (List dk_T)} (htk : tk ≤ ga_FL g) (hT : dk_gd (ga_ne g) T) (hi : dk_inv g A) (hE : dk_ev g A) : ∃ (r : Int32) (A' : List (List dk_T)) (tk' : Nat), lk_no g A A' tk' r ∧ (T.length ≤ ga_WL g → ∀ (post : Int32 → SX → Prop) (u : SX) (bs : Nat) (bl : Int32) (F : dk_F) (cap : Nat) (O : List dk_T), px_R g A (bs, tk, bl) F T cap O u → (∀ u' T' cap' O', px_R g A' (bs, tk', bl) F T' cap' O' u' → post r u') → wpX_normCurrent post u) ∧ (ga_WL g < T.length → r = -3 ∧ A' = A ∧ tk' = tk) ∧ (∀ (post : Int32 → SY → Prop) (u : SY) (bs : Nat) (bl : Int32) (H : dk_H) (m : Nat → Int64) (d : Nat → Int32), py_R g A.length (bs, tk, bl) H m d T u → py_A A m → (∀ u' m' d' O', py_R g A'.length (bs, tk', bl) H m' d' O' u' → py_A A' m' → post r u') → wpY_norm post u) := by
  by_cases hl : T.length ≤ ga_WL g
  · obtain ⟨r, A', tk', hno, hX, hY⟩ := lk_norm hg _ tk T A rfl htk hT hl hi hE
    refine ⟨r, A', tk', hno, fun _ post u bs bl F cap O hR K => ?_, fun z => absurd hl (by omega), fun post u bs bl H m d hR hA K => ?_⟩
    · rw [xe_normCurrent]
      exact ⟨_, hX post u 0 bs bl F cap O hR (by omega) K⟩
    · rw [ye_norm]
      exact ⟨_, hY post u 0 bs bl H m d hR hA (by omega) K⟩
  · refine ⟨-3, A, tk, ⟨⟨[], by simp⟩, hi, htk, Or.inl rfl⟩, fun z => absurd z hl, fun _ => ⟨rfl, rfl, rfl⟩, fun post u bs bl H m d hR hA K => ?_⟩
    rw [ye_norm]
    exact ⟨1, yl_norm_long (k := 0) hg hR (by omega) (by omega) (K u m d T hR hA)⟩
/-- ENTER of a written text, of any length -/
theorem lk_enterT {g : dk_G} (hg : ga_ok g) {T : List dk_T} {A : List (List dk_T)} (hT : dk_gd (ga_ne g) T) (hi : dk_inv g A) : ∃ (r : Int32) (A' : List (List dk_T)), (∃ B, A' = A ++ B) ∧ dk_inv g A' ∧ (r = -3 ∨ ∃ i : Nat, r = nI i ∧ i < A'.length) ∧ (T.length ≤ ga_WL g → ∀ (post : Int32 → SX → Prop) (u : SX) (M : dk_M) (F : dk_F) (cap : Nat) (O : List dk_T), px_R g A M F T cap O u → (∀ u', px_R g A' M F T cap O u' → post r u') → wpX_enter post u) ∧ (ga_WL g < T.length → r = -3 ∧ A' = A) ∧ (∀ (post : Int32 → SY → Prop) (u : SY) (M : dk_M) (H : dk_H) (m : Nat → Int64) (d : Nat → Int32), py_R g A.length M H m d T u → py_A A m → (∀ u' m', py_R g A'.length M H m' d T u' → py_A A' m' → post r u') → wpY_enter post u) := by
  have hWL : ga_WL g ≤ 120 := hg.2.2.2.1
  by_cases hl : T.length ≤ ga_WL g
  · obtain ⟨r, A', ho, hr, hX, hY⟩ := lk_enter hg hT hl hi
    refine ⟨r, A', ho.1, ho.2.1, ?_, fun _ post u M F cap O hR K => hX post u M F cap O hR K, fun z => absurd hl (by omega), fun post u M H m d hR hA K => hY post u M H m d hR hA fun u' m' h1 h2 _ => K u' m' h1 h2⟩
    rcases hr with ⟨i, e1, e2⟩ | ⟨e, _⟩
    · exact Or.inr ⟨i, e1, (List.getElem?_eq_some_iff.mp e2).1⟩
    · exact Or.inl e
  · refine ⟨-3, A, ⟨[], by simp⟩, hi, Or.inl rfl, fun z => absurd z hl, fun _ => ⟨rfl, rfl⟩, fun post u M H m d hR hA K => ?_⟩
    rw [ye_enter, hR.2.2.2.2.2.2.1, hR.1.2.1]
    exact br_f (nI_ge (by omega) (by omega)) (K u m hR hA)
/-- S lies at p, within a node -/
def dk_pl (A : List (List dk_T)) (p : Nat) (S : List dk_T) : Prop := ∃ (b : Nat) (x y : List dk_T), A[b]? = some (x ++ S ++ y) ∧ p = 120 * b + x.length
theorem dk_pl_node {A : List (List dk_T)} {b : Nat} {S : List dk_T} (h : A[b]? = some S) : dk_pl A (120 * b) S := ⟨b, [], [], by simpa using h, by simp⟩
theorem dk_pl_s {A : List (List dk_T)} {p : Nat} {S : List dk_T} (h : dk_pl A p S) (hb : dk_bd A) : p + S.length ≤ 30720 ∧ ∀ m, py_A A m → py_s m p S := by
  obtain ⟨b, x, y, e1, e2⟩ := h
  have := dk_bd_pos hb e1
  simp only [List.length_append] at this
  refine ⟨by omega, ?_⟩
  intro m hA
  have h1 := hA b _ e1
  rw [List.append_assoc] at h1
  rw [e2]
  exact (py_s_app.mp (py_s_app.mp h1).2).1
theorem dk_pl_app {A B : List (List dk_T)} {p : Nat} {S : List dk_T} (h : dk_pl A p S) : dk_pl (A ++ B) p S := by
  obtain ⟨b, x, y, e1, e2⟩ := h
  exact ⟨b, x, y, by rw [List.getElem?_append_left (List.getElem?_eq_some_iff.mp e1).1]; exact e1, e2⟩
section
variable {g : dk_G} {tk : Nat} {A : List (List dk_T)}
theorem dk_inv_gd (hi : dk_inv g A) {i : Nat} {S : List dk_T} (h : A[i]? = some S) : dk_gd (ga_ne g) S ∧ S.length ≤ ga_WL g := hi.2.2.1 S (List.mem_of_getElem? h)
theorem lk_normNode (hg : ga_ok g) (htk : tk ≤ ga_FL g) (hi : dk_inv g A) (hE : dk_ev g A) {i p : Nat} {S : List dk_T} (hS : A[i]? = some S) (hp : dk_pl A p S) : ∃ (r : Int32) (A' : List (List dk_T)) (tk' : Nat), lk_no g A A' tk' r ∧ lk_X g A A' tk tk' r (fun post u => wpX_normNode post u (nI i)) ∧ lk_Y g A A' tk tk' r (fun post u => wpY_normErased post u (nI p)) := by
  have hWL : ga_WL g ≤ 120 := hg.2.2.2.1
  have hbd := dk_inv_bd hg hi
  obtain ⟨hSg, hSl⟩ := dk_inv_gd hi hS
  have hl : (dk_er S 0).length ≤ ga_WL g := Nat.le_trans dk_er_len hSl
  obtain ⟨r, A', tk', hno, hX, _, hY⟩ := lk_normT hg htk (dk_gd_er hSg) hi hE
  refine ⟨r, A', tk', hno, ?_, ?_⟩
  · intro post u bs bl F T cap O hR K
    show wpX_normNode post u (nI i)
    rw [xe_normNode]
    refine xl_load true (fun B hB => (hi.2.2.1 B hB).1) hbd.1 hS (by omega) hR fun u1 hR1 => ?_
    exact hX hl _ u1 bs bl F _ _ hR1 K
  · intro post u bs bl H m d O hR hA K
    show wpY_normErased post u (nI p)
    rw [ye_normErased]
    obtain ⟨q1, q2⟩ := dk_pl_s hp hbd
    refine yl_erase (py_out0 hR) (q2 m hA) hSg.1 (by omega) rfl fun u1 hR1 => ?_
    rw [List.nil_append] at hR1
    exact hY _ u1 bs bl H m d hR1 hA K
/-! the instance of a family -/
theorem xl_inst (hg : ga_ok g) (hi : dk_inv g A) {x y : Nat} {B Y : List dk_T} (hB : A[x]? = some B) (hY : A[y]? = some Y) {post : Int32 → SX → Prop} {u : SX} {M : dk_M} {F : dk_F} {T O : List dk_T} {cap : Nat} (hR : px_R g A M F T cap O u) (K1 : (dk_su B (dk_er Y 0)).length ≤ ga_WL g → ∀ u' cap' O', px_R g A M F (dk_su B (dk_er Y 0)) cap' O' u' → wpX_normCurrent (fun r u'' => post r u'') u') (K2 : ga_WL g < (dk_su B (dk_er Y 0)).length → ∀ u' T' cap' O', px_R g A M F T' cap' O' u' → post (-3) u') : wpX_normInstance post u (nI x) (nI y) := by
  have hWL : ga_WL g ≤ 120 := hg.2.2.2.1
  have hbd := dk_inv_bd hg hi
  have hAg : ∀ S ∈ A, dk_gd (ga_ne g) S := fun S hS => (hi.2.2.1 S hS).1
  obtain ⟨gB, lB⟩ := dk_inv_gd hi hB
  obtain ⟨gY, lY⟩ := dk_inv_gd hi hY
  have lE := dk_er_len (a := Y) (s := 0)
  have gE := dk_gd_er gY
  rw [xe_normInstance]
  refine xl_begin (c := 256) hR (by omega) fun u1 h1 => xl_emit h1 fun u2 _ h2 => xl_emit h2 fun u3 _ h3 => ?_
  refine xl_emitNode false hAg hbd.1 hB (by omega) h3 fun u4 h4 => xl_emitNode true hAg hbd.1 hY (by omega) h4 fun u5 h5 => ?_
  have e : [] ++ [((8 : Int32), (0 : Int32))] ++ [(11, 0)] ++ dk_em false B ++ dk_em true Y = (8, 0) :: (11, 0) :: (B ++ dk_er Y 0) := by simp [dk_em]
  rw [e] at h5
  have fW : dk_fo ((8, 0) :: (11, 0) :: (B ++ dk_er Y 0)) 1 := by
    refine ⟨by omega, by show 0 < 1 - 1 + dk_ar 8; decide, ?_⟩
    show dk_fo _ (1 - 1 + dk_ar 8 - 1 + dk_ar 11)
    rw [show 1 - 1 + dk_ar 8 - 1 + dk_ar 11 = 1 + 1 from by decide]
    exact dk_fo_app gB.1 gE.1
  refine xl_commit h5 fW (fun _ u6 h6 => br_f (by decide) ?_) (fun hl => absurd hl (by simp; omega))
  have hRd : dk_Rd g A true 1 ((8, 0) :: (11, 0) :: (B ++ dk_er Y 0)) (dk_su B (dk_er Y 0)) := Or.inl ⟨rfl, _, _, B, dk_er Y 0, rfl, rfl, rfl, gB.1, gE.1, rfl⟩
  refine xl_contract (e := true) (pre := []) (suf := []) hg (fun S hS => hi.2.2.1 S hS) hbd.1 h6 (by simp) fW hRd (by simpa using dk_su_fo gB.1 gE.1) ?_ ?_
  · intro hl u7 h7
    simp only [List.nil_append, List.append_nil] at hl h7
    exact br_f (by decide) (K1 hl u7 _ _ h7)
  · intro hl u7 h7
    simp only [List.nil_append, List.append_nil] at hl h7
    exact br_t rfl (K2 hl u7 _ _ _ h7)
theorem yl_apply_12 {post : Int32 → SY → Prop} {c : Nat} {M : dk_M} {H : dk_H} {d : Nat → Int32} {x1 : Int32} {T : List dk_T} (hl : T.length ≤ 120) : ∀ {l a : List dk_T} {n : Nat} {u : SY} {m : Nat → Int64}, T = a ++ l → py_R g c M H m d T u → dk_sg m 30840 (a.map dk_en) → l.length < n → (∀ u' m', py_R g c M H m' d [] u' → dk_sg m' 30840 (T.map dk_en) → (∀ i, i < 30840 → m' i = m i) → wpY_subst (fun u_23 => wpY_norm (fun r u => post r u) u_23) u' x1 30840) → yv_apply_12 post x1 n (nI a.length) u := by
  intro l
  induction l with
  | nil =>
    intro a n u m e hR ha hn K
    obtain ⟨n, rfl⟩ : ∃ c, n = c + 1 := ⟨n - 1, by simp at hn; omega⟩
    rw [List.append_nil] at e
    have o1 := hR.2.2.2.2.2.2.1
    rw [show min T.length 16384 = T.length from by omega] at o1
    rw [ye_apply_12, o1, ← e]
    exact br_t (Int32.le_refl _) (K _ m (py_out0 hR) (by rw [e]; exact ha) (fun _ _ => rfl))
  | cons x l ih =>
    intro a n u m e hR ha hn K
    obtain ⟨n, rfl⟩ : ∃ c, n = c + 1 := ⟨n - 1, by simp at hn; omega⟩
    have hlen : T.length = a.length + (l.length + 1) := by rw [e]; simp
    simp only [List.length_cons] at hn
    have o1 := hR.2.2.2.2.2.2.1
    rw [show min T.length 16384 = T.length from by omega] at o1
    have o2 := hR.2.2.2.2.2.2.2
    rw [List.take_of_length_le (by omega)] at o2
    have ex : yg_mem u (30960 + a.length) = dk_en x := by
      rw [e, List.map_append, dk_sg_app] at o2
      have := o2.2.1
      rw [List.length_map] at this
      exact this
    rw [ye_apply_12, o1, (py_nm hR).1, show (30960 : Int32) + nI a.length = nI (30960 + a.length) from nI_add 30960 _, show (30840 : Int32) + nI a.length = nI (30840 + a.length) from nI_add 30840 _, nI_clamp (by omega), nI_clamp (by omega), ex]
    refine br_f (nI_ge (by omega) (by omega)) ⟨vp_in_nI (by omega) (by omega), vp_in_nI (by omega) (by omega), nm_e (nm_r (nI_1 _) ?_)⟩
    have el : a.length + 1 = (a ++ [x]).length := by simp
    rw [el]
    refine ih (by rw [e]; simp) (py_setm hR (by omega)) ?_ (by omega) ?_
    · rw [List.map_append, dk_sg_app]
      constructor
      · refine dk_sg_congr ha ?_
        intro j _ hj
        simp at hj
        rw [pk_uLn (by omega)]
      · refine ⟨?_, trivial⟩
        rw [List.length_map, pk_uLs]
    · intro u' m' h1 h2 h3
      refine K u' m' h1 h2 ?_
      intro i hi
      rw [h3 i hi, pk_uLn (by omega)]
theorem lk_inst (hg : ga_ok g) (htk : tk ≤ ga_FL g) (hi : dk_inv g A) (hE : dk_ev g A) {x y p q : Nat} {B Y : List dk_T} (hB : A[x]? = some B) (hY : A[y]? = some Y) (hp : dk_pl A p B) (hq : dk_pl A q Y) : ∃ (r : Int32) (A' : List (List dk_T)) (tk' : Nat), lk_no g A A' tk' r ∧ lk_X g A A' tk tk' r (fun post u => wpX_normInstance post u (nI x) (nI y)) ∧ lk_Y g A A' tk tk' r (fun post u => wpY_apply post u (nI p) (nI q)) := by
  have hWL : ga_WL g ≤ 120 := hg.2.2.2.1
  have hbd := dk_inv_bd hg hi
  obtain ⟨gB, lB⟩ := dk_inv_gd hi hB
  obtain ⟨gY, lY⟩ := dk_inv_gd hi hY
  have lE := dk_er_len (a := Y) (s := 0)
  have gE := dk_gd_er gY
  obtain ⟨r, A', tk', hno, hX, hL, hYY⟩ := lk_normT hg htk (dk_gd_su gB gE) hi hE
  refine ⟨r, A', tk', hno, ?_, ?_⟩
  · intro post u bs bl F T cap O hR K
    refine xl_inst hg hi hB hY hR ?_ ?_
    · intro hl u' cap' O' hR'
      exact hX hl _ u' bs bl F cap' O' hR' K
    · intro hl u' T' cap' O' hR'
      obtain ⟨e1, e2, e3⟩ := hL hl
      subst e1 e2 e3
      exact K u' _ _ _ hR'
  · intro post u bs bl H m d O hR hA K
    show wpY_apply post u (nI p) (nI q)
    obtain ⟨p1, p2⟩ := dk_pl_s hp hbd
    obtain ⟨q1, q2⟩ := dk_pl_s hq hbd
    rw [ye_apply]
    refine yl_erase (py_out0 hR) (q2 m hA) gY.1 (by omega) rfl fun u1 hR1 => ⟨(dk_er Y 0).length + 1, ?_⟩
    rw [List.nil_append] at hR1
    have l120 : (dk_er Y 0).length ≤ 120 := by omega
    refine yl_apply_12 l120 (l := dk_er Y 0) (a := []) rfl hR1 trivial (by omega) ?_
    intro u2 m2 hR2 hs2 hsc
    have hA2 : py_A A m2 := by
      intro i X hX
      have := dk_bd_pos hbd hX
      exact py_s_congr (hA i X hX) (fun j _ hj => hsc j (by omega))
    have hkk : ∀ z ∈ dk_er Y 0, dk_kk z.1 := fun z hz => (gE.2 z hz).1
    refine yl_subst (b := p) (y := 30840) (Y := dk_er Y 0) hR2 (p2 m2 hA2) gB.1 (by omega) (py_s_sg.mpr ⟨hs2, hkk⟩) gE.1 (by omega) (Or.inl (Or.inl (by omega))) rfl rfl ?_
    intro u3 d3 hR3
    rw [List.nil_append] at hR3
    exact hYY _ u3 bs bl H m2 d3 hR3 hA2 K
/-- the instance at ZERO -/
theorem lk_inst0 (hg : ga_ok g) (htk : tk ≤ ga_FL g) (hi : dk_inv g A) (hE : dk_ev g A) {x : Nat} {B : List dk_T} (hB : A[x]? = some B) : ∃ (r : Int32) (A' : List (List dk_T)) (tk' : Nat), lk_no g A A' tk' r ∧ lk_X g A A' tk tk' r (fun post u => wpX_normInstance post u (nI x) (nI 3)) ∧ lk_Y g A A' tk tk' r (fun post u => wpY_subst (fun u' => wpY_norm post u') (ys_outLen 0 u) (nI (120 * x)) (nI 360)) := by
  have hWL : ga_WL g ≤ 120 := hg.2.2.2.1
  have hbd := dk_inv_bd hg hi
  have h3 : A[3]? = some [(3, 0)] := hi.2.2.2.2.2.2.2
  obtain ⟨gB, lB⟩ := dk_inv_gd hi hB
  obtain ⟨gY, lY⟩ := dk_inv_gd hi h3
  have e3 : dk_er [((3 : Int32), (0 : Int32))] 0 = [(3, 0)] := by decide
  obtain ⟨r, A', tk', hno, hX, hL, hYY⟩ := lk_normT hg htk (dk_gd_su gB gY) hi hE
  refine ⟨r, A', tk', hno, ?_, ?_⟩
  · intro post u bs bl F T cap O hR K
    refine xl_inst hg hi hB h3 hR ?_ ?_
    · rw [e3]
      intro hl u' cap' O' hR'
      exact hX hl _ u' bs bl F cap' O' hR' K
    · rw [e3]
      intro hl u' T' cap' O' hR'
      obtain ⟨z1, z2, z3⟩ := hL hl
      subst z1 z2 z3
      exact K u' _ _ _ hR'
  · intro post u bs bl H m d O hR hA K
    have b1 := dk_bd_pos hbd hB
    refine yl_subst (b := 120 * x) (y := 360) (Y := [(3, 0)]) (py_out0 hR) (hA x B hB) gB.1 (by omega) (hA 3 _ h3) gY.1 (by simp) ?_ rfl rfl ?_
    · by_cases hx3 : x = 3
      · subst hx3
        right
        rw [h3] at hB
        have := Option.some.inj hB
        subst this
        intro t ht
        simp at ht
        rw [ht]; decide
      · left
        simp only [List.length_cons, List.length_nil]
        omega
    · intro u3 d3 hR3
      rw [List.nil_append] at hR3
      exact hYY _ u3 bs bl H m d3 hR3 hA K
end
end
section
/-! the step's type, products, a variable's type -/
section
variable {g : dk_G} {tk : Nat} {A : List (List dk_T)}
theorem xl_stepType_45 {post : Int32 → SX → Prop} {M : dk_M} {F : dk_F} {T : List dk_T} {cap : Nat} : ∀ {l : List (dk_T × Nat)} {x : List (dk_T × Int32)} {O : List dk_T} {n : Nat} {u : SX}, dk_cd T = x ++ l.map (fun p => (p.1, nI p.2)) → px_R g A M F T cap O u → l.length < n → (∀ u', px_R g A M F T cap (O ++ l.flatMap dk_vf) u' → wpX_commit (fun r u'' => ((r = 0 → (post (-3) u'')) ∧ (¬ r = 0 → (wpX_normCurrent (fun r' u3 => post r' u3) u'')))) u') → xv_normStepType_45 post n (nI x.length) u := by
  intro l
  induction l with
  | nil =>
    intro x O n u e h hn hp
    obtain ⟨n, rfl⟩ : ∃ c, n = c + 1 := ⟨n - 1, by simp at hn; omega⟩
    rw [xe_normStepType_45, h.2.2.2.2.1.1]
    simp only [List.flatMap_nil, List.append_nil] at hp
    have hx : x.length = T.length := by
      rw [← dk_cd_len h.2.2.2.2.1.2.2.2, e]; simp
    rw [hx]
    exact br_t (Int32.le_refl _) (hp u h)
  | cons p l ih =>
    intro x O n u e h hn hp
    obtain ⟨n, rfl⟩ : ∃ c, n = c + 1 := ⟨n - 1, by simp at hn; omega⟩
    have hC := h.2.2.2.2.1
    obtain ⟨⟨k, v⟩, r⟩ := p
    have hx : (dk_cd T)[x.length]? = some ((k, v), nI r) := by rw [e]; simp
    obtain ⟨c1, c2, c3, c4⟩ := pc_rd hC hx
    have hlen : x.length + (l.length + 1) = T.length := by
      rw [← dk_cd_len hC.2.2.2, e]; simp
    have h256 := hC.2.1
    have next : ∀ (W : List dk_T) (u' : SX), dk_vf ((k, v), r) = W → px_R g A M F T cap (O ++ W) u' → xv_normStepType_45 post n (nI (x.length + 1)) u' := by
      intro W u' hw h'
      have e1 : x.length + 1 = (x ++ [((k, v), nI r)]).length := by simp
      rw [e1]
      refine ih (O := O ++ W) (by rw [e]; simp) h' (by simpa using hn) ?_
      intro u'' h''
      refine hp u'' ?_
      rw [List.flatMap_cons, hw]
      rw [List.append_assoc] at h''
      exact h''
    have hvf : dk_vf ((k, v), r) = if k = 5 then (if v = nI r then [(4, 0), (5, nI r + 1)] else if v < nI r then [(k, v)] else [(5, v + 1)]) else [(k, v)] := rfl
    have key : dk_vf ((k, v), r) = [(k, v)] → xv_normStepType_84 post (xv_normStepType_45 post n) (nI x.length) v u := by
      intro hw
      rw [xe_normStepType_84, nI_clamp (by omega), c1]
      exact ⟨vp_in_nI c4 (by omega), xl_emit h fun u' _ h' => nm_r (nI_1 _) (next _ _ hw h')⟩
    rw [xe_normStepType_45, hC.1]
    simp only [nI_clamp (show x.length < 2 ^ 31 by omega)]
    rw [c1, c2, c3]
    refine br_f (nI_ge (by omega) (by omega)) ⟨vp_in_nI c4 (by omega), nm_e ⟨vp_in_nI c4 (by omega), nm_e ⟨vp_in_nI c4 (by omega), br_c (fun hk => br_c (fun hv => br_c (fun hv2 => ?_) fun hv2 => ?_) fun hv => key ?_) fun hk => key ?_⟩⟩⟩
    · refine xl_emit h fun u1 _ h1 => xl_emit h1 fun u2 _ h2 => nm_r (nI_1 _) (next [(4, 0), (5, nI r + 1)] u2 ?_ ?_)
      · rw [hvf, if_pos hk, if_pos hv2]
      · rw [List.append_assoc] at h2; exact h2
    · refine xl_emit h fun u1 _ h1 => nm_r (nI_1 _) (next _ u1 ?_ h1)
      rw [hvf, if_pos hk, if_neg hv2, if_neg (Int32.not_lt.mpr hv)]
    · rw [hvf, if_pos hk, if_neg, if_pos (Int32.not_le.mp hv)]
      intro z
      exact hv (z ▸ Int32.le_refl _)
    · rw [hvf, if_neg hk]
/-- the text of the step's type -/
def dk_st (Q : List dk_T) : List dk_T := (6, 0) :: (2, 0) :: (6, 0) :: (Q ++ dk_vs Q)
theorem dk_gd_st {ne : Nat} {Q : List dk_T} (h : dk_gd ne Q) : dk_gd ne (dk_st Q) := by
  refine ⟨⟨by omega, by show 0 < 1 - 1 + dk_ar 6; decide, by show 0 < 1 - 1 + dk_ar 6 - 1 + dk_ar 2; decide, ?_⟩, ?_⟩
  · show dk_fo _ (1 - 1 + dk_ar 6 - 1 + dk_ar 2 - 1 + dk_ar 6)
    rw [show 1 - 1 + dk_ar 6 - 1 + dk_ar 2 - 1 + dk_ar 6 = 1 + 1 from by decide]
    exact dk_fo_app h.1 (dk_vs_fo h.1)
  · intro t ht
    simp only [dk_st, List.mem_cons, List.mem_append] at ht
    rcases ht with ht | ht | ht | ht | ht
    · rw [ht]; exact dk_okk (by simp)
    · rw [ht]; exact dk_okk (by simp)
    · rw [ht]; exact dk_okk (by simp)
    · exact h.2 t ht
    · exact (dk_gd_vs h).2 t ht
theorem lk_stepType (hg : ga_ok g) (htk : tk ≤ ga_FL g) (hi : dk_inv g A) (hE : dk_ev g A) {x : Nat} {Q : List dk_T} (hQ : A[x]? = some Q) : ∃ (r : Int32) (A' : List (List dk_T)) (tk' : Nat), lk_no g A A' tk' r ∧ lk_X g A A' tk tk' r (fun post u => wpX_normStepType post u (nI x)) ∧ (∀ (post : Int32 → SY → Prop) (u : SY) (bs : Nat) (bl : Int32) (H : dk_H) (m : Nat → Int64) (d : Nat → Int32), py_R g A.length (bs, tk, bl) H m d [(6, 0)] u → py_A A m → (∀ u' m' d' O', py_R g A'.length (bs, tk', bl) H m' d' O' u' → py_A A' m' → post r u') → wpY_put (fun u1 => wpY_put (fun u2 => wpY_term (fun u3 => wpY_shift (fun u4 => wpY_norm post u4) u3 (nI (120 * x)) 1 1) u2 (nI (120 * x))) u1 6 0) u 2 0) := by
  have hWL : ga_WL g ≤ 120 := hg.2.2.2.1
  have hbd := dk_inv_bd hg hi
  have hAg : ∀ S ∈ A, dk_gd (ga_ne g) S := fun S hS => (hi.2.2.1 S hS).1
  obtain ⟨gQ, lQ⟩ := dk_inv_gd hi hQ
  obtain ⟨r, A', tk', hno, hX, hL, hYY⟩ := lk_normT hg htk (dk_gd_st gQ) hi hE
  refine ⟨r, A', tk', hno, ?_, ?_⟩
  · intro post u bs bl F T cap O hR K
    show wpX_normStepType post u (nI x)
    rw [xe_normStepType]
    refine xl_load false hAg hbd.1 hQ (by omega) hR fun u1 h1 => ?_
    have h1 : px_R g A (bs, tk, bl) F Q 256 Q u1 := h1
    rw [h1.1.2.1]
    refine xl_begin h1 (by omega) fun u2 h2 => xl_emit h2 fun u3 _ h3 => xl_emit h3 fun u4 _ h4 => xl_emit h4 fun u5 _ h5 => ?_
    refine xl_emitRange' h5 (pre := []) (l := Q) (suf := []) (by simp) rfl (by rw [h5.2.2.2.2.1.1]; simp) fun u6 h6 => ⟨(dk_z Q).length + 1, ?_⟩
    refine xl_stepType_45 (l := dk_z Q) (x := []) ?_ h6 (by omega) ?_
    · unfold dk_cd dk_z
      rw [List.zip_map_right]
      rfl
    · intro u7 h7
      have e : [] ++ [((6 : Int32), (0 : Int32))] ++ [(2, 0)] ++ [(6, 0)] ++ Q ++ (dk_z Q).flatMap dk_vf = dk_st Q := by
        show _ = (6, 0) :: (2, 0) :: (6, 0) :: (Q ++ (dk_z Q).flatMap dk_vf)
        simp
      rw [e] at h7
      refine xl_commit h7 (dk_gd_st gQ).1 (fun hl u8 h8 => br_f (by decide) ?_) (fun hl u8 h8 => br_t rfl ?_)
      · exact hX hl _ u8 bs bl F _ _ h8 K
      · obtain ⟨z1, z2, z3⟩ := hL hl
        subst z1 z2 z3
        exact K u8 _ _ _ h8
  · intro post u bs bl H m d hR hA K
    have b1 := dk_bd_pos hbd hQ
    refine yl_put hR fun u1 h1 => yl_put h1 fun u2 h2 => ?_
    refine yl_term h2 (hA x Q hQ) gQ.1 (by omega) rfl fun u3 h3 => ?_
    refine yl_shift (s := true) h3 (hA x Q hQ) gQ.1 (by omega) rfl ?_
    intro u4 d4 _ h4
    rw [dk_vs_eq] at h4
    have e : [((6 : Int32), (0 : Int32))] ++ [(2, 0)] ++ [(6, 0)] ++ Q ++ dk_vs Q = dk_st Q := by
      unfold dk_st; simp
    rw [e] at h4
    exact hYY _ u4 bs bl H m d4 h4 hA K
/-- the text of a product -/
theorem dk_gd_pi {ne : Nat} {P Q : List dk_T} (hP : dk_gd ne P) (hQ : dk_gd ne Q) : dk_gd ne ((6, 0) :: (P ++ Q)) := by
  refine ⟨⟨by omega, ?_⟩, ?_⟩
  · show dk_fo _ (1 - 1 + dk_ar 6)
    rw [show 1 - 1 + dk_ar 6 = 1 + 1 from by decide]
    exact dk_fo_app hP.1 hQ.1
  · intro t ht
    simp only [List.mem_cons, List.mem_append] at ht
    rcases ht with ht | ht | ht
    · rw [ht]; exact dk_okk (by simp)
    · exact hP.2 t ht
    · exact hQ.2 t ht
theorem lk_product (hg : ga_ok g) (htk : tk ≤ ga_FL g) (hi : dk_inv g A) {x y : Nat} {P Q : List dk_T} (hP : A[x]? = some P) (hQ : A[y]? = some Q) : ∃ (r : Int32) (A' : List (List dk_T)), lk_no g A A' tk r ∧ lk_X g A A' tk tk r (fun post u => wpX_enterProduct post u (nI x) (nI y)) ∧ (∀ (post : Int32 → SY → Prop) (u : SY) (bs : Nat) (bl : Int32) (H : dk_H) (m : Nat → Int64) (d : Nat → Int32), py_R g A.length (bs, tk, bl) H m d [(6, 0)] u → py_A A m → (∀ u' m' d' O', py_R g A'.length (bs, tk, bl) H m' d' O' u' → py_A A' m' → post r u') → wpY_term (fun u1 => wpY_term (fun u2 => wpY_enter post u2) u1 (nI (120 * y))) u (nI (120 * x))) := by
  have hWL : ga_WL g ≤ 120 := hg.2.2.2.1
  have hbd := dk_inv_bd hg hi
  have hAg : ∀ S ∈ A, dk_gd (ga_ne g) S := fun S hS => (hi.2.2.1 S hS).1
  obtain ⟨gP, lP⟩ := dk_inv_gd hi hP
  obtain ⟨gQ, lQ⟩ := dk_inv_gd hi hQ
  obtain ⟨r, A', ho, hi', hr, hX, hL, hYY⟩ := lk_enterT hg (dk_gd_pi gP gQ) hi
  refine ⟨r, A', ⟨ho, hi', htk, ?_⟩, ?_, ?_⟩
  · rcases hr with hr | hr
    · exact Or.inl hr
    · exact Or.inr (Or.inr hr)
  · intro post u bs bl F T cap O hR K
    show wpX_enterProduct post u (nI x) (nI y)
    rw [xe_enterProduct, hR.1.2.1]
    refine xl_begin hR (by omega) fun u1 h1 => xl_emit h1 fun u2 _ h2 => ?_
    refine xl_emitNode false hAg hbd.1 hP (by omega) h2 fun u3 h3 => xl_emitNode false hAg hbd.1 hQ (by omega) h3 fun u4 h4 => ?_
    have e : [] ++ [((6 : Int32), (0 : Int32))] ++ dk_em false P ++ dk_em false Q = (6, 0) :: (P ++ Q) := by simp [dk_em]
    rw [e] at h4
    refine xl_commit h4 (dk_gd_pi gP gQ).1 (fun hl u5 h5 => br_f (by decide) ?_) (fun hl u5 h5 => br_t rfl ?_)
    · exact hX hl _ u5 _ F _ _ h5 fun u6 h6 => K u6 _ _ _ h6
    · obtain ⟨z1, z2⟩ := hL hl
      subst z1 z2
      exact K u5 _ _ _ h5
  · intro post u bs bl H m d hR hA K
    have b1 := dk_bd_pos hbd hP
    have b2 := dk_bd_pos hbd hQ
    refine yl_term hR (hA x P hP) gP.1 (by omega) rfl fun u1 h1 => ?_
    refine yl_term h1 (hA y Q hQ) gQ.1 (by omega) rfl fun u2 h2 => ?_
    have e : [((6 : Int32), (0 : Int32))] ++ P ++ Q = (6, 0) :: (P ++ Q) := by simp
    rw [e] at h2
    exact hYY _ u2 _ H m d h2 hA fun u' m' h3 h4 => K u' m' d _ h3 h4
/-- a variable's type: the context's entry, raised -/
theorem lk_var (hg : ga_ok g) (htk : tk ≤ ga_FL g) (hi : dk_inv g A) {x : Nat} {Q : List dk_T} (b : Int32) (hQ : A[x]? = some Q) : ∃ (r : Int32) (A' : List (List dk_T)), lk_no g A A' tk r ∧ lk_X g A A' tk tk r (fun post u => wpX_load (fun u1 => wpX_begin (fun u2 => wpX_emitShifted (fun u3 => wpX_commit (fun r4 u4 => ((r4 = 0 → post (-3) u4) ∧ (¬ r4 = 0 → wpX_enter (fun r5 u5 => post r5 u5) u4))) u3) u2 0 (xg_curLen u2) b) u1 (xg_weightLimit u1)) u (nI x) 0) ∧ lk_Y g A A' tk tk r (fun post u => wpY_shift (fun u1 => wpY_enter (fun r2 u2 => post r2 u2) u1) (ys_outLen 0 u) (nI (120 * x)) b 0) := by
  have hWL : ga_WL g ≤ 120 := hg.2.2.2.1
  have hbd := dk_inv_bd hg hi
  have hAg : ∀ S ∈ A, dk_gd (ga_ne g) S := fun S hS => (hi.2.2.1 S hS).1
  obtain ⟨gQ, lQ⟩ := dk_inv_gd hi hQ
  have ls := dk_sh_len (b := b) gQ.1
  obtain ⟨r, A', ho, hi', hr, hX, hL, hYY⟩ := lk_enterT hg (dk_gd_sh (b := b) gQ) hi
  refine ⟨r, A', ⟨ho, hi', htk, ?_⟩, ?_, ?_⟩
  · rcases hr with hr | hr
    · exact Or.inl hr
    · exact Or.inr (Or.inr hr)
  · intro post u bs bl F T cap O hR K
    refine xl_load false hAg hbd.1 hQ (by omega) hR fun u1 h1 => ?_
    have h1 : px_R g A (bs, tk, bl) F Q 256 Q u1 := h1
    rw [h1.1.2.1]
    refine xl_begin h1 (by omega) fun u2 h2 => ?_
    refine xl_emitShifted' h2 (pre := []) (S := Q) (suf := []) (by simp) gQ.1 rfl (by rw [h2.2.2.2.2.1.1]; simp) fun u3 h3 => ?_
    rw [List.nil_append] at h3
    refine xl_commit h3 (dk_sh_fo gQ.1) (fun hl u4 h4 => br_f (by decide) ?_) (fun hl u4 h4 => ?_)
    · exact hX hl _ u4 _ F _ _ h4 fun u5 h5 => K u5 _ _ _ h5
    · omega
  · intro post u bs bl H m d O hR hA K
    have b1 := dk_bd_pos hbd hQ
    refine yl_shift (s := false) (py_out0 hR) (hA x Q hQ) gQ.1 (by omega) rfl ?_
    intro u1 d1 _ h1
    rw [dk_yf_false, List.nil_append] at h1
    exact hYY _ u1 _ H m d1 h1 hA fun u' m' h3 h4 => K u' m' d1 _ h3 h4
end
end
section
/-! INFER in X: frames and the loop over steps -/
/-- the context: innermost first -/
def cx_X (cl : Int32) (ca : Nat → Int32) (ctx : List Nat) : Prop := cl = nI ctx.length ∧ ∀ (j c : Nat), ctx[j]? = some c → ca (ctx.length - 1 - j) = nI c
abbrev dk_B : Type := (Nat → Int32) × (Nat → Int32) × (Nat → Int32)
/-- frames below f are as B says -/
def xf_B (f : Nat) (B : dk_B) (u : SX) : Prop := ∀ j, j < f → xg_frameNode u j = B.1 j ∧ xg_frameStep u j = B.2.1 j ∧ xg_frameKeep u j = B.2.2 j
/-- at work on node i in frame f, s steps begun, kp kept, ans the last answer -/
def xf_R (g : dk_G) (A : List (List dk_T)) (bs tk : Nat) (bl : Int32) (f i s : Nat) (kp ans : Int32) (ctx : List Nat) (B : dk_B) (u : SX) : Prop := (∃ F T cap O, px_R g A (bs, tk, bl) F T cap O u) ∧ xg_frameTop u = nI (f + 1) ∧ xg_frameNode u f = nI i ∧ xg_frameStep u f = nI s ∧ xg_frameKeep u f = kp ∧ xg_answer u = ans ∧ cx_X (xg_contextLen u) (xg_context u) ctx ∧ xf_B f B u
/-- frame f has been left with an answer -/
def xf_D (g : dk_G) (A : List (List dk_T)) (bs tk : Nat) (bl : Int32) (f : Nat) (ans : Int32) (ctx : List Nat) (B : dk_B) (u : SX) : Prop := (∃ F T cap O, px_R g A (bs, tk, bl) F T cap O u) ∧ xg_frameTop u = nI f ∧ xg_answer u = ans ∧ cx_X (xg_contextLen u) (xg_context u) ctx ∧ xf_B f B u
/-- what the loop does with a step's answer -/
def xi_K (post : Int32 → SX → Prop) (g : Nat) : Int32 → SX → Prop := fun r u => ((r = (-100) → (∀ x3 : Int32, x3 = nI g + 1 → (xv_runInfer_21 post (4200 - (g + 1)) r x3 u))) ∧ (¬ r = (-100) → (((0 ≤ r → (∀ ft : Int32, ft = (xg_frameTop u) - 1 → (∀ x3 : Int32, x3 = nI g + 1 → (xv_runInfer_21 post (4200 - (g + 1)) r x3 (xs_frameTop_answer ft r u))))) ∧ (¬ 0 ≤ r → (vp_in ((xg_frameTop u) - 1) 256 ∧ (∀ bn : Int32, bn = (xg_frameNode u) ((xg_frameTop u) - 1).toNatClampNeg → (post r (xs_blameNode bn u)))))))))
section
variable {g : dk_G} {A A' : List (List dk_T)} {bs tk tk' : Nat} {bl : Int32} {f i s q : Nat} {kp ans : Int32} {ctx : List Nat} {B : dk_B} {u : SX} {post : Int32 → SX → Prop}
theorem px_frames {M : dk_M} {F : dk_F} {T : List dk_T} {cap : Nat} {O : List dk_T} {a : Int32} {b c d : Nat → Int32} (h : px_R g A M F T cap O u) : ∃ F', px_R g A M F' T cap O (xs_frameTop_frameNode_frameStep_frameKeep a b c d u) := ⟨(a, F.2.1, F.2.2.1, b, c, d, F.2.2.2.2.2.2), h.1, h.2.1, h.2.2.1, ⟨rfl, h.2.2.2.1.2.1, h.2.2.2.1.2.2.1, rfl, rfl, rfl, h.2.2.2.1.2.2.2.2.2.2⟩, h.2.2.2.2.1, h.2.2.2.2.2⟩
theorem px_step {M : dk_M} {F : dk_F} {T : List dk_T} {cap : Nat} {O : List dk_T} {b : Nat → Int32} (h : px_R g A M F T cap O u) : ∃ F', px_R g A M F' T cap O (xs_frameStep b u) := ⟨(F.1, F.2.1, F.2.2.1, F.2.2.2.1, b, F.2.2.2.2.2.1, F.2.2.2.2.2.2), h.1, h.2.1, h.2.2.1, ⟨h.2.2.2.1.1, h.2.2.2.1.2.1, h.2.2.2.1.2.2.1, h.2.2.2.1.2.2.2.1, rfl, h.2.2.2.1.2.2.2.2.2.1, h.2.2.2.1.2.2.2.2.2.2⟩, h.2.2.2.2.1, h.2.2.2.2.2⟩
theorem px_tstep {F : dk_F} {T : List dk_T} {cap k : Nat} {O : List dk_T} {b : Nat → Int32} (h : px_R g A (bs, tk, bl) F T cap O u) : ∃ F', px_R g A (bs, k, bl) F' T cap O (xs_tickCount_frameStep (nI k) b u) := ⟨(F.1, F.2.1, F.2.2.1, F.2.2.2.1, b, F.2.2.2.2.2.1, F.2.2.2.2.2.2), h.1, h.2.1, ⟨h.2.2.1.1, rfl, h.2.2.1.2.2⟩, ⟨h.2.2.2.1.1, h.2.2.2.1.2.1, h.2.2.2.1.2.2.1, h.2.2.2.1.2.2.2.1, rfl, h.2.2.2.1.2.2.2.2.2.1, h.2.2.2.1.2.2.2.2.2.2⟩, h.2.2.2.2.1, h.2.2.2.2.2⟩
theorem px_keep {M : dk_M} {F : dk_F} {T : List dk_T} {cap : Nat} {O : List dk_T} {b : Nat → Int32} (h : px_R g A M F T cap O u) : ∃ F', px_R g A M F' T cap O (xs_frameKeep b u) := ⟨(F.1, F.2.1, F.2.2.1, F.2.2.2.1, F.2.2.2.2.1, b, F.2.2.2.2.2.2), h.1, h.2.1, h.2.2.1, ⟨h.2.2.2.1.1, h.2.2.2.1.2.1, h.2.2.2.1.2.2.1, h.2.2.2.1.2.2.2.1, h.2.2.2.1.2.2.2.2.1, rfl, h.2.2.2.1.2.2.2.2.2.2⟩, h.2.2.2.2.1, h.2.2.2.2.2⟩
theorem px_ctx {M : dk_M} {F : dk_F} {T : List dk_T} {cap : Nat} {O : List dk_T} {a : Int32} {b : Nat → Int32} (h : px_R g A M F T cap O u) : ∃ F', px_R g A M F' T cap O (xs_contextLen_context a b u) := ⟨(F.1, F.2.1, a, F.2.2.2.1, F.2.2.2.2.1, F.2.2.2.2.2.1, b), h.1, h.2.1, h.2.2.1, ⟨h.2.2.2.1.1, h.2.2.2.1.2.1, rfl, h.2.2.2.1.2.2.2.1, h.2.2.2.1.2.2.2.2.1, h.2.2.2.1.2.2.2.2.2.1, rfl⟩, h.2.2.2.2.1, h.2.2.2.2.2⟩
theorem px_cl {M : dk_M} {F : dk_F} {T : List dk_T} {cap : Nat} {O : List dk_T} {a : Int32} (h : px_R g A M F T cap O u) : ∃ F', px_R g A M F' T cap O (xs_contextLen a u) := ⟨(F.1, F.2.1, a, F.2.2.2.1, F.2.2.2.2.1, F.2.2.2.2.2.1, F.2.2.2.2.2.2), h.1, h.2.1, h.2.2.1, ⟨h.2.2.2.1.1, h.2.2.2.1.2.1, rfl, h.2.2.2.1.2.2.2.1, h.2.2.2.1.2.2.2.2.1, h.2.2.2.1.2.2.2.2.2.1, h.2.2.2.1.2.2.2.2.2.2⟩, h.2.2.2.2.1, h.2.2.2.2.2⟩
theorem px_ans {M : dk_M} {F : dk_F} {T : List dk_T} {cap : Nat} {O : List dk_T} {a b : Int32} (h : px_R g A M F T cap O u) : ∃ F', px_R g A M F' T cap O (xs_frameTop_answer a b u) := ⟨(a, b, F.2.2.1, F.2.2.2.1, F.2.2.2.2.1, F.2.2.2.2.2.1, F.2.2.2.2.2.2), h.1, h.2.1, h.2.2.1, ⟨rfl, rfl, h.2.2.2.1.2.2.1, h.2.2.2.1.2.2.2.1, h.2.2.2.1.2.2.2.2.1, h.2.2.2.1.2.2.2.2.2.1, h.2.2.2.1.2.2.2.2.2.2⟩, h.2.2.2.2.1, h.2.2.2.2.2⟩
theorem px_bl {F : dk_F} {T : List dk_T} {cap : Nat} {O : List dk_T} {a : Int32} (h : px_R g A (bs, tk, bl) F T cap O u) : px_R g A (bs, tk, a) F T cap O (xs_blameNode a u) := ⟨h.1, h.2.1, ⟨h.2.2.1.1, h.2.2.1.2.1, rfl⟩, h.2.2.2.1, h.2.2.2.2.1, h.2.2.2.2.2⟩
/-- the loop makes one step -/
theorem xl_iter {x : Int32} (hq : q ≤ 4000) (hf : f ≤ 200) (h : xg_frameTop u = nI (f + 1)) (K : wpX_stepVisit (xi_K post q) u) : xv_runInfer_21 post (4200 - q) x (nI q) u := by
  rw [show 4200 - q = (4200 - (q + 1)) + 1 from by omega, xe_runInfer_21, h]
  exact br_f (nI_ge (b := 4096) (by omega) (by decide)) (br_f (nI_nle (by omega) (by omega)) K)
/-- a later step of node i -/
theorem xl_later {x : Int32} (hq : q ≤ 4000) (hf : f ≤ 200) (hs : 0 < s) (hs4 : s ≤ 4) (h : xf_R g A bs tk bl f i s kp ans ctx B u) (K : ∀ u', xf_R g A bs tk bl f i (s + 1) kp ans ctx B u' → xv_stepVisit_58 (xi_K post q) (nI f) (nI i) (nI s) u') : xv_runInfer_21 post (4200 - q) x (nI q) u := by
  obtain ⟨⟨F, T, cap, O, hR⟩, h1, h2, h3, h4, h5, h6, h7⟩ := h
  refine xl_iter hq hf h1 ?_
  rw [xe_stepVisit, h1]
  refine nm_r (nI_pred f) ⟨vp_in_nI (by omega) (by omega), ?_⟩
  rw [nI_clamp (by omega)]
  refine nm_r h2 ⟨vp_in_nI (by omega) (by omega), nm_r h3 ⟨vp_in_nI (by omega) (by omega), nm_e (br_f (nI_ne0 hs (by omega)) (K _ ?_))⟩⟩
  obtain ⟨F', hR'⟩ := px_step (b := upd (xg_frameStep u) f (nI s + 1)) hR
  refine ⟨⟨F', T, cap, O, hR'⟩, h1, h2, ?_, h4, h5, h6, ?_⟩
  · show upd (xg_frameStep u) f (nI s + 1) f = _
    rw [pk_us, nI_1]
  · intro j hj
    obtain ⟨a, b, c⟩ := h7 j hj
    refine ⟨a, ?_, c⟩
    show upd (xg_frameStep u) f (nI s + 1) j = _
    rw [pk_un (by omega)]; exact b
/-- the first step of node i: a tick -/
theorem xl_first {x : Int32} (hg : ga_ok g) (hq : q ≤ 4000) (hf : f ≤ 200) (htk : tk ≤ ga_FL g) (h : xf_R g A bs tk bl f i 0 kp ans ctx B u) (K1 : tk = ga_FL g → ∀ u', xf_R g A bs tk bl f i 1 kp ans ctx B u' → xi_K post q (-4) u') (K2 : tk < ga_FL g → ∀ u', xf_R g A bs (tk + 1) bl f i 1 kp ans ctx B u' → xv_stepVisit_58 (xi_K post q) (nI f) (nI i) (nI 0) u') : xv_runInfer_21 post (4200 - q) x (nI q) u := by
  have hFL : ga_FL g ≤ 200 := hg.2.2.2.2.2.1
  obtain ⟨⟨F, T, cap, O, hR⟩, h1, h2, h3, h4, h5, h6, h7⟩ := h
  refine xl_iter hq hf h1 ?_
  rw [xe_stepVisit, h1, show xg_tickCount u = nI tk from hR.2.2.1.2.1, hR.1.2.2.1]
  refine nm_r (nI_pred f) ⟨vp_in_nI (by omega) (by omega), ?_⟩
  rw [nI_clamp (by omega)]
  refine nm_r h2 ⟨vp_in_nI (by omega) (by omega), nm_r h3 ⟨vp_in_nI (by omega) (by omega), nm_e (br_t rfl ?_)⟩⟩
  by_cases hlt : tk < ga_FL g
  · refine br_t (nI_lt hlt (by omega)) (nm_r (nI_1 _) (K2 hlt _ ?_))
    obtain ⟨F', hR'⟩ := px_tstep (k := tk + 1) (b := upd (xg_frameStep u) f (nI 0 + 1)) hR
    refine ⟨⟨F', T, cap, O, hR'⟩, h1, h2, ?_, h4, h5, h6, ?_⟩
    · show upd (xg_frameStep u) f (nI 0 + 1) f = _
      rw [pk_us, nI_1]
    · intro j hj
      obtain ⟨a, b, c⟩ := h7 j hj
      refine ⟨a, ?_, c⟩
      show upd (xg_frameStep u) f (nI 0 + 1) j = _
      rw [pk_un (by omega)]; exact b
  · refine br_f (nI_nlt (by omega) (by omega)) (K1 (by omega) _ ?_)
    obtain ⟨F', hR'⟩ := px_step (b := upd (xg_frameStep u) f (nI 0 + 1)) hR
    refine ⟨⟨F', T, cap, O, hR'⟩, h1, h2, ?_, h4, h5, h6, ?_⟩
    · show upd (xg_frameStep u) f (nI 0 + 1) f = _
      rw [pk_us, nI_1]
    · intro j hj
      obtain ⟨a, b, c⟩ := h7 j hj
      refine ⟨a, ?_, c⟩
      show upd (xg_frameStep u) f (nI 0 + 1) j = _
      rw [pk_un (by omega)]; exact b
/-- the answers of a step that fail -/
def dk_fl (r : Int32) : Prop := r = -3 ∨ r = -4 ∨ r = -5 ∨ r = -6 ∨ r = -7 ∨ r = -8 ∨ r = -9 ∨ r = -11
theorem dk_fl_neg {r : Int32} (h : dk_fl r) : ¬ r = -100 ∧ ¬ 0 ≤ r ∧ r < 0 := by
  rcases h with h | h | h | h | h | h | h | h <;> subst h <;> decide
/-- a step fails -/
theorem xi_bad {r : Int32} (hr : dk_fl r) (hf : f ≤ 200) (h : xf_R g A bs tk bl f i s kp ans ctx B u) (K : ∀ u', (∃ F T cap O, px_R g A (bs, tk, nI i) F T cap O u') → post r u') : xi_K post q r u := by
  obtain ⟨⟨F, T, cap, O, hR⟩, h1, h2, h3, h4, h5, h6, h7⟩ := h
  obtain ⟨r1, r2, _⟩ := dk_fl_neg hr
  refine br_f r1 (br_f r2 ?_)
  rw [h1, nI_pred, nI_clamp (by omega)]
  exact ⟨vp_in_nI (by omega) (by omega), nm_r h2 (K _ ⟨F, T, cap, O, px_bl hR⟩)⟩
/-- a visit ends with an answer -/
theorem xi_ok {r : Nat} (hr : r < 2 ^ 31) (h : xf_R g A bs tk bl f i s kp ans ctx B u) (K : ∀ u', xf_D g A bs tk bl f (nI r) ctx B u' → xv_runInfer_21 post (4200 - (q + 1)) (nI r) (nI (q + 1)) u') : xi_K post q (nI r) u := by
  obtain ⟨⟨F, T, cap, O, hR⟩, h1, h2, h3, h4, h5, h6, h7⟩ := h
  have hp := nI_pos' hr
  refine br_f (fun z => ?_) (br_t hp ?_)
  · rw [z] at hp; exact absurd hp (by decide)
  · rw [h1]
    refine nm_r (nI_pred f) (nm_r (nI_1 _) (K _ ?_))
    obtain ⟨F', hR'⟩ := px_ans (a := nI f) (b := nI r) hR
    exact ⟨⟨F', T, cap, O, hR'⟩, rfl, rfl, h6, h7⟩
/-- a visit of a child begins -/
theorem xl_visit {c : Nat} (hf : f ≤ 200) (h : xf_R g A bs tk bl f i s kp ans ctx B u) (K : ∀ u', xf_R g A bs tk bl (f + 1) c 0 0 ans ctx (xg_frameNode u, xg_frameStep u, xg_frameKeep u) u' → xv_runInfer_21 post (4200 - (q + 1)) (-100) (nI (q + 1)) u') : wpX_visit (xi_K post q) u (nI c) := by
  obtain ⟨⟨F, T, cap, O, hR⟩, h1, h2, h3, h4, h5, h6, h7⟩ := h
  rw [xe_visit, h1, nI_clamp (by omega)]
  refine br_t (nI_lt (b := 256) (by omega) (by decide)) ⟨vp_in_nI (by omega) (by omega), nm_e ⟨vp_in_nI (by omega) (by omega), nm_e ⟨vp_in_nI (by omega) (by omega), nm_e (nm_r (nI_1 _) ?_)⟩⟩⟩
  refine br_t rfl (nm_r (nI_1 _) (K _ ?_))
  obtain ⟨F', hR'⟩ := px_frames (a := nI (f + 1 + 1)) (b := upd (xg_frameNode u) (f + 1) (nI c)) (c := upd (xg_frameStep u) (f + 1) 0) (d := upd (xg_frameKeep u) (f + 1) 0) hR
  refine ⟨⟨F', T, cap, O, hR'⟩, rfl, ?_, ?_, ?_, h5, h6, ?_⟩
  · show upd (xg_frameNode u) (f + 1) (nI c) (f + 1) = _
    rw [pk_us]
  · show upd (xg_frameStep u) (f + 1) 0 (f + 1) = _
    rw [pk_us]; rfl
  · show upd (xg_frameKeep u) (f + 1) 0 (f + 1) = _
    rw [pk_us]
  · intro j hj
    refine ⟨?_, ?_, ?_⟩
    · show upd (xg_frameNode u) (f + 1) (nI c) j = _
      rw [pk_un (by omega)]
    · show upd (xg_frameStep u) (f + 1) 0 j = _
      rw [pk_un (by omega)]
    · show upd (xg_frameKeep u) (f + 1) 0 j = _
      rw [pk_un (by omega)]
/-- back in the parent's frame -/
theorem xf_back {u' : SX} {a2 : Int32} (h : xf_R g A bs tk bl f i s kp ans ctx B u) (h' : xf_D g A' bs tk' bl (f + 1) a2 ctx (xg_frameNode u, xg_frameStep u, xg_frameKeep u) u') : xf_R g A' bs tk' bl f i s kp a2 ctx B u' := by
  obtain ⟨_, h1, h2, h3, h4, h5, h6, h7⟩ := h
  obtain ⟨k0, k1, k2, k3, k4⟩ := h'
  obtain ⟨a, b, c⟩ := k4 f (by omega)
  refine ⟨k0, k1, a.trans h2, b.trans h3, c.trans h4, k2, k3, ?_⟩
  intro j hj
  obtain ⟨a1, b1, c1⟩ := h7 j hj
  obtain ⟨a2, b2, c2⟩ := k4 j (by omega)
  exact ⟨a2.trans a1, b2.trans b1, c2.trans c1⟩
theorem xl_push {c : Nat} {post : SX → Prop} (hc : ctx.length < 200) (h : xf_R g A bs tk bl f i s kp ans ctx B u) (K : ∀ u', xf_R g A bs tk bl f i s kp ans (c :: ctx) B u' → post u') : wpX_pushContext post u (nI c) := by
  obtain ⟨⟨F, T, cap, O, hR⟩, h1, h2, h3, h4, h5, ⟨h6, h6'⟩, h7⟩ := h
  rw [xe_pushContext, h6, nI_clamp (by omega)]
  refine br_f (nI_ge (b := 256) (by omega) (by decide)) ⟨vp_in_nI (by omega) (by omega), nm_e (nm_r (nI_1 _) (K _ ?_))⟩
  obtain ⟨F', hR'⟩ := px_ctx (a := nI (ctx.length + 1)) (b := upd (xg_context u) ctx.length (nI c)) hR
  refine ⟨⟨F', T, cap, O, hR'⟩, h1, h2, h3, h4, h5, ⟨rfl, ?_⟩, h7⟩
  intro j x hj
  show upd (xg_context u) ctx.length (nI c) ((c :: ctx).length - 1 - j) = nI x
  cases j with
  | zero =>
    have hj : c = x := by simpa using hj
    subst hj
    rw [show (c :: ctx).length - 1 - 0 = ctx.length from by simp, pk_us]
  | succ j =>
    have hj : ctx[j]? = some x := by simpa using hj
    have hl := (List.getElem?_eq_some_iff.mp hj).1
    rw [show (c :: ctx).length - 1 - (j + 1) = ctx.length - 1 - j from by simp; omega, pk_un (by omega)]
    exact h6' j x hj
theorem xl_pop {c : Nat} {post : SX → Prop} (hc : ctx.length < 200) (h : xf_R g A bs tk bl f i s kp ans (c :: ctx) B u) (K : ∀ u', xf_R g A bs tk bl f i s kp ans ctx B u' → post u') : wpX_popContext post u := by
  obtain ⟨⟨F, T, cap, O, hR⟩, h1, h2, h3, h4, h5, ⟨h6, h6'⟩, h7⟩ := h
  rw [xe_popContext, h6]
  refine br_f (nI_nle (by simp) (by simp; omega)) (nm_r (nI_pred ctx.length) (K _ ?_))
  obtain ⟨F', hR'⟩ := px_cl (a := nI ctx.length) hR
  refine ⟨⟨F', T, cap, O, hR'⟩, h1, h2, h3, h4, h5, ⟨rfl, ?_⟩, h7⟩
  intro j x hj
  have hl := (List.getElem?_eq_some_iff.mp hj).1
  have := h6' (j + 1) x (by simpa using hj)
  rw [show (c :: ctx).length - 1 - (j + 1) = ctx.length - 1 - j from by simp; omega] at this
  exact this
/-- a call that changes arena and ticks alone -/
theorem xf_call {r : Int32} {W : (Int32 → SX → Prop) → SX → Prop} (hX : lk_X g A A' tk tk' r W) {post : Int32 → SX → Prop} (h : xf_R g A bs tk bl f i s kp ans ctx B u) (K : ∀ u', xf_R g A' bs tk' bl f i s kp ans ctx B u' → post r u') : W post u := by
  obtain ⟨⟨F, T, cap, O, hR⟩, h1, h2, h3, h4, h5, h6, h7⟩ := h
  refine hX post u bs bl F T cap O hR ?_
  intro u' T' cap' O' hR'
  have hF := hR.2.2.2.1
  have hF' := hR'.2.2.2.1
  refine K u' ⟨⟨F, T', cap', O', hR'⟩, ?_, ?_, ?_, ?_, ?_, ?_, ?_⟩
  · rw [hF'.1, ← hF.1]; exact h1
  · rw [hF'.2.2.2.1, ← hF.2.2.2.1]; exact h2
  · rw [hF'.2.2.2.2.1, ← hF.2.2.2.2.1]; exact h3
  · rw [hF'.2.2.2.2.2.1, ← hF.2.2.2.2.2.1]; exact h4
  · rw [hF'.2.1, ← hF.2.1]; exact h5
  · rw [hF'.2.2.1, hF'.2.2.2.2.2.2, ← hF.2.2.1, ← hF.2.2.2.2.2.2]; exact h6
  · intro j hj
    rw [hF'.2.2.2.1, hF'.2.2.2.2.1, hF'.2.2.2.2.2.1, ← hF.2.2.2.1, ← hF.2.2.2.2.1, ← hF.2.2.2.2.2.1]
    exact h7 j hj
theorem xf_keep {k' : Int32} (h : xf_R g A bs tk bl f i s kp ans ctx B u) : xf_R g A bs tk bl f i s k' ans ctx B (xs_frameKeep (upd (xg_frameKeep u) f k') u) := by
  obtain ⟨⟨F, T, cap, O, hR⟩, h1, h2, h3, h4, h5, h6, h7⟩ := h
  obtain ⟨F', hR'⟩ := px_keep (b := upd (xg_frameKeep u) f k') hR
  refine ⟨⟨F', T, cap, O, hR'⟩, h1, h2, h3, ?_, h5, h6, ?_⟩
  · show upd (xg_frameKeep u) f k' f = _
    rw [pk_us]
  · intro j hj
    obtain ⟨a, b, c⟩ := h7 j hj
    refine ⟨a, b, ?_⟩
    show upd (xg_frameKeep u) f k' j = _
    rw [pk_un (by omega)]; exact c
end
end
section
/-! INFER in Y: the loops of typing -/
def yf_R (g : dk_G) (A : List (List dk_T)) (bs tk : Nat) (bl : Int32) (H : dk_H) (u : SY) : Prop := ∃ m d O, py_R g A.length (bs, tk, bl) H m d O u ∧ py_A A m
/-- the loop over tokens, whose next token is e -/
def ty_J (post : Int32 → SY → Prop) (b L e : Nat) : Int32 → SY → Prop := yv_typing_14 post (nI b) (nI (b + L)) (L - e + 1)
/-- the loop over visits that end at e -/
def ty_L (post : Int32 → SY → Prop) (b L e k : Nat) (x5 x6 x7 : Int32) (u : SY) : Prop := yv_typing_80 post (ty_J post b L e) (nI b) (nI (b + L)) (nI (b + (e - 1))) k x5 x6 x7 u
/-- the visit at p has ended well, its type stands in ty -/
def ty_C (post : Int32 → SY → Prop) (b L e p : Nat) (r : Int32) (u : SY) : Prop := ((nI (b + p) ≤ nI b → (∀ x7 : Int32, x7 = nI (b + p) + (-1) → ty_L post b L e (p + 1) r (nI (b + p)) x7 u)) ∧ (¬ nI (b + p) ≤ nI b → (wpY_parent (fun r_117 => (wpY_afterChild (fun r_137 u_138 => (∀ x7 : Int32, x7 = nI (b + p) + (-1) → ty_L post b L e (p + 1) r_137 r_117 x7 u_138)) u (nI b) r_117 (nI (b + p)))) u (nI b) (nI (b + p)))))
/-- what is done with the answer of finish -/
def ty_F (post : Int32 → SY → Prop) (b L e p : Nat) : Int32 → SY → Prop := fun r_91 u_92 => (vp_in (nI (b + p) - nI b) 120 ∧ ∀ a_ty_112 : Nat → Int32, a_ty_112 = upd (yg_ty u_92) (nI (b + p) - nI b).toNatClampNeg r_91 → (((r_91 < 0 → (∀ x7_114 : Int32, x7_114 = nI (b + p) + (-1) → (ty_L post b L e (p + 1) r_91 (nI (b + p)) x7_114 (ys_ty a_ty_112 u_92)))) ∧ (¬ r_91 < 0 → ty_C post b L e p r_91 (ys_ty a_ty_112 u_92)))))
/-- what is done with the answer of afterChild; q is the child's place, p the parent's -/
def ty_A (post : Int32 → SY → Prop) (b L e q p : Nat) : Int32 → SY → Prop := fun r u => ∀ x7 : Int32, x7 = nI (b + q) + (-1) → ty_L post b L e (q + 1) r (nI (b + p)) x7 u
theorem dk_end_in {T pr x r : List dk_T} {q m : Nat} (e : T = pr ++ x ++ r) (hx : dk_fo x m) (h1 : pr.length ≤ q) (h2 : q < pr.length + x.length) : ∃ a R b, T = a ++ R ++ b ∧ a.length = q ∧ dk_fo R 1 ∧ q + R.length ≤ pr.length + x.length := by
  have e5 : x = x.take (q - pr.length) ++ x.drop (q - pr.length) := (List.take_append_drop _ _).symm
  have hne : x.drop (q - pr.length) ≠ [] := by
    intro z
    have : (x.drop (q - pr.length)).length = 0 := by rw [z]; rfl
    simp at this; omega
  have hx' := hx
  rw [e5] at hx'
  obtain ⟨k, hk, hf⟩ := dk_fo_suf hx' hne
  rw [show k = 1 + (k - 1) from by omega] at hf
  obtain ⟨c1, c2, ec, f1, f2⟩ := dk_fo_split hf
  refine ⟨pr ++ x.take (q - pr.length), c1, c2 ++ r, ?_, by simp; omega, f1, ?_⟩
  · conv => lhs; rw [e, e5, ec]
    simp
  · have : (x.drop (q - pr.length)).length = c1.length + c2.length := by rw [ec]; simp
    simp at this
    omega
theorem dk_pos_uniq {T a R b pre S suf : List dk_T} (e1 : T = a ++ R ++ b) (e2 : T = pre ++ S ++ suf) (hl : a.length = pre.length) (hR : dk_fo R 1) (hS : dk_fo S 1) : R = S := by
  have : a ++ (R ++ b) = pre ++ (S ++ suf) := by rw [← List.append_assoc, ← e1, e2, List.append_assoc]
  obtain ⟨_, e5⟩ := List.append_inj this hl
  exact (dk_fo_pre hR hS e5).1
section
variable {post : Int32 → SY → Prop} {g : dk_G} {A : List (List dk_T)} {bs tk : Nat} {bl : Int32} {H : dk_H} {u : SY} {T : List dk_T} {b0 : Nat}
/-- reading the term that is typed -/
theorem yf_T (hg : ga_ok g) (hi : dk_inv g A) (hT : A[b0]? = some T) (h : yf_R g A bs tk bl H u) : yg_nmem u = 47344 ∧ py_s (yg_mem u) (120 * b0) T ∧ 120 * b0 + T.length ≤ 30720 ∧ T.length ≤ 120 ∧ dk_fo T 1 ∧ b0 < 256 := by
  obtain ⟨m, d, O, hR, hA⟩ := h
  have hb := dk_bd_pos (dk_inv_bd hg hi) hT
  exact ⟨(py_nm hR).1, py_low hR (hA b0 T hT) (by omega), hb.2.2.2, hb.2.2.1, hb.2.1, hb.1⟩
theorem ni_lt1 (b : Nat) (hb : b < 2 ^ 31) : nI b + (-1) < nI b := by
  cases b with
  | zero => decide
  | succ b => rw [pk_m1]; exact nI_lt (by omega) hb
theorem yt_pass {x5 x6 : Int32} {e lo : Nat} (hg : ga_ok g) (hi : dk_inv g A) (hT : A[b0]? = some T) (h : yf_R g A bs tk bl H u) (h5 : ¬ x5 < 0) (he : e ≤ 200) (he1 : 0 < e) : ∀ {k hi' : Nat}, hi' = lo + k → hi' ≤ T.length → (∀ q, lo ≤ q → q < hi' → dk_ne T q e) → ty_L post (120 * b0) T.length e (lo + 1) x5 x6 (nI (120 * b0 + lo) + (-1)) u → ty_L post (120 * b0) T.length e (hi' + 1) x5 x6 (nI (120 * b0 + hi') + (-1)) u := by
  obtain ⟨hnm, hs, hbl, hTl, hTf, _⟩ := yf_T hg hi hT h
  intro k
  induction k with
  | zero => intro hi' hh _ _ K; subst hh; exact K
  | succ k ih =>
    intro hi' hh hlT hne K
    obtain ⟨a, R, b, e1, e2, e3⟩ := dk_at_pos hTf (q := hi' - 1) (by omega)
    have hs' := hs
    rw [e1, List.append_assoc] at hs'
    have s2 := (py_s_app.mp (py_s_app.mp hs').2).1
    rw [e2] at s2
    have hRl : hi' - 1 + R.length ≤ T.length := by rw [e1]; simp; omega
    show yv_typing_80 _ _ _ _ _ _ _ _ _ _
    rw [ye_typing_80, ni_m1 (by omega), show 120 * b0 + hi' - 1 = 120 * b0 + (hi' - 1) from by omega]
    refine br_f (nI_nlt (by omega) (by omega)) (br_f h5 (yl_end hnm s2 e3 (by omega) (br_f ?_ (nm_e ?_))))
    · rw [nI_1, nI_eq (by omega) (by omega)]
      have := hne (hi' - 1) (by omega) (by omega) a R b e1 e2 e3
      omega
    · have := ih (hi' := hi' - 1) (by omega) (by omega) (fun q h1 h2 => hne q h1 (by omega)) K
      rw [show hi' - 1 + 1 = hi' from by omega] at this
      exact this
/-- no visit ends here: the next token -/
theorem yt_next {x5 x6 : Int32} {e hi' : Nat} (hg : ga_ok g) (hi : dk_inv g A) (hT : A[b0]? = some T) (h : yf_R g A bs tk bl H u) (h5 : ¬ x5 < 0) (he : e ≤ 200) (he1 : 0 < e) (hl : hi' ≤ T.length) (hne : ∀ q, q < hi' → dk_ne T q e) (K : yv_typing_14 post (nI (120 * b0)) (nI (120 * b0 + T.length)) (T.length - e + 1) (nI (120 * b0 + e)) u) : ty_L post (120 * b0) T.length e (hi' + 1) x5 x6 (nI (120 * b0 + hi') + (-1)) u := by
  obtain ⟨hnm, hs, hbl, hTl, hTf, _⟩ := yf_T hg hi hT h
  refine yt_pass (lo := 0) hg hi hT h h5 he he1 (k := hi') (by omega) hl (fun q _ h2 => hne q h2) ?_
  show yv_typing_80 _ _ _ _ _ _ _ _ _ _
  rw [ye_typing_80]
  refine br_t (ni_lt1 _ (by omega)) ?_
  rw [ye_typing_168]
  refine br_t (Int32.not_lt.mp h5) (nm_r (nI_1 _) ?_)
  rw [show 120 * b0 + (e - 1) + 1 = 120 * b0 + e from by omega]
  exact K
/-- a failure: the blamed visit is at p -/
theorem yt_bad {r x7 : Int32} {e k p : Nat} {pre S suf : List dk_T} {i : Nat} (hg : ga_ok g) (hi : dk_inv g A) (hT : A[b0]? = some T) (h : yf_R g A bs tk bl H u) (hr : dk_fl r) (eT : T = pre ++ S ++ suf) (hp : p = pre.length) (hS : dk_fo S 1) (hAi : A[i]? = some S) (K : ∀ u', yf_R g A bs tk (nI i) H u' → post r u') : ty_L post (120 * b0) T.length e (k + 1) r (nI (120 * b0 + p)) x7 u := by
  obtain ⟨hnm, hs, hbl, hTl, hTf, _⟩ := yf_T hg hi hT h
  obtain ⟨m, d, O, hR, hA⟩ := h
  have hbd := dk_inv_bd hg hi
  obtain ⟨_, r2, r3⟩ := dk_fl_neg hr
  have hs' := hs
  rw [eT, List.append_assoc] at hs'
  have s2 := (py_s_app.mp (py_s_app.mp hs').2).1
  have hlen : T.length = pre.length + (S.length + suf.length) := by rw [eT]; simp
  have fin : yv_typing_168 post (ty_J post (120 * b0) T.length e) (nI (120 * b0)) (nI (120 * b0 + T.length)) (nI (120 * b0 + (e - 1))) r (nI (120 * b0 + p)) u := by
    rw [ye_typing_168]
    refine br_f r2 ?_
    rw [hp]
    refine yl_find hnm hR.2.1 hbd (py_A_low hR hbd hA) s2 hS (by omega) (by omega) rfl ?_ ?_
    · intro i' hi'
      rw [dk_idx hi.2.1 hi' hAi]
      exact K _ ⟨m, d, O, ⟨hR.1, hR.2.1, ⟨hR.2.2.1.1, hR.2.2.1.2.1, rfl⟩, hR.2.2.2⟩, hA⟩
    · intro z
      exact absurd (List.mem_of_getElem? hAi) z
  show yv_typing_80 _ _ _ _ _ _ _ _ _ _
  rw [ye_typing_80]
  exact br_c (fun _ => fin) fun _ => br_t r3 fin
/-- the visit at p ends: its finish -/
theorem yt_fin {x5 x6 : Int32} {e p : Nat} {pre S suf : List dk_T} (hg : ga_ok g) (hi : dk_inv g A) (hT : A[b0]? = some T) (h : yf_R g A bs tk bl H u) (h5 : ¬ x5 < 0) (eT : T = pre ++ S ++ suf) (hp : p = pre.length) (hS : dk_fo S 1) (he : e = p + S.length) (K : wpY_finish (ty_F post (120 * b0) T.length e p) u (nI (120 * b0)) (nI (120 * b0 + p))) : ty_L post (120 * b0) T.length e (p + 1 + 1) x5 x6 (nI (120 * b0 + p)) u := by
  obtain ⟨hnm, hs, hbl, hTl, hTf, _⟩ := yf_T hg hi hT h
  have hs' := hs
  rw [eT, List.append_assoc] at hs'
  have s2 := (py_s_app.mp (py_s_app.mp hs').2).1
  have hlen : T.length = pre.length + (S.length + suf.length) := by rw [eT]; simp
  have hS1 := dk_fo_len hS
  show yv_typing_80 _ _ _ _ _ _ _ _ _ _
  rw [ye_typing_80]
  refine br_f (nI_nlt (by omega) (by omega)) (br_f h5 ?_)
  subst hp
  refine yl_end hnm s2 hS (by omega) (br_t ?_ K)
  rw [nI_1]
  exact congrArg nI (by omega)
theorem ty_F_bad {r : Int32} {e p : Nat} {pre S suf : List dk_T} {i : Nat} (hg : ga_ok g) (hi : dk_inv g A) (hT : A[b0]? = some T) (h : yf_R g A bs tk bl H u) (hr : dk_fl r) (eT : T = pre ++ S ++ suf) (hp : p = pre.length) (hS : dk_fo S 1) (hAi : A[i]? = some S) (K : ∀ u' H', yf_R g A bs tk (nI i) H' u' → post r u') : ty_F post (120 * b0) T.length e p r u := by
  obtain ⟨hnm, hs, hbl, hTl, hTf, _⟩ := yf_T hg hi hT h
  obtain ⟨_, r2, r3⟩ := dk_fl_neg hr
  have hlen : T.length = pre.length + (S.length + suf.length) := by rw [eT]; simp
  have hS1 := dk_fo_len hS
  obtain ⟨m, d, O, hR, hA⟩ := h
  show vp_in _ _ ∧ _
  rw [pk_sub (by omega), show 120 * b0 + p - 120 * b0 = p from by omega, nI_clamp (by omega)]
  refine ⟨vp_in_nI (by omega) (by omega), nm_e (br_t r3 (nm_e ?_))⟩
  refine yt_bad (H := (upd (yg_ty u) p r, H.2)) hg hi hT ⟨m, d, O, ⟨hR.1, hR.2.1, hR.2.2.1, ⟨rfl, hR.2.2.2.1.2⟩, hR.2.2.2.2⟩, hA⟩ hr eT hp hS hAi ?_
  intro u' h'
  exact K u' _ h'
theorem ty_F_ok {r : Nat} {e p : Nat} (hr : r < 2 ^ 31) (hp : p < 120) (hb : b0 < 256) (h : yf_R g A bs tk bl H u) (K : ∀ u', yf_R g A bs tk bl (upd H.1 p (nI r), H.2) u' → ty_C post (120 * b0) T.length e p (nI r) u') : ty_F post (120 * b0) T.length e p (nI r) u := by
  obtain ⟨m, d, O, hR, hA⟩ := h
  show vp_in _ _ ∧ _
  rw [pk_sub (by omega), show 120 * b0 + p - 120 * b0 = p from by omega, nI_clamp (by omega)]
  refine ⟨vp_in_nI (by omega) (by omega), nm_e (br_f (nI_pos hr) (K _ ⟨m, d, O, ⟨hR.1, hR.2.1, hR.2.2.1, ⟨?_, hR.2.2.2.1.2⟩, hR.2.2.2.2⟩, hA⟩))⟩
  show upd (yg_ty u) p (nI r) = upd H.1 p (nI r)
  rw [hR.2.2.2.1.1]
/-- the parent is found -/
theorem yt_parent {post : Int32 → Prop} {pre S suf : List dk_T} {t : dk_T} {x c r : List dk_T} {m : Nat} (hg : ga_ok g) (hi : dk_inv g A) (hT : A[b0]? = some T) (h : yf_R g A bs tk bl H u) (eT : T = pre ++ S ++ suf) (hS : dk_fo S 1) (eS : S = t :: (x ++ (c ++ r))) (hx : dk_fo x m) (hc : 0 < c.length) (K : post (nI (120 * b0 + pre.length))) : wpY_parent post u (nI (120 * b0)) (nI (120 * b0 + (pre.length + 1 + x.length))) := by
  obtain ⟨hnm, hs, hbl, hTl, hTf, _⟩ := yf_T hg hi hT h
  have hlen : T.length = pre.length + (S.length + suf.length) := by rw [eT]; simp
  have hSl : S.length = 1 + (x.length + (c.length + r.length)) := by rw [eS]; simp; omega
  have e1 : T = (pre ++ [t]) ++ x ++ (c ++ r ++ suf) := by rw [eT, eS]; simp
  have loop : ∀ (k n j : Nat), j = pre.length + k → k < n → j ≤ pre.length + x.length → yv_parent_4 post (nI (120 * b0)) (nI (120 * b0 + (pre.length + 1 + x.length))) n (nI (120 * b0 + j)) u := by
    intro k
    induction k with
    | zero =>
      intro n j hj hn hjx
      obtain ⟨n, rfl⟩ : ∃ c, n = c + 1 := ⟨n - 1, by omega⟩
      rw [ye_parent_4, show j = pre.length from by omega]
      refine br_c (fun _ => K) fun _ => ?_
      have hs' := hs
      rw [eT, List.append_assoc] at hs'
      have s2 := (py_s_app.mp (py_s_app.mp hs').2).1
      exact yl_end hnm s2 hS (by omega) (br_t (nI_lt (by omega) (by omega)) K)
    | succ k ih =>
      intro n j hj hn hjx
      obtain ⟨n, rfl⟩ : ∃ c, n = c + 1 := ⟨n - 1, by omega⟩
      obtain ⟨a, R, b, f1, f2, f3, f4⟩ := dk_end_in (q := j) e1 hx (by simp; omega) (by simp only [List.length_append, List.length_cons, List.length_nil]; omega)
      simp only [List.length_append, List.length_cons, List.length_nil] at f4
      have hs' := hs
      rw [f1, List.append_assoc] at hs'
      have s2 := (py_s_app.mp (py_s_app.mp hs').2).1
      rw [f2] at s2
      rw [ye_parent_4]
      refine br_f (nI_ge (by omega) (by omega)) (yl_end hnm s2 f3 (by omega) (br_f (nI_nlt (by omega) (by omega)) (nm_r (ni_m1 (by omega)) ?_)))
      rw [show 120 * b0 + j - 1 = 120 * b0 + (j - 1) from by omega]
      exact ih n (j - 1) (by omega) (by omega) (by omega)
  rw [ye_parent]
  refine nm_r (ni_s1 (by omega)) ⟨x.length + 1, ?_⟩
  rw [show 120 * b0 + (pre.length + 1 + x.length) - 1 = 120 * b0 + (pre.length + x.length) from by omega]
  exact loop x.length (x.length + 1) (pre.length + x.length) rfl (by omega) (by omega)
/-- a child has ended: afterChild of the parent -/
theorem yt_after {pre S suf : List dk_T} {t : dk_T} {x c r : List dk_T} {m e : Nat} {rr : Int32} (hg : ga_ok g) (hi : dk_inv g A) (hT : A[b0]? = some T) (h : yf_R g A bs tk bl H u) (eT : T = pre ++ S ++ suf) (hS : dk_fo S 1) (eS : S = t :: (x ++ (c ++ r))) (hx : dk_fo x m) (hc : 0 < c.length) (K : wpY_afterChild (ty_A post (120 * b0) T.length e (pre.length + 1 + x.length) pre.length) u (nI (120 * b0)) (nI (120 * b0 + pre.length)) (nI (120 * b0 + (pre.length + 1 + x.length)))) : ty_C post (120 * b0) T.length e (pre.length + 1 + x.length) rr u := by
  obtain ⟨hnm, hs, hbl, hTl, hTf, _⟩ := yf_T hg hi hT h
  have hlen : T.length = pre.length + (S.length + suf.length) := by rw [eT]; simp
  have hSl : S.length = 1 + (x.length + (c.length + r.length)) := by rw [eS]; simp; omega
  exact br_f (nI_ge (by omega) (by omega)) (yt_parent hg hi hT h eT hS eS hx hc K)
/-- afterChild fails -/
theorem ty_A_bad {rr : Int32} {e q i : Nat} {pre S suf : List dk_T} (hg : ga_ok g) (hi : dk_inv g A) (hT : A[b0]? = some T) (h : yf_R g A bs tk bl H u) (hr : dk_fl rr) (eT : T = pre ++ S ++ suf) (hS : dk_fo S 1) (hAi : A[i]? = some S) (K : ∀ u', yf_R g A bs tk (nI i) H u' → post rr u') : ty_A post (120 * b0) T.length e q pre.length rr u := nm_e (yt_bad hg hi hT h hr eT rfl hS hAi K)
/-- afterChild is content, and a child follows -/
theorem ty_A_next {rr : Int32} {pre S suf : List dk_T} {t : dk_T} {x c r : List dk_T} {m : Nat} (hg : ga_ok g) (hi : dk_inv g A) (hT : A[b0]? = some T) (h : yf_R g A bs tk bl H u) (h5 : ¬ rr < 0) (eT : T = pre ++ S ++ suf) (hS : dk_fo S 1) (eS : S = t :: (x ++ (c ++ r))) (hx : dk_fo x m) (hc : 0 < c.length) (hr : 0 < r.length) (K : yv_typing_14 post (nI (120 * b0)) (nI (120 * b0 + T.length)) (T.length - (pre.length + 1 + x.length + c.length) + 1) (nI (120 * b0 + (pre.length + 1 + x.length + c.length))) u) : ty_A post (120 * b0) T.length (pre.length + 1 + x.length + c.length) (pre.length + 1 + x.length) pre.length rr u := by
  obtain ⟨hnm, hs, hbl, hTl, hTf, _⟩ := yf_T hg hi hT h
  have hlen : T.length = pre.length + (S.length + suf.length) := by rw [eT]; simp
  have hSl : S.length = 1 + (x.length + (c.length + r.length)) := by rw [eS]; simp; omega
  have e1 : T = (pre ++ [t]) ++ x ++ (c ++ (r ++ suf)) := by rw [eT, eS]; simp
  refine nm_e (yt_next hg hi hT h h5 (by omega) (by omega) (by omega) ?_ K)
  intro q hq
  by_cases h1 : pre.length < q
  · have := dk_ne_in (q := q) e1 hx hc (by simp; omega) (by simp only [List.length_append, List.length_cons, List.length_nil]; omega)
    simp only [List.length_append, List.length_cons, List.length_nil] at this
    exact this
  · by_cases h2 : q = pre.length
    · subst h2
      exact dk_ne_self eT hS (by omega)
    · exact dk_ne_out eT hS (by omega) (by omega) (by omega)
/-- afterChild is content, and it was the last child -/
theorem ty_A_last {rr : Int32} {pre S suf : List dk_T} {t : dk_T} {x c : List dk_T} {m : Nat} (hg : ga_ok g) (hi : dk_inv g A) (hT : A[b0]? = some T) (h : yf_R g A bs tk bl H u) (h5 : ¬ rr < 0) (eT : T = pre ++ S ++ suf) (hS : dk_fo S 1) (eS : S = t :: (x ++ (c ++ []))) (hx : dk_fo x m) (hc : 0 < c.length) (K : wpY_finish (ty_F post (120 * b0) T.length (pre.length + S.length) pre.length) u (nI (120 * b0)) (nI (120 * b0 + pre.length))) : ty_A post (120 * b0) T.length (pre.length + S.length) (pre.length + 1 + x.length) pre.length rr u := by
  obtain ⟨hnm, hs, hbl, hTl, hTf, _⟩ := yf_T hg hi hT h
  have hlen : T.length = pre.length + (S.length + suf.length) := by rw [eT]; simp
  have hSl : S.length = 1 + (x.length + c.length) := by rw [eS]; simp; omega
  have e1 : T = (pre ++ [t]) ++ x ++ (c ++ suf) := by rw [eT, eS]; simp
  refine nm_e (yt_pass (lo := pre.length + 1) hg hi hT h h5 (by omega) (by omega) (k := x.length) (by omega) (by omega) ?_ ?_)
  · intro q h1 h2
    have := dk_ne_in (q := q) e1 hx hc (by simp; omega) (by simp only [List.length_append, List.length_cons, List.length_nil]; omega)
    simp only [List.length_append, List.length_cons, List.length_nil] at this
    rw [hSl, show pre.length + (1 + (x.length + c.length)) = pre.length + (0 + 1) + x.length + c.length from by omega]
    exact this
  · have := yt_fin (x5 := rr) (x6 := nI (120 * b0 + pre.length)) hg hi hT h h5 eT rfl hS rfl K
    rw [show nI (120 * b0 + (pre.length + 1)) + (-1) = nI (120 * b0 + pre.length) from by rw [show 120 * b0 + (pre.length + 1) = 120 * b0 + pre.length + 1 from by omega, pk_m1]]
    exact this
/-- a token is met -/
theorem yt_open {pre S suf : List dk_T} {t : dk_T} {l : List dk_T} {i n : Nat} (hg : ga_ok g) (hi : dk_inv g A) (hT : A[b0]? = some T) (h : yf_R g A bs tk bl H u) (htk : tk ≤ ga_FL g) (eT : T = pre ++ S ++ suf) (hS : dk_fo S 1) (eS : S = t :: l) (hAi : A[i]? = some S) (hn : n = T.length - pre.length + 1) (K1 : tk = ga_FL g → ∀ u', yf_R g A bs tk (nI i) H u' → post (-4) u') (K2 : tk < ga_FL g → t.1 = 11 → ∀ u', yf_R g A bs (tk + 1) (nI i) H u' → post (-6) u') (K3 : tk < ga_FL g → t.1 ≠ 11 → ∀ u', yf_R g A bs (tk + 1) bl H u' → ty_L post (120 * b0) T.length (pre.length + 1) (pre.length + 1 + 1) 1 (nI (120 * b0 + pre.length)) (nI (120 * b0 + pre.length)) u') : yv_typing_14 post (nI (120 * b0)) (nI (120 * b0 + T.length)) n (nI (120 * b0 + pre.length)) u := by
  have hFL : ga_FL g ≤ 200 := hg.2.2.2.2.2.1
  obtain ⟨hnm, hs, hbl, hTl, hTf, _⟩ := yf_T hg hi hT h
  have hlen : T.length = pre.length + (S.length + suf.length) := by rw [eT]; simp
  have hS1 := dk_fo_len hS
  have hs' := hs
  rw [eT, List.append_assoc] at hs'
  have s2 := (py_s_app.mp (py_s_app.mp hs').2).1
  rw [eS] at s2
  have hh := h
  obtain ⟨m, d, O, hR, hA⟩ := h
  have hb : yf_R g A bs (tk + 1) bl H (ys_ticks (nI (tk + 1)) u) := ⟨m, d, O, py_R_tk hR, hA⟩
  have eJ : yv_typing_14 post (nI (120 * b0)) (nI (120 * b0 + T.length)) (T.length - pre.length) = ty_J post (120 * b0) T.length (pre.length + 1) := by
    unfold ty_J
    rw [show T.length - (pre.length + 1) + 1 = T.length - pre.length from by omega]
  rw [hn, ye_typing_14, show yg_ticks u = nI tk from hR.2.2.1.2.1, hR.1.2.2.1, eJ]
  refine br_f (nI_ge (by omega) (by omega)) (br_c (fun h0 => ?_) fun h0 => yl_kind hnm s2.1.1 s2.1.2 (by omega) (br_c (fun h11 => ?_) fun h11 => ?_))
  · have htf : tk = ga_FL g := (nI_eq (by omega) (by omega)).mp h0
    rw [ye_typing_53]
    refine br_t rfl ⟨1, ?_⟩
    exact yt_bad (e := pre.length + 1) (k := 0) (p := pre.length) hg hi hT hh (Or.inr (Or.inl rfl)) eT rfl hS hAi (K1 htf)
  · have htf : tk < ga_FL g := by
      have : tk ≠ ga_FL g := fun z => h0 (by rw [z])
      omega
    rw [ye_typing_53, show yg_ticks u = nI tk from hR.2.2.1.2.1]
    refine br_f (by decide) (nm_r (nI_1 _) ⟨1, ?_⟩)
    exact yt_bad (e := pre.length + 1) (k := 0) (p := pre.length) hg hi hT hb (Or.inr (Or.inr (Or.inr (Or.inl rfl)))) eT rfl hS hAi (K2 htf h11)
  · have htf : tk < ga_FL g := by
      have : tk ≠ ga_FL g := fun z => h0 (by rw [z])
      omega
    rw [ye_typing_53, show yg_ticks u = nI tk from hR.2.2.1.2.1]
    exact br_f (by decide) (nm_r (nI_1 _) ⟨pre.length + 1 + 1, K3 htf h11 _ hb⟩)
end
end
section
/-! the context: binders around a place -/
def dk_bp : List dk_T → Option Nat
  | [] => none
  | t :: l => if t.1 = 11 then some 1 else if t.1 = 6 ∨ t.1 = 7 ∨ t.1 = 9 then some (1 + dk_sk l 1) else none
def dk_over (T : List dk_T) (x p : Nat) : Bool := match dk_bp (T.drop x) with
  | none => false
  | some s => decide (x + s ≤ p) && decide (p < x + s + dk_sk (T.drop (x + s)) 1)
def dk_enc' (T : List dk_T) (p : Nat) : Nat → List Nat
  | 0 => []
  | x + 1 => if dk_over T x p then x :: dk_enc' T p x else dk_enc' T p x
def dk_enc (T : List dk_T) (p : Nat) : List Nat := dk_enc' T p p
theorem dk_enc_lt {T : List dk_T} {p : Nat} : ∀ {x j y : Nat}, (dk_enc' T p x)[j]? = some y → y < x := by
  intro x
  induction x with
  | zero => intro j y h; simp [dk_enc'] at h
  | succ x ih =>
    intro j y h
    have e : dk_enc' T p (x + 1) = if dk_over T x p then x :: dk_enc' T p x else dk_enc' T p x := rfl
    rw [e] at h
    cases ho : dk_over T x p with
    | false => rw [ho, if_neg (by simp)] at h; have := ih h; omega
    | true =>
      rw [ho, if_pos rfl] at h
      cases j with
      | zero => simp at h; omega
      | succ j => have := ih (by simpa using h); omega
/-- what the binder at x covers -/
theorem dk_over_spec {T a l : List dk_T} {t : dk_T} {x p k : Nat} (e : T = a ++ t :: l) (hx : a.length = x) (hf : dk_fo (t :: l) k) : (t.1 = 11 → ∃ c r, l = c ++ r ∧ dk_fo c 1 ∧ dk_over T x p = (decide (x + 1 ≤ p) && decide (p < x + 1 + c.length))) ∧ ((t.1 = 6 ∨ t.1 = 7 ∨ t.1 = 9) → ∃ d c r, l = d ++ (c ++ r) ∧ dk_fo d 1 ∧ dk_fo c 1 ∧ dk_over T x p = (decide (x + 1 + d.length ≤ p) && decide (p < x + 1 + d.length + c.length))) ∧ (¬ (t.1 = 11 ∨ t.1 = 6 ∨ t.1 = 7 ∨ t.1 = 9) → dk_over T x p = false) := by
  have hd : T.drop x = t :: l := by rw [e, ← hx]; simp
  have k0 := hf.1
  refine ⟨?_, ?_, ?_⟩
  · intro hk
    have h2 := hf.2
    rw [hk, show dk_ar 11 = 1 from by decide, show k - 1 + 1 = 1 + (k - 1) from by omega] at h2
    obtain ⟨c, r, rfl, hc, _⟩ := dk_fo_split h2
    refine ⟨c, r, rfl, hc, ?_⟩
    have hb : dk_bp (T.drop x) = some 1 := by rw [hd]; show (if t.1 = 11 then _ else _) = _; rw [if_pos hk]
    have hd2 : T.drop (x + 1) = c ++ r := by rw [← List.drop_drop, hd]; rfl
    unfold dk_over
    rw [hb]
    dsimp only
    rw [hd2, dk_sk_fo hc]
  · intro hk
    have h2 : 2 ≤ dk_ar t.1 := by rcases hk with z | z | z <;> rw [z] <;> decide
    have h3 := hf.2
    rw [show k - 1 + dk_ar t.1 = 1 + (1 + (k - 1 + dk_ar t.1 - 2)) from by omega] at h3
    obtain ⟨d, r1, rfl, hd1, h4⟩ := dk_fo_split h3
    obtain ⟨c, r, rfl, hc, _⟩ := dk_fo_split h4
    refine ⟨d, c, r, rfl, hd1, hc, ?_⟩
    have n11 : ¬ t.1 = 11 := fun z => by rw [z] at hk; exact absurd hk (by decide)
    have hb : dk_bp (T.drop x) = some (1 + d.length) := by
      rw [hd]
      show (if t.1 = 11 then _ else if t.1 = 6 ∨ t.1 = 7 ∨ t.1 = 9 then some (1 + dk_sk (d ++ (c ++ r)) 1) else _) = _
      rw [if_neg n11, if_pos hk, dk_sk_fo hd1]
    have hd2 : T.drop (x + (1 + d.length)) = c ++ r := by
      rw [← List.drop_drop, hd, Nat.add_comm 1]
      show (d ++ (c ++ r)).drop d.length = _
      exact List.drop_left' rfl
    unfold dk_over
    rw [hb]
    dsimp only
    rw [hd2, dk_sk_fo hc, ← Nat.add_assoc]
  · intro hk
    have hb : dk_bp (T.drop x) = none := by
      rw [hd]
      show (if t.1 = 11 then _ else if t.1 = 6 ∨ t.1 = 7 ∨ t.1 = 9 then _ else _) = _
      rw [if_neg (fun z => hk (Or.inl z)), if_neg (fun z => hk (Or.inr z))]
    unfold dk_over
    rw [hb]
section
variable {T pre S suf : List dk_T} {t : dk_T} {x c r : List dk_T} {m : Nat}
theorem dk_tok_at {q : Nat} (hT : dk_fo T 1) (hq : q < T.length) : ∃ a l k, ∃ t : dk_T, T = a ++ t :: l ∧ a.length = q ∧ dk_fo (t :: l) k := by
  have e : T = T.take q ++ T.drop q := (List.take_append_drop q T).symm
  obtain ⟨t, l, el⟩ : ∃ t l, T.drop q = t :: l := ⟨_, _, List.drop_eq_getElem_cons hq⟩
  rw [el] at e
  have hT' := hT
  rw [e] at hT'
  obtain ⟨k, _, hf⟩ := dk_fo_suf hT' (by simp)
  exact ⟨T.take q, l, k, t, e, by simp; omega, hf⟩
/-- binders ahead of S cover all of S or nothing -/
theorem dk_over_out {y q : Nat} (hT : dk_fo T 1) (eT : T = pre ++ S ++ suf) (hS : dk_fo S 1) (hy : y < pre.length) (h1 : pre.length ≤ q) (h2 : q < pre.length + S.length) : dk_over T y q = dk_over T y pre.length := by
  have hlen : T.length = pre.length + (S.length + suf.length) := by rw [eT]; simp
  obtain ⟨a, l, k, t', e1, e2, hf⟩ := dk_tok_at hT (q := y) (by omega)
  -- a term that begins ahead of S
  have key : ∀ (z R w : List dk_T), T = z ++ R ++ w → dk_fo R 1 → z.length ≤ pre.length → z.length + R.length ≤ pre.length ∨ pre.length + S.length ≤ z.length + R.length := by
    intro z R w e3 fR hz
    have ez : pre = z ++ pre.drop z.length := by
      have : (z ++ (R ++ w)).take z.length = (pre ++ (S ++ suf)).take z.length := by rw [← List.append_assoc, ← e3, eT, List.append_assoc]
      rw [List.take_left' rfl, List.take_append_of_le_length hz] at this
      conv => lhs; rw [← List.take_append_drop z.length pre, ← this]
    have e4 : pre.drop z.length ++ (S ++ suf) = R ++ w := by
      have : z ++ (pre.drop z.length ++ (S ++ suf)) = z ++ (R ++ w) := by
        rw [← List.append_assoc, ← ez, ← List.append_assoc, ← List.append_assoc, ← eT, ← e3]
      exact List.append_cancel_left this
    have hl : (pre.drop z.length).length = pre.length - z.length := by simp
    rcases dk_ov hS fR e4 with h | h <;> omega
  obtain ⟨s1, s2, s3⟩ := dk_over_spec (p := q) e1 e2 hf
  obtain ⟨s1', s2', s3'⟩ := dk_over_spec (p := pre.length) e1 e2 hf
  by_cases hk11 : t'.1 = 11
  · obtain ⟨c1, r1, el, fc, eo⟩ := s1 hk11
    obtain ⟨c2, r2, el', fc', eo'⟩ := s1' hk11
    have ec : c1 = c2 := (dk_fo_pre fc fc' (by rw [← el, ← el'])).1
    subst ec
    have k1 := key (a ++ [t']) c1 r1 (by rw [e1, el]; simp) fc (by simp; omega)
    simp only [List.length_append, List.length_cons, List.length_nil] at k1
    rw [eo, eo']
    have a1 : decide (y + 1 ≤ q) = decide (y + 1 ≤ pre.length) := by simp; omega
    have a2 : decide (q < y + 1 + c1.length) = decide (pre.length < y + 1 + c1.length) := by
      apply decide_eq_decide.mpr
      omega
    rw [a1, a2]
  · by_cases hk : t'.1 = 6 ∨ t'.1 = 7 ∨ t'.1 = 9
    · obtain ⟨d1, c1, r1, el, fd, fc, eo⟩ := s2 hk
      obtain ⟨d2, c2, r2, el', fd', fc', eo'⟩ := s2' hk
      obtain ⟨ed, er⟩ := dk_fo_pre fd fd' (by rw [← el, ← el'])
      subst ed
      obtain ⟨ec, _⟩ := dk_fo_pre fc fc' er
      subst ec
      have k1 := key (a ++ [t']) d1 (c1 ++ r1) (by rw [e1, el]; simp) fd (by simp; omega)
      simp only [List.length_append, List.length_cons, List.length_nil] at k1
      rw [eo, eo']
      rcases k1 with k1 | k1
      · have k2 := key (a ++ [t'] ++ d1) c1 r1 (by rw [e1, el]; simp) fc (by simp; omega)
        simp only [List.length_append, List.length_cons, List.length_nil] at k2
        have a1 : decide (y + 1 + d1.length ≤ q) = decide (y + 1 + d1.length ≤ pre.length) := by
          apply decide_eq_decide.mpr; omega
        have a2 : decide (q < y + 1 + d1.length + c1.length) = decide (pre.length < y + 1 + d1.length + c1.length) := by
          apply decide_eq_decide.mpr; omega
        rw [a1, a2]
      · rw [decide_eq_false (p := y + 1 + d1.length ≤ q) (by omega), decide_eq_false (p := y + 1 + d1.length ≤ pre.length) (by omega)]
        rfl
    · rw [s3 (fun z => z.elim hk11 hk), s3' (fun z => z.elim hk11 hk)]
theorem dk_enc_out {q : Nat} (hT : dk_fo T 1) (eT : T = pre ++ S ++ suf) (hS : dk_fo S 1) (h1 : pre.length ≤ q) (h2 : q < pre.length + S.length) : ∀ {y : Nat}, y ≤ pre.length → dk_enc' T q y = dk_enc' T pre.length y := by
  intro y
  induction y with
  | zero => intro _; rfl
  | succ y ih =>
    intro hy
    show (if dk_over T y q then y :: dk_enc' T q y else dk_enc' T q y) = (if dk_over T y pre.length then y :: dk_enc' T pre.length y else dk_enc' T pre.length y)
    rw [dk_over_out hT eT hS (by omega) h1 h2, ih (by omega)]
/-- the binders around a child -/
theorem dk_enc_child (hT : dk_fo T 1) (eT : T = pre ++ S ++ suf) (hS : dk_fo S 1) (eS : S = t :: (x ++ (c ++ r))) (hx : dk_fo x m) (hc : 0 < c.length) : dk_enc T (pre.length + 1 + x.length) = (if dk_over T pre.length (pre.length + 1 + x.length) then [pre.length] else []) ++ dk_enc T pre.length := by
  have hlen : T.length = pre.length + (S.length + suf.length) := by rw [eT]; simp
  have hSl : S.length = 1 + (x.length + (c.length + r.length)) := by rw [eS]; simp; omega
  have e1 : T = (pre ++ [t]) ++ x ++ (c ++ r ++ suf) := by rw [eT, eS]; simp
  have skip : ∀ k, k ≤ x.length → dk_enc' T (pre.length + 1 + x.length) (pre.length + 1 + k) = dk_enc' T (pre.length + 1 + x.length) (pre.length + 1) := by
    intro k
    induction k with
    | zero => intro _; rfl
    | succ k ih =>
      intro hk
      have e : dk_enc' T (pre.length + 1 + x.length) (pre.length + 1 + (k + 1)) = if dk_over T (pre.length + 1 + k) (pre.length + 1 + x.length) then (pre.length + 1 + k) :: dk_enc' T (pre.length + 1 + x.length) (pre.length + 1 + k) else dk_enc' T (pre.length + 1 + x.length) (pre.length + 1 + k) := rfl
      have ho : dk_over T (pre.length + 1 + k) (pre.length + 1 + x.length) = false := by
        obtain ⟨a, R, b, f1, f2, f3, f4⟩ := dk_end_in (q := pre.length + 1 + k) e1 hx (by simp) (by simp only [List.length_append, List.length_cons, List.length_nil]; omega)
        simp only [List.length_append, List.length_cons, List.length_nil] at f4
        obtain ⟨t', l', rfl, fl⟩ := dk_fo_pos (n := 0) f3
        have e3 : T = a ++ t' :: (l' ++ b) := by rw [f1]; simp
        have hT' := hT
        rw [e3] at hT'
        obtain ⟨k2, _, hf2⟩ := dk_fo_suf hT' (by simp)
        obtain ⟨s1, s2, s3⟩ := dk_over_spec (p := pre.length + 1 + x.length) e3 f2 hf2
        simp only [List.length_cons] at f4
        rw [Nat.zero_add] at fl
        by_cases hk11 : t'.1 = 11
        · obtain ⟨c1, r1, el, fc, eo⟩ := s1 hk11
          rw [hk11, show dk_ar 11 = 1 from by decide] at fl
          obtain ⟨ec, _⟩ := dk_fo_pre fl fc el
          rw [eo, decide_eq_false (p := pre.length + 1 + x.length < pre.length + 1 + k + 1 + c1.length) (by rw [← ec]; omega), Bool.and_false]
        · by_cases hkk : t'.1 = 6 ∨ t'.1 = 7 ∨ t'.1 = 9
          · obtain ⟨d1, c1, r1, el, fd, fc, eo⟩ := s2 hkk
            have h2 : 2 ≤ dk_ar t'.1 := by rcases hkk with z | z | z <;> rw [z] <;> decide
            rw [show dk_ar t'.1 = 1 + (1 + (dk_ar t'.1 - 2)) from by omega] at fl
            obtain ⟨d2, r2, rfl, fd2, f5⟩ := dk_fo_split fl
            obtain ⟨c2, r3, rfl, fc2, _⟩ := dk_fo_split f5
            have el' : d2 ++ (c2 ++ r3 ++ b) = d1 ++ (c1 ++ r1) := by rw [← el]; simp
            obtain ⟨ed, er⟩ := dk_fo_pre fd2 fd el'
            have er' : c2 ++ (r3 ++ b) = c1 ++ r1 := by rw [← er]; simp
            obtain ⟨ec, _⟩ := dk_fo_pre fc2 fc er'
            simp only [List.length_append] at f4
            rw [eo, decide_eq_false (p := pre.length + 1 + x.length < pre.length + 1 + k + 1 + d1.length + c1.length) (by rw [← ed, ← ec]; omega), Bool.and_false]
          · exact s3 (fun z => z.elim hk11 hkk)
      rw [e, ho, if_neg (by simp)]
      exact ih (by omega)
  unfold dk_enc
  rw [skip x.length (Nat.le_refl _)]
  have e : dk_enc' T (pre.length + 1 + x.length) (pre.length + 1) = if dk_over T pre.length (pre.length + 1 + x.length) then pre.length :: dk_enc' T (pre.length + 1 + x.length) pre.length else dk_enc' T (pre.length + 1 + x.length) pre.length := rfl
  rw [e, dk_enc_out hT eT hS (by omega) (by omega) (Nat.le_refl _)]
  cases dk_over T pre.length (pre.length + 1 + x.length) <;> rfl
end
/-- aux at the binders around p is the context -/
def cx_Y (T : List dk_T) (p : Nat) (aux : Nat → Int32) (ctx : List Nat) : Prop := (dk_enc T p).length = ctx.length ∧ ∀ (j y c : Nat), (dk_enc T p)[j]? = some y → ctx[j]? = some c → aux y = nI c
theorem cx_Y_congr {T : List dk_T} {p : Nat} {aux aux' : Nat → Int32} {ctx : List Nat} (h : cx_Y T p aux ctx) (e : ∀ j, j < p → aux' j = aux j) : cx_Y T p aux' ctx := by
  refine ⟨h.1, ?_⟩
  intro j y c h1 h2
  rw [e y (dk_enc_lt h1)]
  exact h.2 j y c h1 h2
theorem cx_Y_same {T pre S suf : List dk_T} {t : dk_T} {x c r : List dk_T} {m : Nat} {aux : Nat → Int32} {ctx : List Nat} (hT : dk_fo T 1) (eT : T = pre ++ S ++ suf) (hS : dk_fo S 1) (eS : S = t :: (x ++ (c ++ r))) (hx : dk_fo x m) (hc : 0 < c.length) (ho : dk_over T pre.length (pre.length + 1 + x.length) = false) (h : cx_Y T pre.length aux ctx) : cx_Y T (pre.length + 1 + x.length) aux ctx := by
  have e := dk_enc_child hT eT hS eS hx hc
  rw [ho, if_neg (by simp), List.nil_append] at e
  unfold cx_Y
  rw [e]
  exact h
theorem cx_Y_push {T pre S suf : List dk_T} {t : dk_T} {x c r : List dk_T} {m d : Nat} {aux : Nat → Int32} {ctx : List Nat} (hT : dk_fo T 1) (eT : T = pre ++ S ++ suf) (hS : dk_fo S 1) (eS : S = t :: (x ++ (c ++ r))) (hx : dk_fo x m) (hc : 0 < c.length) (ho : dk_over T pre.length (pre.length + 1 + x.length) = true) (hd : aux pre.length = nI d) (h : cx_Y T pre.length aux ctx) : cx_Y T (pre.length + 1 + x.length) aux (d :: ctx) := by
  have e := dk_enc_child hT eT hS eS hx hc
  rw [ho, if_pos rfl] at e
  unfold cx_Y
  rw [e]
  refine ⟨by simp [h.1], ?_⟩
  intro j y c' h1 h2
  cases j with
  | zero =>
    simp at h1 h2
    rw [← h1, ← h2]; exact hd
  | succ j => exact h.2 j y c' (by simpa using h1) (by simpa using h2)
end
section
/-! a variable's type, in step -/
theorem yf_call {g : dk_G} {A A' : List (List dk_T)} {bs tk tk' : Nat} {bl r : Int32} {H : dk_H} {u : SY} {W : (Int32 → SY → Prop) → SY → Prop} (hY : lk_Y g A A' tk tk' r W) {post : Int32 → SY → Prop} (h : yf_R g A bs tk bl H u) (K : ∀ u', yf_R g A' bs tk' bl H u' → post r u') : W post u := by
  obtain ⟨m, d, O, hR, hA⟩ := h
  exact hY post u bs bl H m d O hR hA fun u' m' d' O' h1 h2 => K u' ⟨m', d', O', h1, h2⟩
/-- what a call leaves: a longer arena, ticks, an answer -/
def lk_r (A' : List (List dk_T)) (r : Int32) : Prop := dk_fl r ∨ ∃ i : Nat, r = nI i ∧ i < A'.length
def lk_x (g : dk_G) (A A' : List (List dk_T)) (tk' : Nat) : Prop := (∃ B, A' = A ++ B) ∧ dk_inv g A' ∧ tk' ≤ ga_FL g
theorem lk_no_x {g : dk_G} {A A' : List (List dk_T)} {tk' : Nat} {r : Int32} (h : lk_no g A A' tk' r) : lk_x g A A' tk' := ⟨h.1, h.2.1, h.2.2.1⟩
theorem lk_no_r {g : dk_G} {A A' : List (List dk_T)} {tk' : Nat} {r : Int32} (h : lk_no g A A' tk' r) : lk_r A' r := by
  rcases h.2.2.2 with z | z | z
  · exact Or.inl (Or.inl z)
  · exact Or.inl (Or.inr (Or.inl z))
  · exact Or.inr z
section
variable {g : dk_G} {A : List (List dk_T)} {T : List dk_T} {b0 : Nat}
theorem yl_lookup_8 {post : Int32 → SY → Prop} {bs tk : Nat} {bl : Int32} {H : dk_H} {u : SY} {q : Nat} {v : Int32} (hg : ga_ok g) (hi : dk_inv g A) (hT : A[b0]? = some T) (h : yf_R g A bs tk bl H u) (hq : q ≤ T.length) : ∀ {x s : Nat}, x ≤ q → s + x ≤ 200 → (∀ (j y : Nat), (dk_enc' T q x)[j]? = some y → v = nI (s + j) → wpY_shift (fun u_32 => (wpY_enter (fun r_51 u_52 => (post r_51 u_52)) u_32)) (ys_outLen 0 u) ((H.2 y) * 120) (v + 1) 0) → ((∀ j, j < (dk_enc' T q x).length → v ≠ nI (s + j)) → post (-5) u) → yv_lookup_8 post (nI (120 * b0)) (nI (120 * b0 + q)) v (x + 1) (nI s) (nI (120 * b0 + x) + (-1)) u := by
  obtain ⟨hnm, hs, hbl, hTl, hTf, _⟩ := yf_T hg hi hT h
  have hau : yg_aux u = H.2 := by
    obtain ⟨m, d, O, hR, hA⟩ := h
    exact hR.2.2.2.1.2
  intro x
  induction x with
  | zero =>
    intro s hx hs' K1 K2
    rw [ye_lookup_8]
    exact br_t (ni_lt1 _ (by omega)) (K2 (fun j hj => absurd hj (by simp [dk_enc'])))
  | succ x ih =>
    intro s hx hs' K1 K2
    obtain ⟨a, l, k, t, e1, e2, hf⟩ := dk_tok_at hTf (q := x) (by omega)
    have hlT : T.length = x + (l.length + 1) := by rw [e1]; simp; omega
    have hst := hs
    rw [e1] at hst
    have s2 := (py_s_app.mp hst).2
    rw [e2] at s2
    have henc : dk_enc' T q (x + 1) = if dk_over T x q then x :: dk_enc' T q x else dk_enc' T q x := rfl
    rw [ye_lookup_8, show nI (120 * b0 + (x + 1)) + (-1) = nI (120 * b0 + x) from by rw [show 120 * b0 + (x + 1) = 120 * b0 + x + 1 from by omega, pk_m1]]
    refine br_f (nI_nlt (by omega) (by omega)) ?_
    -- not over
    have no : dk_over T x q = false → yv_lookup_47 post (fun x4' x5' => yv_lookup_8 post (nI (120 * b0)) (nI (120 * b0 + q)) v (x + 1) x4' x5' u) (nI (120 * b0)) (nI (120 * b0 + q)) v (nI s) (nI (120 * b0 + x)) u := by
      intro ho
      rw [ho, if_neg (by simp)] at henc
      rw [ye_lookup_47, ye_lookup_48]
      refine br_t rfl ?_
      rw [ye_lookup_91]
      refine br_t rfl (nm_e ?_)
      refine ih (by omega) (by omega) ?_ ?_
      · rw [henc] at K1; exact K1
      · rw [henc] at K2; exact K2
    have yes : dk_over T x q = true → yv_lookup_48 post (fun x4' x5' => yv_lookup_8 post (nI (120 * b0)) (nI (120 * b0 + q)) v (x + 1) x4' x5' u) (nI (120 * b0)) (nI (120 * b0 + q)) v (nI s) (nI (120 * b0 + x)) 1 u := by
      intro ho
      rw [ho, if_pos rfl] at henc
      rw [henc] at K1 K2
      rw [ye_lookup_48]
      refine br_f (by decide) ?_
      rw [pk_sub (by omega), show 120 * b0 + x - 120 * b0 = x from by omega, nI_clamp (by omega), hau]
      refine br_c (fun hv => ⟨vp_in_nI (by omega) (by omega), K1 0 x rfl hv.symm⟩) fun hv => ?_
      rw [ye_lookup_91]
      refine br_f (by decide) (nm_r (nI_1 _) (nm_e ?_))
      refine ih (by omega) (by omega) ?_ ?_
      · intro j y hj hvj
        exact K1 (j + 1) y (by simpa using hj) (by rw [hvj]; exact congrArg nI (by omega))
      · intro hall
        refine K2 ?_
        intro j hj
        cases j with
        | zero => exact fun z => hv z.symm
        | succ j =>
          have := hall j (by simpa using hj)
          rw [show s + (j + 1) = s + 1 + j from by omega]
          exact this
    obtain ⟨o1, o2, o3⟩ := dk_over_spec (p := q) e1 e2 hf
    refine yl_bound hnm s2 hf (by omega) ?_ ?_ ?_
    · intro hk
      obtain ⟨c, r, el, fc, eo⟩ := o1 hk
      have sc := s2.2
      rw [el] at sc
      have hll : l.length = c.length + r.length := by rw [el]; simp
      refine br_f (nI_pos (by omega)) (br_f (nI_nlt (by omega) (by omega)) (yl_end hnm (py_s_app.mp sc).1 fc (by omega) (br_c (fun h2 => no ?_) fun h2 => yes ?_)))
      · rw [nI_leI (by omega) (by omega)] at h2
        rw [eo, decide_eq_false (p := q < x + 1 + c.length) (by omega), Bool.and_false]
      · rw [nI_leI (by omega) (by omega)] at h2
        rw [eo, decide_eq_true (p := x + 1 ≤ q) (by omega), decide_eq_true (p := q < x + 1 + c.length) (by omega)]
        rfl
    · intro hk d r' el' fd'
      obtain ⟨d1, c, r, el, fd, fc, eo⟩ := o2 hk
      obtain ⟨ed, er⟩ := dk_fo_pre fd' fd (by rw [← el', ← el])
      subst ed
      have sc := s2.2
      rw [el] at sc
      have sc2 := (py_s_app.mp sc).2
      have hll : l.length = d.length + (c.length + r.length) := by rw [el]; simp
      refine br_f (nI_pos (by omega)) (br_c (fun h1 => no ?_) fun h1 => ?_)
      · rw [nI_ltI (by omega) (by omega)] at h1
        rw [eo, decide_eq_false (p := x + 1 + d.length ≤ q) (by omega), Bool.false_and]
      · rw [nI_ltI (by omega) (by omega)] at h1
        refine yl_end hnm (py_s_app.mp sc2).1 fc (by omega) (br_c (fun h2 => no ?_) fun h2 => yes ?_)
        · rw [nI_leI (by omega) (by omega)] at h2
          rw [eo, decide_eq_false (p := q < x + 1 + d.length + c.length) (by omega), Bool.and_false]
        · rw [nI_leI (by omega) (by omega)] at h2
          rw [eo, decide_eq_true (p := x + 1 + d.length ≤ q) (by omega), decide_eq_true (p := q < x + 1 + d.length + c.length) (by omega)]
          rfl
    · intro hk
      exact br_t (by decide) (no (o3 hk))
theorem lk_lookup (hg : ga_ok g) (hi : dk_inv g A) (hT : A[b0]? = some T) {tk p : Nat} {ctx : List Nat} (htk : tk ≤ ga_FL g) (hp : p ≤ T.length) (hcl : ctx.length ≤ 150) (hctx : ∀ c ∈ ctx, c < A.length) (v : Int32) : ∃ (r : Int32) (A' : List (List dk_T)), lk_x g A A' tk ∧ lk_r A' r ∧ (∀ (post : Int32 → SX → Prop) (u : SX) (bs : Nat) (bl : Int32) (f i s : Nat) (kp ans : Int32) (B : dk_B), xf_R g A bs tk bl f i s kp ans ctx B u → (∀ u', xf_R g A' bs tk bl f i s kp ans ctx B u' → post r u') → wpX_typeOfVariable post u v) ∧ (∀ (post : Int32 → SY → Prop) (u : SY) (bs : Nat) (bl : Int32) (H : dk_H), yf_R g A bs tk bl H u → cx_Y T p H.2 ctx → (∀ u', yf_R g A' bs tk bl H u' → post r u') → wpY_lookup post u (nI (120 * b0)) (nI (120 * b0 + p)) v) := by
  have hTl : T.length ≤ 120 := (dk_bd_pos (dk_inv_bd hg hi) hT).2.2.1
  have hb0 : b0 < 256 := (dk_bd_pos (dk_inv_bd hg hi) hT).1
  have hAl : A.length ≤ 256 := (dk_inv_bd hg hi).1
  -- Y's search from its start
  have yin : ∀ (post : Int32 → SY → Prop) (u : SY) (bs : Nat) (bl : Int32) (H : dk_H), yf_R g A bs tk bl H u → (∀ (j y : Nat), (dk_enc T p)[j]? = some y → v = nI (0 + j) → wpY_shift (fun u_32 => (wpY_enter (fun r_51 u_52 => (post r_51 u_52)) u_32)) (ys_outLen 0 u) ((H.2 y) * 120) (v + 1) 0) → ((∀ j, j < (dk_enc T p).length → v ≠ nI (0 + j)) → post (-5) u) → wpY_lookup post u (nI (120 * b0)) (nI (120 * b0 + p)) v := by
    intro post u bs bl H h K1 K2
    rw [ye_lookup]
    refine nm_r (e' := nI (120 * b0 + p) + (-1)) (Int32.sub_eq_add_neg _ _) ⟨p + 1, ?_⟩
    exact yl_lookup_8 (s := 0) hg hi hT h hp (Nat.le_refl _) (by omega) K1 K2
  by_cases hv : ∃ j, j < ctx.length ∧ v = nI j
  · obtain ⟨j, hj, rfl⟩ := hv
    have hc := List.getElem?_eq_getElem hj
    have hcA : ctx[j] < A.length := hctx _ (List.getElem_mem hj)
    obtain ⟨r, A', hno, hX, hY⟩ := lk_var hg htk hi (nI j + 1) (List.getElem?_eq_getElem hcA)
    refine ⟨r, A', lk_no_x hno, lk_no_r hno, ?_, ?_⟩
    · intro post u bs bl f i s kp ans B h K
      have h' := h
      obtain ⟨_, _, _, _, _, _, ⟨h6, h6'⟩, _⟩ := h'
      rw [xe_typeOfVariable, h6]
      have e : (nI ctx.length - 1) - nI j = nI (ctx.length - 1 - j) := by
        rw [ni_s1 (by omega), pk_sub (by omega)]
      rw [e, nI_clamp (by omega), h6' j _ hc]
      refine br_f (nI_pos (by omega)) (br_t (nI_lt hj (by omega)) ⟨vp_in_nI (by omega) (by omega), ?_⟩)
      exact xf_call hX h K
    · intro post u bs bl H h hcx K
      refine yin post u bs bl H h ?_ ?_
      · intro j' y hy hvj
        have ej : j' = j := by
          have h1 := (List.getElem?_eq_some_iff.mp hy).1
          rw [hcx.1] at h1
          rw [Nat.zero_add] at hvj
          exact ((nI_eq (by omega) (by omega)).mp hvj).symm
        subst ej
        rw [hcx.2 j' y _ hy hc, show (120 : Int32) = nI 120 from rfl, pk_mul, Nat.mul_comm]
        exact yf_call hY h K
      · intro hall
        exact absurd rfl (by have := hall j (by rw [hcx.1]; exact hj); rw [Nat.zero_add] at this; exact this)
  · refine ⟨-5, A, ⟨⟨[], by simp⟩, hi, htk⟩, Or.inl (Or.inr (Or.inr (Or.inl rfl))), ?_, ?_⟩
    · intro post u bs bl f i s kp ans B h K
      have h' := h
      obtain ⟨_, _, _, _, _, _, ⟨h6, h6'⟩, _⟩ := h'
      rw [xe_typeOfVariable, h6]
      refine br_c (fun _ => K u h) fun h0 => br_c (fun h1 => ?_) fun _ => K u h
      exfalso
      obtain ⟨j, hj, rfl⟩ := nI_of h0
      rw [nI_ltI hj (by omega)] at h1
      exact hv ⟨j, h1, rfl⟩
    · intro post u bs bl H h hcx K
      refine yin post u bs bl H h ?_ ?_
      · intro j y hy hvj
        exfalso
        have h1 := (List.getElem?_eq_some_iff.mp hy).1
        rw [hcx.1] at h1
        exact hv ⟨j, h1, by rw [hvj, Nat.zero_add]⟩
      · intro _
        exact K u h
end
end
section
/-! single steps of INFER: X's stepVisit by kind, Y's afterChild and finish by kind -/
section
variable {g : dk_G} {A : List (List dk_T)} {bs tk : Nat} {bl : Int32} {f i s : Nat} {kp ans : Int32} {ctx : List Nat} {B : dk_B} {u : SX} {post : Int32 → SX → Prop} {t : dk_T} {cs : List (List dk_T)}
/-- node i, read -/
theorem xl_node (hi : dk_inv g A) (h : xf_R g A bs tk bl f i s kp ans ctx B u) (hA : A[i]? = some (t :: cs.flatten)) (hcs : ∀ c ∈ cs, dk_fo c 1) (hl : cs.length = dk_ar t.1) : xg_kind u i = t.1 ∧ (dk_ar t.1 = 0 → xg_part u (4 * i) = t.2) ∧ (∀ (j : Nat) (c : List dk_T), cs[j]? = some c → ∃ ic : Nat, A[ic]? = some c ∧ xg_part u (4 * i + j) = nI ic) := by
  obtain ⟨⟨F, T, cap, O, hR⟩, _⟩ := h
  obtain ⟨⟨ds, d1, d2, d3, _⟩, _⟩ := hR.2.1.2 i _ hA
  injection d1 with e1 e2
  have ek : xg_kind u i = t.1 := (congrArg Prod.fst e1).symm
  have ev := congrArg Prod.snd e1
  dsimp only at ev
  rw [ek] at ev d2
  have fd : ∀ c ∈ ds, dk_fo c 1 := fun c hc => by
    obtain ⟨j, hj⟩ := List.getElem?_of_mem hc
    exact (d3 j c hj).1
  have ec : cs = ds := dk_kids_inj (r := []) (s := []) hcs fd (by omega) (by rw [e2])
  subst ec
  refine ⟨ek, fun h0 => ?_, fun j c hj => (d3 j c hj).2⟩
  rw [if_pos h0] at ev
  exact ev.symm
theorem x58_pre (hb : i < 256) (hk : xg_kind u i = t.1) (hkk : dk_kk t.1) (K1 : t.1 = 1 → (vp_in (nI (4 * i)) 1024 ∧ ((xg_part u (4 * i) = 0 → post 1 u) ∧ (¬ xg_part u (4 * i) = 0 → post (-6) u)))) (K2 : t.1 = 2 → post 0 u) (K3 : t.1 = 3 → post 2 u) (K4 : t.1 = 4 → wpX_stepSuc (fun r u' => post r u') u (nI i) (nI s)) (K5 : t.1 = 5 → vp_in (nI (4 * i)) 1024 ∧ wpX_typeOfVariable (fun r u' => post r u') u (xg_part u (4 * i))) (K6 : t.1 = 6 ∨ t.1 = 7 → wpX_stepBinder (fun r u' => post r u') u (nI f) (nI i) (nI s)) (K8 : t.1 = 8 → wpX_stepApp (fun r u' => post r u') u (nI f) (nI i) (nI s)) (K9 : t.1 = 9 → wpX_stepRec (fun r u' => post r u') u (nI f) (nI i) (nI s)) (K10 : t.1 = 10 → vp_in (nI (4 * i)) 1024 ∧ wpX_typeOfEntry (fun r => post r u) u (xg_part u (4 * i))) (K11 : t.1 = 11 → post (-6) u) : xv_stepVisit_58 post (nI f) (nI i) (nI s) u := by
  rw [xe_stepVisit_58, nI_clamp (by omega), show (4 : Int32) * nI i = nI (4 * i) from pk_mul 4 i, nI_clamp (by omega)]
  refine ⟨vp_in_nI hb (by omega), nm_r hk ?_⟩
  rcases hkk with z | z | z | z | z | z | z | z | z | z | z
  · have K := K1 z
    rw [z]
    exact br_f (by decide) (br_f (by decide) (br_t rfl K))
  · have K := K2 z
    rw [z]
    exact br_f (by decide) (br_f (by decide) (br_f (by decide) (br_t rfl K)))
  · have K := K3 z
    rw [z]
    exact br_f (by decide) (br_f (by decide) (br_f (by decide) (br_f (by decide) (br_t rfl K))))
  · have K := K4 z
    rw [z]
    exact br_f (by decide) (br_f (by decide) (br_f (by decide) (br_f (by decide) (br_f (by decide) (br_t rfl K)))))
  · have K := K5 z
    rw [z]
    exact br_f (by decide) (br_f (by decide) (br_f (by decide) (br_f (by decide) (br_f (by decide) (br_f (by decide) (br_t rfl K))))))
  · have K := K6 (Or.inl z)
    rw [z]
    refine br_f (by decide) (br_f (by decide) (br_f (by decide) (br_f (by decide) (br_f (by decide) (br_f (by decide) (br_f (by decide) (br_t rfl ?_)))))))
    rw [xe_stepVisit_175]; exact K
  · have K := K6 (Or.inr z)
    rw [z]
    refine br_f (by decide) (br_f (by decide) (br_f (by decide) (br_f (by decide) (br_f (by decide) (br_f (by decide) (br_f (by decide) (br_f (by decide) (br_t rfl ?_))))))))
    rw [xe_stepVisit_175]; exact K
  · have K := K8 z
    rw [z]
    exact br_f (by decide) (br_f (by decide) (br_f (by decide) (br_f (by decide) (br_f (by decide) (br_f (by decide) (br_f (by decide) (br_f (by decide) (br_f (by decide) (br_t rfl K)))))))))
  · have K := K9 z
    rw [z]
    exact br_f (by decide) (br_f (by decide) (br_f (by decide) (br_f (by decide) (br_f (by decide) (br_f (by decide) (br_f (by decide) (br_f (by decide) (br_f (by decide) (br_f (by decide) (br_t rfl K))))))))))
  · have K := K10 z
    rw [z]
    exact br_f (by decide) (br_f (by decide) (br_f (by decide) (br_f (by decide) (br_f (by decide) (br_f (by decide) (br_f (by decide) (br_f (by decide) (br_f (by decide) (br_f (by decide) (br_f (by decide) (br_t rfl K)))))))))))
  · have K := K11 z
    rw [z]
    exact br_f (by decide) (br_t (by decide) K)
theorem xl_isUniverse {post : Int32 → Prop} {n : Nat} (hn : n < 2 ^ 31) (h1 : n ≤ 1 → post 1) (h2 : 1 < n → post 0) : wpX_isUniverse post u (nI n) := by
  rw [xe_isUniverse]
  refine br_c (fun z => h1 ?_) fun z => br_c (fun z2 => h1 ?_) fun z2 => h2 ?_
  · have := (nI_eq (b := 0) hn (by decide)).mp z; omega
  · have := (nI_eq (b := 1) hn (by decide)).mp z2; omega
  · have a : n ≠ 0 := fun w => z (by rw [w]; rfl)
    have b : n ≠ 1 := fun w => z2 (by rw [w]; rfl)
    omega
end
/-! Y -/
section
variable {g : dk_G} {A : List (List dk_T)} {bs tk : Nat} {bl : Int32} {H : dk_H} {u : SY} {post : Int32 → SY → Prop} {T : List dk_T} {b0 : Nat} {pre S suf : List dk_T} {t : dk_T}
/-- the token at p and what is behind it, in memory -/
theorem yf_S (hg : ga_ok g) (hi : dk_inv g A) (hT : A[b0]? = some T) (h : yf_R g A bs tk bl H u) (eT : T = pre ++ S ++ suf) : py_s (yg_mem u) (120 * b0 + pre.length) S ∧ 120 * b0 + pre.length + S.length ≤ 30720 ∧ pre.length + S.length ≤ 120 ∧ b0 < 256 := by
  obtain ⟨hnm, hs, hbl, hTl, hTf, hb⟩ := yf_T hg hi hT h
  have hs' := hs
  rw [eT, List.append_assoc] at hs'
  have hlen : T.length = pre.length + (S.length + suf.length) := by rw [eT]; simp
  exact ⟨(py_s_app.mp (py_s_app.mp hs').2).1, by omega, by omega, hb⟩
theorem ya_pre {d r : List dk_T} {q : Nat} (hg : ga_ok g) (hi : dk_inv g A) (hT : A[b0]? = some T) (h : yf_R g A bs tk bl H u) (eT : T = pre ++ S ++ suf) (eS : S = t :: (d ++ r)) (hd : dk_fo d 1) (hq1 : pre.length < q) (hq2 : q < pre.length + S.length) (K : yv_afterChild_38 post (nI (120 * b0)) (nI (120 * b0 + pre.length)) (nI (120 * b0 + q)) t.1 (H.1 q) (nI (120 * b0 + (pre.length + 1 + d.length))) (dk_b (decide (q = pre.length + 1))) u) : wpY_afterChild post u (nI (120 * b0)) (nI (120 * b0 + pre.length)) (nI (120 * b0 + q)) := by
  obtain ⟨s1, s2, s3, s4⟩ := yf_S hg hi hT h eT
  obtain ⟨hnm, _⟩ := yf_T hg hi hT h
  have hty : yg_ty u = H.1 := by
    obtain ⟨m, d, O, hR, hA⟩ := h
    exact hR.2.2.2.1.1
  have s5 := s1
  rw [eS] at s5
  have hSl : S.length = 1 + (d.length + r.length) := by rw [eS]; simp; omega
  rw [ye_afterChild]
  refine yl_kind hnm s5.1.1 s5.1.2 (by omega) ?_
  rw [pk_sub (by omega), show 120 * b0 + q - 120 * b0 = q from by omega, nI_clamp (by omega), hty]
  refine ⟨vp_in_nI (by omega) (by omega), nm_e ?_⟩
  rw [nI_1]
  refine yl_end hnm (py_s_app.mp s5.2).1 hd (by omega) ?_
  rw [show 120 * b0 + pre.length + 1 + d.length = 120 * b0 + (pre.length + 1 + d.length) from by omega]
  by_cases hq : q = pre.length + 1
  · rw [decide_eq_true hq] at K
    exact br_t (congrArg nI (by omega)) K
  · rw [decide_eq_false hq] at K
    refine br_f ?_ K
    rw [nI_eq (by omega) (by omega)]
    omega
theorem ya_187 {x1 x2 x3 x5 x6 k : Int32} (hk : k ≠ 9) (K : post 1 u) : yv_afterChild_187 post x1 x2 x3 k x5 x6 u := by
  rw [ye_afterChild_187]
  exact br_f hk K
theorem ya_153 {x1 x2 x3 x5 x6 x7 k : Int32} (hk : k ≠ 9) (K : post 1 u) : yv_afterChild_153 post x1 x2 x3 k x5 x6 x7 u := by
  rw [ye_afterChild_153]
  exact br_f hk (ya_187 hk K)
/-- a kind that does nothing after a child -/
theorem ya_plain {x1 x2 x3 x5 x6 z k : Int32} (h6 : k ≠ 6) (h7 : k ≠ 7) (h8 : k ≠ 8) (h9 : k ≠ 9) (K : post 1 u) : yv_afterChild_38 post x1 x2 x3 k x5 x6 z u := by
  rw [ye_afterChild_38]
  refine br_f h6 (br_f h7 ?_)
  rw [ye_afterChild_59]
  refine br_f h9 ?_
  rw [ye_afterChild_76, ye_afterChild_77]
  refine br_t rfl ?_
  rw [ye_afterChild_93]
  exact br_t rfl (br_f h8 (ya_153 h9 K))
/-- PI and LAM behind their second child -/
theorem ya_binder2 {x1 x2 x3 x5 x6 k : Int32} (hk : k = 6 ∨ k = 7) (K : post 1 u) : yv_afterChild_38 post x1 x2 x3 k x5 x6 0 u := by
  have h8 : k ≠ 8 := fun z => by rw [z] at hk; exact absurd hk (by decide)
  have h9 : k ≠ 9 := fun z => by rw [z] at hk; exact absurd hk (by decide)
  have go : yv_afterChild_54 post x1 x2 x3 k x5 x6 0 u := by
    rw [ye_afterChild_54]
    refine br_t rfl ?_
    rw [ye_afterChild_59]
    refine br_f h9 ?_
    rw [ye_afterChild_76, ye_afterChild_77]
    refine br_t rfl ?_
    rw [ye_afterChild_93]
    exact br_t rfl (br_f h8 (ya_153 h9 K))
  rw [ye_afterChild_38]
  exact br_c (fun _ => go) fun z => br_t (hk.resolve_left z) go
/-- the family's part -/
theorem ya_family {x1 x2 x3 x6 x7 k : Int32} {n : Nat} (hn : n < 2 ^ 31) (K1 : 1 < n → post (-7) u) (K2 : n ≤ 1 → wpY_normErased (fun r u' => (vp_in (x2 - x1) 120 ∧ ∀ a : Nat → Int32, a = upd (yg_aux u') (x2 - x1).toNatClampNeg r → (vp_in (x2 - x1) 120 ∧ (post (a (x2 - x1).toNatClampNeg) (ys_aux a u'))))) u x3) : yv_afterChild_72 post x1 x2 x3 k (nI n) x6 x7 u := by
  rw [ye_afterChild_72, ye_afterChild_77]
  refine br_f (by decide) ?_
  by_cases h : n ≤ 1
  · refine br_t (nI_le (b := 1) h (by decide)) ?_
    rw [ye_afterChild_93]
    exact br_f (by decide) (K2 h)
  · exact br_f (nI_ge (a := 1) (by omega) hn) (K1 (by omega))
/-- PI and LAM behind their first child -/
theorem ya_binder1 {x1 x2 x3 x6 k : Int32} {n : Nat} (hk : k = 6 ∨ k = 7) (hn : n < 2 ^ 31) (K1 : 1 < n → post (-7) u) (K2 : n ≤ 1 → wpY_normErased (fun r u' => (vp_in (x2 - x1) 120 ∧ ∀ a : Nat → Int32, a = upd (yg_aux u') (x2 - x1).toNatClampNeg r → (vp_in (x2 - x1) 120 ∧ (post (a (x2 - x1).toNatClampNeg) (ys_aux a u'))))) u x3) : yv_afterChild_38 post x1 x2 x3 k (nI n) x6 1 u := by
  have go : yv_afterChild_54 post x1 x2 x3 k (nI n) x6 1 u := by
    rw [ye_afterChild_54]
    exact br_f (by decide) (ya_family hn K1 K2)
  rw [ye_afterChild_38]
  exact br_c (fun _ => go) fun z => br_t (hk.resolve_left z) go
/-- APP behind its first child -/
theorem ya_app1 {x1 x2 x3 x5 x6 : Int32} (K : wpY_kind (fun r => ((r = 6 → post 1 u) ∧ (¬ r = 6 → post (-8) u))) u (x5 * 120)) : yv_afterChild_38 post x1 x2 x3 8 x5 x6 1 u := by
  rw [ye_afterChild_38]
  refine br_f (by decide) (br_f (by decide) ?_)
  rw [ye_afterChild_59]
  refine br_f (by decide) ?_
  rw [ye_afterChild_76, ye_afterChild_77]
  refine br_t rfl ?_
  rw [ye_afterChild_93]
  exact br_t rfl (br_t rfl (br_f (by decide) K))
theorem ya_app2 {x1 x2 x3 x5 x6 : Int32} (K : post 1 u) : yv_afterChild_38 post x1 x2 x3 8 x5 x6 0 u := by
  rw [ye_afterChild_38]
  refine br_f (by decide) (br_f (by decide) ?_)
  rw [ye_afterChild_59]
  refine br_f (by decide) ?_
  rw [ye_afterChild_76, ye_afterChild_77]
  refine br_t rfl ?_
  rw [ye_afterChild_93]
  refine br_t rfl (br_t rfl (br_t rfl (ya_153 (by decide) K)))
/-- REC behind its first child -/
theorem ya_rec1 {x1 x2 x3 x5 x6 : Int32} (hx : ¬ x3 = x6) (K : vp_in (x2 - x1) 120 ∧ ∀ a : Nat → Int32, a = upd (yg_aux u) (x2 - x1).toNatClampNeg 2 → ((x5 = 2 → post 1 (ys_aux a u)) ∧ (¬ x5 = 2 → post (-9) (ys_aux a u)))) : yv_afterChild_38 post x1 x2 x3 9 x5 x6 1 u := by
  rw [ye_afterChild_38]
  refine br_f (by decide) (br_f (by decide) ?_)
  rw [ye_afterChild_59]
  refine br_t rfl (br_f hx ?_)
  rw [ye_afterChild_76, ye_afterChild_77]
  refine br_t rfl ?_
  rw [ye_afterChild_93]
  refine br_t rfl (br_f (by decide) ?_)
  rw [ye_afterChild_153]
  exact br_t rfl (br_f (by decide) K)
/-- REC behind its family -/
theorem ya_rec2 {x1 x2 x3 : Int32} {n : Nat} (hn : n < 2 ^ 31) (K1 : 1 < n → post (-7) u) (K2 : n ≤ 1 → wpY_normErased (fun r u' => (vp_in (x2 - x1) 120 ∧ ∀ a : Nat → Int32, a = upd (yg_aux u') (x2 - x1).toNatClampNeg r → (vp_in (x2 - x1) 120 ∧ (post (a (x2 - x1).toNatClampNeg) (ys_aux a u'))))) u x3) : yv_afterChild_38 post x1 x2 x3 9 (nI n) x3 0 u := by
  rw [ye_afterChild_38]
  refine br_f (by decide) (br_f (by decide) ?_)
  rw [ye_afterChild_59]
  exact br_t rfl (br_t rfl (ya_family hn K1 K2))
/-- REC behind its third and fourth child -/
theorem ya_rec3 {x1 x2 x3 x5 x6 : Int32} (hx : ¬ x3 = x6) (K : wpY_end (fun r_51 => (((x3 = r_51 → (vp_in (x2 - x1) 120 ∧ (wpY_subst (fun u_74 => (wpY_norm (fun r_93 u_94 => (((0 ≤ r_93 → (((r_93 = x5 → (post 1 u_94)) ∧ (¬ r_93 = x5 → (post (-9) u_94))))) ∧ (¬ 0 ≤ r_93 → (post r_93 u_94))))) u_74)) (ys_outLen 0 u) (((yg_aux u) (x2 - x1).toNatClampNeg) * 120) 360))) ∧ (¬ x3 = r_51 → (post 1 u))))) u x6) : yv_afterChild_38 post x1 x2 x3 9 x5 x6 0 u := by
  rw [ye_afterChild_38]
  refine br_f (by decide) (br_f (by decide) ?_)
  rw [ye_afterChild_59]
  refine br_t rfl (br_f hx ?_)
  rw [ye_afterChild_76, ye_afterChild_77]
  refine br_t rfl ?_
  rw [ye_afterChild_93]
  refine br_t rfl (br_f (by decide) ?_)
  rw [ye_afterChild_153]
  refine br_t rfl (br_t rfl ?_)
  rw [ye_afterChild_187]
  exact br_t rfl K
/-- finish by kind: kinds without children -/
theorem yf_leaf {l : List dk_T} (hg : ga_ok g) (hi : dk_inv g A) (hT : A[b0]? = some T) (h : yf_R g A bs tk bl H u) (eT : T = pre ++ S ++ suf) (eS : S = t :: l) (K1 : t.1 = 1 → t.2 = 0 → post 1 u) (K1' : t.1 = 1 → ¬ t.2 = 0 → post (-6) u) (K2 : t.1 = 2 → post 0 u) (K3 : t.1 = 3 → post 2 u) (K10 : t.1 = 10 → wpY_typeOf (fun r => post r u) u t.2) (K5 : t.1 = 5 → wpY_lookup (fun r u' => post r u') u (nI (120 * b0)) (nI (120 * b0 + pre.length)) t.2) (hk : t.1 = 1 ∨ t.1 = 2 ∨ t.1 = 3 ∨ t.1 = 10 ∨ t.1 = 5) : wpY_finish post u (nI (120 * b0)) (nI (120 * b0 + pre.length)) := by
  obtain ⟨s1, s2, s3, s4⟩ := yf_S hg hi hT h eT
  obtain ⟨hnm, _⟩ := yf_T hg hi hT h
  have s5 := s1
  rw [eS] at s5
  have hSl : S.length = l.length + 1 := by rw [eS]; simp
  rw [ye_finish]
  refine yl_kind hnm s5.1.1 s5.1.2 (by omega) (yl_val hnm s5.1.1 s5.1.2 (by omega) ?_)
  rcases hk with z | z | z | z | z
  · have a := K1 z
    have b := K1' z
    rw [z]
    exact br_t rfl (br_c a b)
  · have a := K2 z
    rw [z]
    refine br_f (by decide) (br_t rfl ?_)
    rw [ye_finish_40]; exact br_t rfl a
  · have a := K3 z
    rw [z]
    refine br_f (by decide) (br_f (by decide) (br_t rfl ?_))
    rw [ye_finish_40]; exact br_f (by decide) a
  · have a := K10 z
    rw [z]
    refine br_f (by decide) (br_f (by decide) (br_f (by decide) (br_t rfl ?_)))
    rw [ye_finish_62]; exact br_t rfl a
  · have a := K5 z
    rw [z]
    refine br_f (by decide) (br_f (by decide) (br_f (by decide) (br_f (by decide) (br_t rfl ?_))))
    rw [ye_finish_62]; exact br_f (by decide) a
/-- finish of a kind with children -/
theorem yf_node {d r : List dk_T} (hg : ga_ok g) (hi : dk_inv g A) (hT : A[b0]? = some T) (h : yf_R g A bs tk bl H u) (eT : T = pre ++ S ++ suf) (eS : S = t :: (d ++ r)) (hd : dk_fo d 1) (K4 : t.1 = 4 → H.1 (pre.length + 1) = 2 → post 2 u) (K4' : t.1 = 4 → ¬ H.1 (pre.length + 1) = 2 → post (-9) u) (hr : t.1 ≠ 4 → 0 < r.length) (K6 : t.1 = 6 → ((H.1 (pre.length + 1 + d.length) ≤ 1 → post (H.1 (pre.length + 1 + d.length)) u) ∧ (¬ H.1 (pre.length + 1 + d.length) ≤ 1 → post (-7) u))) (K8 : t.1 = 8 → wpY_end (fun r_343 => (wpY_find (fun r_363 => (((r_363 = H.1 (pre.length + 1 + d.length) → (wpY_apply (fun r_384 u_385 => (post r_384 u_385)) u r_343 (nI (120 * b0 + (pre.length + 1 + d.length))))) ∧ (¬ r_363 = H.1 (pre.length + 1 + d.length) → (post (-9) u))))) u ((H.1 (pre.length + 1) * 120) + 1))) u ((H.1 (pre.length + 1) * 120) + 1)) (K7 : t.1 = 7 → ((H.1 (pre.length + 1 + d.length) = 1 → post (-11) u) ∧ (¬ H.1 (pre.length + 1 + d.length) = 1 → yv_finish_237 post (nI (120 * b0)) (nI (120 * b0 + pre.length)) 7 (H.1 (pre.length + 1 + d.length)) (H.2 pre.length * 120) u))) (K9 : t.1 = 9 → yv_finish_237 post (nI (120 * b0)) (nI (120 * b0 + pre.length)) 9 (H.1 (pre.length + 1 + d.length)) (H.2 pre.length * 120) u) (hk : t.1 = 4 ∨ t.1 = 6 ∨ t.1 = 8 ∨ t.1 = 7 ∨ t.1 = 9) : wpY_finish post u (nI (120 * b0)) (nI (120 * b0 + pre.length)) := by
  obtain ⟨s1, s2, s3, s4⟩ := yf_S hg hi hT h eT
  obtain ⟨hnm, _⟩ := yf_T hg hi hT h
  have hty : yg_ty u = H.1 ∧ yg_aux u = H.2 := by
    obtain ⟨m, d, O, hR, hA⟩ := h
    exact hR.2.2.2.1
  have s5 := s1
  rw [eS] at s5
  have hSl : S.length = 1 + (d.length + r.length) := by rw [eS]; simp; omega
  have hd1 := dk_fo_len hd
  rw [ye_finish, hty.1, hty.2]
  refine yl_kind hnm s5.1.1 s5.1.2 (by omega) (yl_val hnm s5.1.1 s5.1.2 (by omega) ?_)
  rw [nI_1, pk_sub (show 120 * b0 ≤ 120 * b0 + pre.length + 1 by omega), show 120 * b0 + pre.length + 1 - 120 * b0 = pre.length + 1 from by omega, pk_sub (show 120 * b0 ≤ 120 * b0 + pre.length by omega), show 120 * b0 + pre.length - 120 * b0 = pre.length from by omega, nI_clamp (show pre.length + 1 < 2 ^ 31 by omega), nI_clamp (show pre.length < 2 ^ 31 by omega)]
  have hd2 : ∀ {P : Int32 → Prop}, P (nI (120 * b0 + (pre.length + 1 + d.length))) → wpY_end P u (nI (120 * b0 + pre.length + 1)) := by
    intro P hP
    refine yl_end hnm (py_s_app.mp s5.2).1 hd (by omega) ?_
    rw [show 120 * b0 + pre.length + 1 + d.length = 120 * b0 + (pre.length + 1 + d.length) from by omega]
    exact hP
  have e2 : nI (120 * b0 + (pre.length + 1 + d.length)) - nI (120 * b0) = nI (pre.length + 1 + d.length) := by
    rw [pk_sub (by omega)]; exact congrArg nI (by omega)
  rcases hk with z | z | z | z | z
  · have a := K4 z
    have b := K4' z
    rw [z]
    exact br_f (by decide) (br_f (by decide) (br_f (by decide) (br_f (by decide) (br_f (by decide) ⟨vp_in_nI (by omega) (by omega), nm_e (br_t rfl (br_c a b))⟩))))
  · have a := K6 z
    have hr' := hr (by rw [z]; decide)
    rw [z]
    refine br_f (by decide) (br_f (by decide) (br_f (by decide) (br_f (by decide) (br_f (by decide) ⟨vp_in_nI (by omega) (by omega), nm_e (br_f (by decide) (hd2 ?_))⟩))))
    rw [e2, nI_clamp (by omega)]
    exact ⟨vp_in_nI (by omega) (by omega), nm_e ⟨vp_in_nI (by omega) (by omega), nm_e (br_t rfl a)⟩⟩
  · have a := K8 z
    have hr' := hr (by rw [z]; decide)
    rw [z]
    refine br_f (by decide) (br_f (by decide) (br_f (by decide) (br_f (by decide) (br_f (by decide) ⟨vp_in_nI (by omega) (by omega), nm_e (br_f (by decide) (hd2 ?_))⟩))))
    rw [e2, nI_clamp (by omega)]
    exact ⟨vp_in_nI (by omega) (by omega), nm_e ⟨vp_in_nI (by omega) (by omega), nm_e (br_f (by decide) (br_t rfl a))⟩⟩
  · have a := K7 z
    have hr' := hr (by rw [z]; decide)
    rw [z]
    refine br_f (by decide) (br_f (by decide) (br_f (by decide) (br_f (by decide) (br_f (by decide) ⟨vp_in_nI (by omega) (by omega), nm_e (br_f (by decide) (hd2 ?_))⟩))))
    rw [e2, nI_clamp (by omega)]
    exact ⟨vp_in_nI (by omega) (by omega), nm_e ⟨vp_in_nI (by omega) (by omega), nm_e (br_f (by decide) (br_f (by decide) (br_t rfl a)))⟩⟩
  · have a := K9 z
    have hr' := hr (by rw [z]; decide)
    rw [z]
    refine br_f (by decide) (br_f (by decide) (br_f (by decide) (br_f (by decide) (br_f (by decide) ⟨vp_in_nI (by omega) (by omega), nm_e (br_f (by decide) (hd2 ?_))⟩))))
    rw [e2, nI_clamp (by omega)]
    exact ⟨vp_in_nI (by omega) (by omega), nm_e ⟨vp_in_nI (by omega) (by omega), nm_e (br_f (by decide) (br_f (by decide) (br_f (by decide) a)))⟩⟩
end
end
section
/-! INFER in step: the phases of a visit -/
/-! OK and failure of a whole visit -/
def iv_X (g : dk_G) (A A' : List (List dk_T)) (tk tk' r i l : Nat) (ctx : List Nat) : Prop := ∀ (post : Int32 → SX → Prop) (x : Int32) (q : Nat) (u : SX) (bs : Nat) (bl : Int32) (f : Nat) (ans : Int32) (B : dk_B), xf_R g A bs tk bl f i 0 0 ans ctx B u → q + 5 * l ≤ 4000 → f + l ≤ 190 → (∀ u' q', q' ≤ q + 5 * l → xf_D g A' bs tk' bl f (nI r) ctx B u' → xv_runInfer_21 post (4200 - q') (nI r) (nI q') u') → xv_runInfer_21 post (4200 - q) x (nI q) u
def iv_XF (g : dk_G) (A A' : List (List dk_T)) (tk tk' : Nat) (rr : Int32) (bi i l : Nat) (ctx : List Nat) : Prop := ∀ (post : Int32 → SX → Prop) (x : Int32) (q : Nat) (u : SX) (bs : Nat) (bl : Int32) (f : Nat) (ans : Int32) (B : dk_B), xf_R g A bs tk bl f i 0 0 ans ctx B u → q + 5 * l ≤ 4000 → f + l ≤ 190 → (∀ u', (∃ F T cap O, px_R g A' (bs, tk', nI bi) F T cap O u') → post rr u') → xv_runInfer_21 post (4200 - q) x (nI q) u
def iv_Y (g : dk_G) (T : List dk_T) (b0 : Nat) (A A' : List (List dk_T)) (tk tk' r p l : Nat) (ctx : List Nat) : Prop := ∀ (post : Int32 → SY → Prop) (u : SY) (bs : Nat) (bl : Int32) (H : dk_H), yf_R g A bs tk bl H u → cx_Y T p H.2 ctx → (∀ u' H', yf_R g A' bs tk' bl H' u' → (∀ j, j < p → H'.1 j = H.1 j ∧ H'.2 j = H.2 j) → H'.1 p = nI r → ty_C post (120 * b0) T.length (p + l) p (nI r) u') → yv_typing_14 post (nI (120 * b0)) (nI (120 * b0 + T.length)) (T.length - p + 1) (nI (120 * b0 + p)) u
def iv_YF (g : dk_G) (T : List dk_T) (b0 : Nat) (A A' : List (List dk_T)) (tk tk' : Nat) (rr : Int32) (bi p : Nat) (ctx : List Nat) : Prop := ∀ (post : Int32 → SY → Prop) (u : SY) (bs : Nat) (bl : Int32) (H : dk_H), yf_R g A bs tk bl H u → cx_Y T p H.2 ctx → (∀ u' H', yf_R g A' bs tk' (nI bi) H' u' → post rr u') → yv_typing_14 post (nI (120 * b0)) (nI (120 * b0 + T.length)) (T.length - p + 1) (nI (120 * b0 + p)) u
def iv_O (g : dk_G) (T : List dk_T) (b0 : Nat) (A : List (List dk_T)) (tk i p l : Nat) (ctx : List Nat) : Prop := ∃ (A' : List (List dk_T)) (tk' : Nat), lk_x g A A' tk' ∧ ((∃ r : Nat, r < A'.length ∧ iv_X g A A' tk tk' r i l ctx ∧ iv_Y g T b0 A A' tk tk' r p l ctx) ∨ (∃ (rr : Int32) (bi : Nat), dk_fl rr ∧ iv_XF g A A' tk tk' rr bi i l ctx ∧ iv_YF g T b0 A A' tk tk' rr bi p ctx))
def iv_P (g : dk_G) (T : List dk_T) (b0 k : Nat) : Prop := ∀ (S pre suf : List dk_T) (A : List (List dk_T)) (tk i : Nat) (ctx : List Nat), S.length ≤ k → T = pre ++ S ++ suf → dk_fo S 1 → dk_inv g A → dk_ev g A → A[b0]? = some T → A[i]? = some S → tk ≤ ga_FL g → ctx.length ≤ pre.length → (∀ c ∈ ctx, c < A.length) → iv_O g T b0 A tk i pre.length S.length ctx
/-! the point where a child's visit begins -/
def vp_X (g : dk_G) (A A' : List (List dk_T)) (tk tk' r' i s : Nat) (kp : Int32) (ic l W : Nat) (ctx1 ctx : List Nat) : Prop := ∀ (post : Int32 → SX → Prop) (q : Nat) (u : SX) (bs : Nat) (bl : Int32) (f : Nat) (ans : Int32) (B : dk_B), xf_R g A bs tk bl f i s kp ans ctx1 B u → q + W ≤ 4000 → f + l ≤ 190 → (∀ u' q', q' ≤ q + W → xf_D g A' bs tk' bl f (nI r') ctx B u' → xv_runInfer_21 post (4200 - q') (nI r') (nI q') u') → wpX_visit (xi_K post q) u (nI ic)
def vp_XF (g : dk_G) (A A' : List (List dk_T)) (tk tk' : Nat) (rr : Int32) (bi i s : Nat) (kp : Int32) (ic l W : Nat) (ctx1 : List Nat) : Prop := ∀ (post : Int32 → SX → Prop) (q : Nat) (u : SX) (bs : Nat) (bl : Int32) (f : Nat) (ans : Int32) (B : dk_B), xf_R g A bs tk bl f i s kp ans ctx1 B u → q + W ≤ 4000 → f + l ≤ 190 → (∀ u', (∃ F T cap O, px_R g A' (bs, tk', nI bi) F T cap O u') → post rr u') → wpX_visit (xi_K post q) u (nI ic)
def vp_Y (g : dk_G) (T : List dk_T) (b0 : Nat) (A A' : List (List dk_T)) (tk tk' r' p l pc : Nat) (Q : dk_H → Prop) : Prop := ∀ (post : Int32 → SY → Prop) (u : SY) (bs : Nat) (bl : Int32) (H : dk_H), yf_R g A bs tk bl H u → Q H → (∀ u' H', yf_R g A' bs tk' bl H' u' → (∀ j, j < p → H'.1 j = H.1 j ∧ H'.2 j = H.2 j) → H'.1 p = nI r' → ty_C post (120 * b0) T.length (p + l) p (nI r') u') → yv_typing_14 post (nI (120 * b0)) (nI (120 * b0 + T.length)) (T.length - pc + 1) (nI (120 * b0 + pc)) u
def vp_YF (g : dk_G) (T : List dk_T) (b0 : Nat) (A A' : List (List dk_T)) (tk tk' : Nat) (rr : Int32) (bi pc : Nat) (Q : dk_H → Prop) : Prop := ∀ (post : Int32 → SY → Prop) (u : SY) (bs : Nat) (bl : Int32) (H : dk_H), yf_R g A bs tk bl H u → Q H → (∀ u' H', yf_R g A' bs tk' (nI bi) H' u' → post rr u') → yv_typing_14 post (nI (120 * b0)) (nI (120 * b0 + T.length)) (T.length - pc + 1) (nI (120 * b0 + pc)) u
def vp_O (g : dk_G) (T : List dk_T) (b0 : Nat) (A : List (List dk_T)) (tk p l i s : Nat) (kp : Int32) (ic pc : Nat) (Q : dk_H → Prop) (ctx1 ctx : List Nat) (W : Nat) : Prop := ∃ (A' : List (List dk_T)) (tk' : Nat), lk_x g A A' tk' ∧ ((∃ r' : Nat, r' < A'.length ∧ vp_X g A A' tk tk' r' i s kp ic l W ctx1 ctx ∧ vp_Y g T b0 A A' tk tk' r' p l pc Q) ∨ (∃ (rr : Int32) (bi : Nat), dk_fl rr ∧ vp_XF g A A' tk tk' rr bi i s kp ic l W ctx1 ∧ vp_YF g T b0 A A' tk tk' rr bi pc Q))
/-! the point where a child has answered r -/
def ph_X (g : dk_G) (A A' : List (List dk_T)) (tk tk' r' i s : Nat) (kp : Int32) (r l W : Nat) (ctx1 ctx : List Nat) : Prop := ∀ (post : Int32 → SX → Prop) (x : Int32) (q : Nat) (u : SX) (bs : Nat) (bl : Int32) (f : Nat) (B : dk_B), xf_R g A bs tk bl f i s kp (nI r) ctx1 B u → q + W ≤ 4000 → f + l ≤ 190 → (∀ u' q', q' ≤ q + W → xf_D g A' bs tk' bl f (nI r') ctx B u' → xv_runInfer_21 post (4200 - q') (nI r') (nI q') u') → xv_runInfer_21 post (4200 - q) x (nI q) u
def ph_XF (g : dk_G) (A A' : List (List dk_T)) (tk tk' : Nat) (rr : Int32) (bi i s : Nat) (kp : Int32) (r l W : Nat) (ctx1 : List Nat) : Prop := ∀ (post : Int32 → SX → Prop) (x : Int32) (q : Nat) (u : SX) (bs : Nat) (bl : Int32) (f : Nat) (B : dk_B), xf_R g A bs tk bl f i s kp (nI r) ctx1 B u → q + W ≤ 4000 → f + l ≤ 190 → (∀ u', (∃ F T cap O, px_R g A' (bs, tk', nI bi) F T cap O u') → post rr u') → xv_runInfer_21 post (4200 - q) x (nI q) u
def ph_Y (g : dk_G) (T : List dk_T) (b0 : Nat) (A A' : List (List dk_T)) (tk tk' r' p l pc e r : Nat) (Q : dk_H → Prop) : Prop := ∀ (post : Int32 → SY → Prop) (u : SY) (bs : Nat) (bl : Int32) (H : dk_H), yf_R g A bs tk bl H u → Q H → (∀ u' H', yf_R g A' bs tk' bl H' u' → (∀ j, j < p → H'.1 j = H.1 j ∧ H'.2 j = H.2 j) → H'.1 p = nI r' → ty_C post (120 * b0) T.length (p + l) p (nI r') u') → ty_C post (120 * b0) T.length e pc (nI r) u
def ph_YF (g : dk_G) (T : List dk_T) (b0 : Nat) (A A' : List (List dk_T)) (tk tk' : Nat) (rr : Int32) (bi pc e r : Nat) (Q : dk_H → Prop) : Prop := ∀ (post : Int32 → SY → Prop) (u : SY) (bs : Nat) (bl : Int32) (H : dk_H), yf_R g A bs tk bl H u → Q H → (∀ u' H', yf_R g A' bs tk' (nI bi) H' u' → post rr u') → ty_C post (120 * b0) T.length e pc (nI r) u
def ph_O (g : dk_G) (T : List dk_T) (b0 : Nat) (A : List (List dk_T)) (tk p l i s : Nat) (kp : Int32) (r pc e : Nat) (Q : dk_H → Prop) (ctx1 ctx : List Nat) (W : Nat) : Prop := ∃ (A' : List (List dk_T)) (tk' : Nat), lk_x g A A' tk' ∧ ((∃ r' : Nat, r' < A'.length ∧ ph_X g A A' tk tk' r' i s kp r l W ctx1 ctx ∧ ph_Y g T b0 A A' tk tk' r' p l pc e r Q) ∨ (∃ (rr : Int32) (bi : Nat), dk_fl rr ∧ ph_XF g A A' tk tk' rr bi i s kp r l W ctx1 ∧ ph_YF g T b0 A A' tk tk' rr bi pc e r Q))
section
variable {g : dk_G} {T : List dk_T} {b0 : Nat}
theorem lk_x_trans {A A1 A' : List (List dk_T)} {tk1 tk' : Nat} (h1 : lk_x g A A1 tk1) (h2 : lk_x g A1 A' tk') : lk_x g A A' tk' := by
  obtain ⟨⟨B1, e1⟩, _⟩ := h1
  obtain ⟨⟨B2, e2⟩, h3, h4⟩ := h2
  exact ⟨⟨B1 ++ B2, by rw [e2, e1]; simp⟩, h3, h4⟩
theorem lk_x_get {A A' : List (List dk_T)} {tk' i : Nat} {S : List dk_T} (h : lk_x g A A' tk') (hi : A[i]? = some S) : A'[i]? = some S := by
  obtain ⟨⟨B, e⟩, _⟩ := h
  rw [e, List.getElem?_append_left (List.getElem?_eq_some_iff.mp hi).1]; exact hi
theorem lk_x_ev {A A' : List (List dk_T)} {tk' : Nat} (h : lk_x g A A' tk') (hE : dk_ev g A) : dk_ev g A' := by
  obtain ⟨⟨B, e⟩, _⟩ := h
  rw [e]; exact dk_ev_app hE
theorem lk_x_len {A A' : List (List dk_T)} {tk' : Nat} (h : lk_x g A A' tk') : A.length ≤ A'.length := by
  obtain ⟨⟨B, e⟩, _⟩ := h
  rw [e]; simp
/-- a child's visit, then what follows it -/
theorem ph_child {A : List (List dk_T)} {tk p l i s k ic pc W : Nat} {kp : Int32} {c pre' suf' : List dk_T} {Q : dk_H → Prop} {ctx1 ctx : List Nat} (IH : iv_P g T b0 k) (hck : c.length ≤ k) (eC : T = pre' ++ c ++ suf') (epc : pre'.length = pc) (hc : dk_fo c 1) (hi : dk_inv g A) (hE : dk_ev g A) (hT : A[b0]? = some T) (hic : A[ic]? = some c) (htk : tk ≤ ga_FL g) (hcl : ctx1.length ≤ pc) (hctx : ∀ x ∈ ctx1, x < A.length) (hl : c.length < l) (hpp : p < pc) (hQc : ∀ H, Q H → cx_Y T pc H.2 ctx1) (hQ : ∀ H H' : dk_H, Q H → (∀ j, j < pc → H'.1 j = H.1 j ∧ H'.2 j = H.2 j) → Q H') (N : ∀ A1 tk1 r1, lk_x g A A1 tk1 → r1 < A1.length → ph_O g T b0 A1 tk1 p l i s kp r1 pc (pc + c.length) (fun H => Q H ∧ H.1 pc = nI r1) ctx1 ctx W) : vp_O g T b0 A tk p l i s kp ic pc Q ctx1 ctx (1 + 5 * c.length + W) := by
  obtain ⟨A1, tk1, hx1, hout⟩ := IH c pre' suf' A tk ic ctx1 hck eC hc hi hE hT hic htk (by omega) hctx
  rw [epc] at hout
  rcases hout with ⟨r1, hr1, hX1, hY1⟩ | ⟨rr, bi, hfl, hX1, hY1⟩
  · obtain ⟨A', tk', hx2, hout2⟩ := N A1 tk1 r1 hx1 hr1
    refine ⟨A', tk', lk_x_trans hx1 hx2, ?_⟩
    rcases hout2 with ⟨r', hr', hX2, hY2⟩ | ⟨rr, bi, hfl, hX2, hY2⟩
    · refine Or.inl ⟨r', hr', ?_, ?_⟩
      · intro post q u bs bl f ans B h hq hf K
        refine xl_visit (by omega) h fun u1 h1 => ?_
        refine hX1 post (-100) (q + 1) u1 bs bl (f + 1) ans _ h1 (by omega) (by omega) ?_
        intro u2 q2 hq2 h2
        refine hX2 post (nI r1) q2 u2 bs bl f B (xf_back h h2) (by omega) hf ?_
        intro u3 q3 hq3 h3
        exact K u3 q3 (by omega) h3
      · intro post u bs bl H h hQH K
        refine hY1 post u bs bl H h (hQc H hQH) ?_
        intro u1 H1 h1 hsame hr
        refine hY2 post u1 bs bl H1 h1 ⟨hQ H H1 hQH hsame, hr⟩ ?_
        intro u2 H2 h2 hs2 hp2
        refine K u2 H2 h2 ?_ hp2
        intro j hj
        obtain ⟨a1, b1⟩ := hs2 j hj
        obtain ⟨a2, b2⟩ := hsame j (by omega)
        exact ⟨a1.trans a2, b1.trans b2⟩
    · refine Or.inr ⟨rr, bi, hfl, ?_, ?_⟩
      · intro post q u bs bl f ans B h hq hf K
        refine xl_visit (by omega) h fun u1 h1 => ?_
        refine hX1 post (-100) (q + 1) u1 bs bl (f + 1) ans _ h1 (by omega) (by omega) ?_
        intro u2 q2 hq2 h2
        exact hX2 post (nI r1) q2 u2 bs bl f B (xf_back h h2) (by omega) hf K
      · intro post u bs bl H h hQH K
        refine hY1 post u bs bl H h (hQc H hQH) ?_
        intro u1 H1 h1 hsame hr
        exact hY2 post u1 bs bl H1 h1 ⟨hQ H H1 hQH hsame, hr⟩ K
  · refine ⟨A1, tk1, hx1, Or.inr ⟨rr, bi, hfl, ?_, ?_⟩⟩
    · intro post q u bs bl f ans B h hq hf K
      refine xl_visit (by omega) h fun u1 h1 => ?_
      exact hX1 post (-100) (q + 1) u1 bs bl (f + 1) ans _ h1 (by omega) (by omega) K
    · intro post u bs bl H h hQH K
      exact hY1 post u bs bl H h (hQc H hQH) K
/-- between two children: the work fails -/
theorem ph_bad {A A1 : List (List dk_T)} {tk tk1 l i s r m W : Nat} {kp rr : Int32} {pre S suf : List dk_T} {t : dk_T} {x c rs : List dk_T} {e : Nat} {Q : dk_H → Prop} {ctx1 ctx : List Nat} (hg : ga_ok g) (hi : dk_inv g A) (hT : A[b0]? = some T) (eT : T = pre ++ S ++ suf) (hS : dk_fo S 1) (hAi : A[i]? = some S) (eS : S = t :: (x ++ (c ++ rs))) (hx : dk_fo x m) (hc : 0 < c.length) (hs0 : 0 < s) (hs4 : s ≤ 4) (hW : 0 < W) (hfl : dk_fl rr) (hx1 : lk_x g A A1 tk1) (hX : ∀ (post : Int32 → SX → Prop) (u : SX) (bs : Nat) (bl : Int32) (f : Nat) (B : dk_B), f ≤ 190 → xf_R g A bs tk bl f i (s + 1) kp (nI r) ctx1 B u → (∀ u' s' kp' ans' ctx', xf_R g A1 bs tk1 bl f i s' kp' ans' ctx' B u' → post rr u') → xv_stepVisit_58 post (nI f) (nI i) (nI s) u) (hY : ∀ (post : Int32 → SY → Prop) (u : SY) (bs : Nat) (bl : Int32) (H : dk_H), yf_R g A bs tk bl H u → Q H → (∀ u' H', yf_R g A1 bs tk1 bl H' u' → post rr u') → wpY_afterChild post u (nI (120 * b0)) (nI (120 * b0 + pre.length)) (nI (120 * b0 + (pre.length + 1 + x.length)))) : ph_O g T b0 A tk pre.length l i s kp r (pre.length + 1 + x.length) e Q ctx1 ctx W := by
  refine ⟨A1, tk1, hx1, Or.inr ⟨rr, i, hfl, ?_, ?_⟩⟩
  · intro post x q u bs bl f B h hq hf K
    refine xl_later (by omega) (by omega) hs0 hs4 h fun u1 h1 => ?_
    refine hX _ u1 bs bl f B (by omega) h1 ?_
    intro u2 s' kp' ans' ctx' h2
    exact xi_bad hfl (by omega) h2 K
  · intro post u bs bl H h hQH K
    refine yt_after hg hi hT h eT hS eS hx hc ?_
    refine hY _ u bs bl H h hQH ?_
    intro u1 H1 h1
    exact ty_A_bad hg hx1.2.1 (lk_x_get hx1 hT) h1 hfl eT hS (lk_x_get hx1 hAi) fun u' h' => K u' H1 h'
/-- between two children: on to the next -/
theorem ph_go {A A1 : List (List dk_T)} {tk tk1 l i s r m W ic2 : Nat} {kp kp1 : Int32} {pre S suf : List dk_T} {t : dk_T} {x c rs : List dk_T} {Q Q2 : dk_H → Prop} {ctx1 ctx2 ctx : List Nat} (hg : ga_ok g) (hi : dk_inv g A) (hT : A[b0]? = some T) (eT : T = pre ++ S ++ suf) (hS : dk_fo S 1) (eS : S = t :: (x ++ (c ++ rs))) (hx : dk_fo x m) (hc : 0 < c.length) (hrs : 0 < rs.length) (hs0 : 0 < s) (hs4 : s ≤ 4) (hW : 0 < W) (hx1 : lk_x g A A1 tk1) (hX : ∀ (post : Int32 → SX → Prop) (u : SX) (bs : Nat) (bl : Int32) (f : Nat) (B : dk_B), f ≤ 190 → xf_R g A bs tk bl f i (s + 1) kp (nI r) ctx1 B u → (∀ u' ans', xf_R g A1 bs tk1 bl f i (s + 1) kp1 ans' ctx2 B u' → wpX_visit post u' (nI ic2)) → xv_stepVisit_58 post (nI f) (nI i) (nI s) u) (hY : ∀ (post : Int32 → SY → Prop) (u : SY) (bs : Nat) (bl : Int32) (H : dk_H), yf_R g A bs tk bl H u → Q H → (∀ u' H' rr', ¬ rr' < 0 → yf_R g A1 bs tk1 bl H' u' → Q2 H' → (∀ j, j < pre.length → H'.1 j = H.1 j ∧ H'.2 j = H.2 j) → post rr' u') → wpY_afterChild post u (nI (120 * b0)) (nI (120 * b0 + pre.length)) (nI (120 * b0 + (pre.length + 1 + x.length)))) (V : vp_O g T b0 A1 tk1 pre.length l i (s + 1) kp1 ic2 (pre.length + 1 + x.length + c.length) Q2 ctx2 ctx W) : ph_O g T b0 A tk pre.length l i s kp r (pre.length + 1 + x.length) (pre.length + 1 + x.length + c.length) Q ctx1 ctx W := by
  obtain ⟨A', tk', hx2, hout⟩ := V
  refine ⟨A', tk', lk_x_trans hx1 hx2, ?_⟩
  have hT1 := lk_x_get hx1 hT
  rcases hout with ⟨r', hr', hX2, hY2⟩ | ⟨rr, bi, hfl, hX2, hY2⟩
  · refine Or.inl ⟨r', hr', ?_, ?_⟩
    · intro post x q u bs bl f B h hq hf K
      refine xl_later (by omega) (by omega) hs0 hs4 h fun u1 h1 => ?_
      refine hX _ u1 bs bl f B (by omega) h1 ?_
      intro u2 ans' h2
      exact hX2 post q u2 bs bl f ans' B h2 hq hf K
    · intro post u bs bl H h hQH K
      refine yt_after hg hi hT h eT hS eS hx hc ?_
      refine hY _ u bs bl H h hQH ?_
      intro u1 H1 rr' hrr h1 hQ1 hs1
      refine ty_A_next hg hx1.2.1 hT1 h1 hrr eT hS eS hx hc hrs ?_
      refine hY2 post u1 bs bl H1 h1 hQ1 ?_
      intro u2 H2 h2 hs2 hp2
      refine K u2 H2 h2 ?_ hp2
      intro j hj
      obtain ⟨a1, b1⟩ := hs2 j hj
      obtain ⟨a2, b2⟩ := hs1 j hj
      exact ⟨a1.trans a2, b1.trans b2⟩
  · refine Or.inr ⟨rr, bi, hfl, ?_, ?_⟩
    · intro post x q u bs bl f B h hq hf K
      refine xl_later (by omega) (by omega) hs0 hs4 h fun u1 h1 => ?_
      refine hX _ u1 bs bl f B (by omega) h1 ?_
      intro u2 ans' h2
      exact hX2 post q u2 bs bl f ans' B h2 hq hf K
    · intro post u bs bl H h hQH K
      refine yt_after hg hi hT h eT hS eS hx hc ?_
      refine hY _ u bs bl H h hQH ?_
      intro u1 H1 rr' hrr h1 hQ1 hs1
      refine ty_A_next hg hx1.2.1 hT1 h1 hrr eT hS eS hx hc hrs ?_
      exact hY2 post u1 bs bl H1 h1 hQ1 K
/-- behind the last child -/
theorem ph_last {A A' : List (List dk_T)} {tk tk' i s r m : Nat} {kp rr : Int32} {pre S suf : List dk_T} {t : dk_T} {x c : List dk_T} {Q : dk_H → Prop} {ctx1 ctx : List Nat} (hg : ga_ok g) (hi : dk_inv g A) (hT : A[b0]? = some T) (eT : T = pre ++ S ++ suf) (hS : dk_fo S 1) (hAi : A[i]? = some S) (eS : S = t :: (x ++ (c ++ []))) (hx : dk_fo x m) (hc : 0 < c.length) (hs0 : 0 < s) (hs4 : s ≤ 4) (hx1 : lk_x g A A' tk') (hr : lk_r A' rr) (hA : ∀ (post : Int32 → SY → Prop) (u : SY) (bs : Nat) (bl : Int32) (H : dk_H), yf_R g A bs tk bl H u → Q H → post 1 u → wpY_afterChild post u (nI (120 * b0)) (nI (120 * b0 + pre.length)) (nI (120 * b0 + (pre.length + 1 + x.length)))) (hX : ∀ (post : Int32 → SX → Prop) (u : SX) (bs : Nat) (bl : Int32) (f : Nat) (B : dk_B), f ≤ 190 → xf_R g A bs tk bl f i (s + 1) kp (nI r) ctx1 B u → (∀ u' s' kp' ans', xf_R g A' bs tk' bl f i s' kp' ans' ctx B u' → post rr u') → xv_stepVisit_58 post (nI f) (nI i) (nI s) u) (hY : ∀ (post : Int32 → SY → Prop) (u : SY) (bs : Nat) (bl : Int32) (H : dk_H), yf_R g A bs tk bl H u → Q H → (∀ u', yf_R g A' bs tk' bl H u' → post rr u') → wpY_finish post u (nI (120 * b0)) (nI (120 * b0 + pre.length))) : ph_O g T b0 A tk pre.length S.length i s kp r (pre.length + 1 + x.length) (pre.length + 1 + x.length + c.length) Q ctx1 ctx 1 := by
  have hb := dk_bd_pos (dk_inv_bd hg hi) hT
  have hlen : T.length = pre.length + (S.length + suf.length) := by rw [eT]; simp
  have hSl : S.length = 1 + (x.length + c.length) := by rw [eS]; simp; omega
  have he : pre.length + 1 + x.length + c.length = pre.length + S.length := by omega
  have hAl' : A'.length ≤ 256 := (dk_inv_bd hg hx1.2.1).1
  have yin : ∀ (post : Int32 → SY → Prop) (u : SY) (bs : Nat) (bl : Int32) (H : dk_H), yf_R g A bs tk bl H u → Q H → (∀ u', yf_R g A' bs tk' bl H u' → ty_F post (120 * b0) T.length (pre.length + S.length) pre.length rr u') → ty_C post (120 * b0) T.length (pre.length + 1 + x.length + c.length) (pre.length + 1 + x.length) (nI r) u := by
    intro post u bs bl H h hQH K
    rw [he]
    refine yt_after hg hi hT h eT hS eS hx hc ?_
    refine hA _ u bs bl H h hQH ?_
    refine ty_A_last hg hi hT h (by decide) eT hS eS hx hc ?_
    exact hY _ u bs bl H h hQH K
  refine ⟨A', tk', hx1, ?_⟩
  rcases hr with hfl | ⟨r', e, hr'⟩
  · refine Or.inr ⟨rr, i, hfl, ?_, ?_⟩
    · intro post x q u bs bl f B h hq hf K
      refine xl_later (by omega) (by omega) hs0 hs4 h fun u1 h1 => ?_
      refine hX _ u1 bs bl f B (by omega) h1 ?_
      intro u2 s' kp' ans' h2
      exact xi_bad hfl (by omega) h2 K
    · intro post u bs bl H h hQH K
      refine yin post u bs bl H h hQH ?_
      intro u1 h1
      exact ty_F_bad hg hx1.2.1 (lk_x_get hx1 hT) h1 hfl eT rfl hS (lk_x_get hx1 hAi) K
  · subst e
    refine Or.inl ⟨r', hr', ?_, ?_⟩
    · intro post x q u bs bl f B h hq hf K
      refine xl_later (by omega) (by omega) hs0 hs4 h fun u1 h1 => ?_
      refine hX _ u1 bs bl f B (by omega) h1 ?_
      intro u2 s' kp' ans' h2
      refine xi_ok (by omega) h2 fun u3 h3 => K u3 (q + 1) (by omega) h3
    · intro post u bs bl H h hQH K
      refine yin post u bs bl H h hQH ?_
      intro u1 h1
      refine ty_F_ok (by omega) (by omega) hb.1 h1 fun u2 h2 => K u2 _ h2 ?_ ?_
      · intro j hj
        refine ⟨?_, rfl⟩
        show upd H.1 pre.length (nI r') j = _
        rw [pk_un (by omega)]
      · show upd H.1 pre.length (nI r') pre.length = _
        rw [pk_us]
/-- a visit that begins with its first child -/
theorem iv_open {A : List (List dk_T)} {tk i ic : Nat} {pre S suf : List dk_T} {t : dk_T} {c rs : List dk_T} {Q : dk_H → Prop} {ctx : List Nat} {W : Nat} (hg : ga_ok g) (hi : dk_inv g A) (hT : A[b0]? = some T) (htk : tk ≤ ga_FL g) (eT : T = pre ++ S ++ suf) (hS : dk_fo S 1) (hAi : A[i]? = some S) (eS : S = t :: (c ++ rs)) (hc : 0 < c.length) (h11 : t.1 ≠ 11) (hW0 : 0 < W) (hW : W ≤ 5 * S.length) (hQ0 : ∀ H : dk_H, cx_Y T pre.length H.2 ctx → Q H) (hX : ∀ (post : Int32 → SX → Prop) (u : SX) (bs : Nat) (bl : Int32) (f : Nat) (ans : Int32) (B : dk_B), f ≤ 190 → xf_R g A bs (tk + 1) bl f i 1 0 ans ctx B u → wpX_visit post u (nI ic) → xv_stepVisit_58 post (nI f) (nI i) (nI 0) u) (V : tk < ga_FL g → vp_O g T b0 A (tk + 1) pre.length S.length i 1 0 ic (pre.length + 1) Q ctx ctx W) : iv_O g T b0 A tk i pre.length S.length ctx := by
  have hb := dk_bd_pos (dk_inv_bd hg hi) hT
  have hlen : T.length = pre.length + (S.length + suf.length) := by rw [eT]; simp
  have hSl : S.length = 1 + (c.length + rs.length) := by rw [eS]; simp; omega
  have hne : ∀ q, q < pre.length + 1 → dk_ne T q (pre.length + 1) := by
    intro q hq
    by_cases h2 : q = pre.length
    · subst h2
      exact dk_ne_self eT hS (by omega)
    · exact dk_ne_out eT hS (by omega) (by omega) (by omega)
  by_cases hlt : tk < ga_FL g
  · obtain ⟨A', tk', hx2, hout⟩ := V hlt
    refine ⟨A', tk', hx2, ?_⟩
    have yin : ∀ (post : Int32 → SY → Prop) (u : SY) (bs : Nat) (bl : Int32) (H : dk_H), yf_R g A bs tk bl H u → (∀ u', yf_R g A bs (tk + 1) bl H u' → yv_typing_14 post (nI (120 * b0)) (nI (120 * b0 + T.length)) (T.length - (pre.length + 1) + 1) (nI (120 * b0 + (pre.length + 1))) u') → yv_typing_14 post (nI (120 * b0)) (nI (120 * b0 + T.length)) (T.length - pre.length + 1) (nI (120 * b0 + pre.length)) u := by
      intro post u bs bl H h K
      refine yt_open hg hi hT h htk eT hS eS hAi rfl (fun z => absurd hlt (by omega)) (fun _ z => absurd z h11) ?_
      intro _ _ u1 h1
      have := yt_next (post := post) (x5 := 1) (x6 := nI (120 * b0 + pre.length)) (e := pre.length + 1) (hi' := pre.length + 1) hg hi hT h1 (by decide) (by omega) (by omega) (by omega) hne (K u1 h1)
      rw [show nI (120 * b0 + (pre.length + 1)) + (-1) = nI (120 * b0 + pre.length) from by rw [show 120 * b0 + (pre.length + 1) = 120 * b0 + pre.length + 1 from by omega, pk_m1]] at this
      exact this
    rcases hout with ⟨r', hr', hX2, hY2⟩ | ⟨rr, bi, hfl, hX2, hY2⟩
    · refine Or.inl ⟨r', hr', ?_, ?_⟩
      · intro post x q u bs bl f ans B h hq hf K
        refine xl_first hg (by omega) (by omega) htk h (fun z => absurd hlt (by omega)) fun _ u1 h1 => ?_
        refine hX _ u1 bs bl f ans B (by omega) h1 ?_
        exact hX2 post q u1 bs bl f ans B h1 (by omega) hf fun u' q' hq' h' => K u' q' (by omega) h'
      · intro post u bs bl H h hcx K
        refine yin post u bs bl H h fun u1 h1 => ?_
        exact hY2 post u1 bs bl H h1 (hQ0 H hcx) K
    · refine Or.inr ⟨rr, bi, hfl, ?_, ?_⟩
      · intro post x q u bs bl f ans B h hq hf K
        refine xl_first hg (by omega) (by omega) htk h (fun z => absurd hlt (by omega)) fun _ u1 h1 => ?_
        refine hX _ u1 bs bl f ans B (by omega) h1 ?_
        exact hX2 post q u1 bs bl f ans B h1 (by omega) hf K
      · intro post u bs bl H h hcx K
        refine yin post u bs bl H h fun u1 h1 => ?_
        exact hY2 post u1 bs bl H h1 (hQ0 H hcx) K
  · refine ⟨A, tk, ⟨⟨[], by simp⟩, hi, htk⟩, Or.inr ⟨-4, i, Or.inr (Or.inl rfl), ?_, ?_⟩⟩
    · intro post x q u bs bl f ans B h hq hf K
      refine xl_first hg (by omega) (by omega) htk h (fun _ u1 h1 => xi_bad (Or.inr (Or.inl rfl)) (by omega) h1 K) fun z => absurd z hlt
    · intro post u bs bl H h hcx K
      exact yt_open hg hi hT h htk eT hS eS hAi rfl (fun _ u' h' => K u' H h') (fun z => absurd z hlt) (fun z => absurd z hlt)
/-- a visit without children -/
theorem iv_leaf {A : List (List dk_T)} {tk i : Nat} {pre S suf : List dk_T} {t : dk_T} {ctx : List Nat} (hg : ga_ok g) (hi : dk_inv g A) (hT : A[b0]? = some T) (htk : tk ≤ ga_FL g) (eT : T = pre ++ S ++ suf) (hS : dk_fo S 1) (hAi : A[i]? = some S) (eS : S = [t]) (h11 : t.1 ≠ 11) (N : tk < ga_FL g → ∃ (rr : Int32) (A' : List (List dk_T)), lk_x g A A' (tk + 1) ∧ lk_r A' rr ∧ (∀ (post : Int32 → SX → Prop) (u : SX) (bs : Nat) (bl : Int32) (f : Nat) (ans : Int32) (B : dk_B), xf_R g A bs (tk + 1) bl f i 1 0 ans ctx B u → (∀ u', xf_R g A' bs (tk + 1) bl f i 1 0 ans ctx B u' → post rr u') → xv_stepVisit_58 post (nI f) (nI i) (nI 0) u) ∧ (∀ (post : Int32 → SY → Prop) (u : SY) (bs : Nat) (bl : Int32) (H : dk_H), yf_R g A bs (tk + 1) bl H u → cx_Y T pre.length H.2 ctx → (∀ u', yf_R g A' bs (tk + 1) bl H u' → post rr u') → wpY_finish post u (nI (120 * b0)) (nI (120 * b0 + pre.length)))) : iv_O g T b0 A tk i pre.length S.length ctx := by
  have hb := dk_bd_pos (dk_inv_bd hg hi) hT
  have hlen : T.length = pre.length + (S.length + suf.length) := by rw [eT]; simp
  have hSl : S.length = 1 := by rw [eS]; rfl
  by_cases hlt : tk < ga_FL g
  · obtain ⟨rr, A', hx1, hr, hX, hY⟩ := N hlt
    have hAl' : A'.length ≤ 256 := (dk_inv_bd hg hx1.2.1).1
    have yin : ∀ (post : Int32 → SY → Prop) (u : SY) (bs : Nat) (bl : Int32) (H : dk_H), yf_R g A bs tk bl H u → cx_Y T pre.length H.2 ctx → (∀ u', yf_R g A' bs (tk + 1) bl H u' → ty_F post (120 * b0) T.length (pre.length + 1) pre.length rr u') → yv_typing_14 post (nI (120 * b0)) (nI (120 * b0 + T.length)) (T.length - pre.length + 1) (nI (120 * b0 + pre.length)) u := by
      intro post u bs bl H h hcx K
      refine yt_open hg hi hT h htk eT hS eS hAi rfl (fun z => absurd hlt (by omega)) (fun _ z => absurd z h11) ?_
      intro _ _ u1 h1
      refine yt_fin hg hi hT h1 (by decide) eT rfl hS (by omega) ?_
      exact hY _ u1 bs bl H h1 hcx K
    refine ⟨A', tk + 1, hx1, ?_⟩
    rcases hr with hfl | ⟨r', e, hr'⟩
    · refine Or.inr ⟨rr, i, hfl, ?_, ?_⟩
      · intro post x q u bs bl f ans B h hq hf K
        refine xl_first hg (by omega) (by omega) htk h (fun z => absurd hlt (by omega)) fun _ u1 h1 => ?_
        exact hX _ u1 bs bl f ans B h1 fun u2 h2 => xi_bad hfl (by omega) h2 K
      · intro post u bs bl H h hcx K
        exact yin post u bs bl H h hcx fun u1 h1 => ty_F_bad hg hx1.2.1 (lk_x_get hx1 hT) h1 hfl eT rfl hS (lk_x_get hx1 hAi) K
    · subst e
      refine Or.inl ⟨r', hr', ?_, ?_⟩
      · intro post x q u bs bl f ans B h hq hf K
        refine xl_first hg (by omega) (by omega) htk h (fun z => absurd hlt (by omega)) fun _ u1 h1 => ?_
        exact hX _ u1 bs bl f ans B h1 fun u2 h2 => xi_ok (by omega) h2 fun u3 h3 => K u3 (q + 1) (by omega) h3
      · intro post u bs bl H h hcx K
        refine yin post u bs bl H h hcx fun u1 h1 => ?_
        rw [hSl] at K
        refine ty_F_ok (by omega) (by omega) hb.1 h1 fun u2 h2 => K u2 _ h2 ?_ ?_
        · intro j hj
          refine ⟨?_, rfl⟩
          show upd H.1 pre.length (nI r') j = _
          rw [pk_un (by omega)]
        · show upd H.1 pre.length (nI r') pre.length = _
          rw [pk_us]
  · refine ⟨A, tk, ⟨⟨[], by simp⟩, hi, htk⟩, Or.inr ⟨-4, i, Or.inr (Or.inl rfl), ?_, ?_⟩⟩
    · intro post x q u bs bl f ans B h hq hf K
      refine xl_first hg (by omega) (by omega) htk h (fun _ u1 h1 => xi_bad (Or.inr (Or.inl rfl)) (by omega) h1 K) fun z => absurd z hlt
    · intro post u bs bl H h hcx K
      exact yt_open hg hi hT h htk eT hS eS hAi rfl (fun _ u' h' => K u' H h') (fun z => absurd z hlt) (fun z => absurd z hlt)
end
end
section
/-! INFER by kind: leaves, FUN, SUC -/
section
variable {g : dk_G} {T : List dk_T} {b0 : Nat} {A : List (List dk_T)} {tk i : Nat} {pre S suf : List dk_T} {t : dk_T} {ctx : List Nat}
theorem dk_kid {cs : List (List dk_T)} {c : List dk_T} (hi : dk_inv g A) (hA : A[i]? = some (t :: cs.flatten)) (hcs : ∀ c ∈ cs, dk_fo c 1) (hc : c ∈ cs) : ∃ ic : Nat, A[ic]? = some c := by
  have hs : dk_sub c (t :: cs.flatten) := dk_sub_child hcs hc
  have hl : c.length ≤ cs.flatten.length := by
    obtain ⟨x, y, e⟩ := List.append_of_mem hc
    rw [e]; simp; omega
  obtain ⟨j, _, hj⟩ := hi.2.2.2.1 i _ c hA hs (by
    intro z
    have : c.length = (t :: cs.flatten).length := by rw [← z]
    simp only [List.length_cons] at this
    omega)
  exact ⟨j, hj⟩
theorem xl_part {bs : Nat} {bl : Int32} {f s : Nat} {kp ans : Int32} {ctx1 : List Nat} {B : dk_B} {u : SX} {cs : List (List dk_T)} {c : List dk_T} {j ic : Nat} (hi : dk_inv g A) (h : xf_R g A bs tk bl f i s kp ans ctx1 B u) (hA : A[i]? = some (t :: cs.flatten)) (hcs : ∀ c ∈ cs, dk_fo c 1) (hl : cs.length = dk_ar t.1) (hj : cs[j]? = some c) (hic : A[ic]? = some c) : xg_part u (4 * i + j) = nI ic := by
  obtain ⟨_, _, h3⟩ := xl_node hi h hA hcs hl
  obtain ⟨ic', e1, e2⟩ := h3 j c hj
  rw [dk_idx hi.2.1 hic e1]; exact e2
theorem dk_A4 (hi : dk_inv g A) : 4 ≤ A.length := by
  have := (List.getElem?_eq_some_iff.mp hi.2.2.2.2.2.2.2).1
  omega
theorem iv_fun {l : List dk_T} (hg : ga_ok g) (hi : dk_inv g A) (hT : A[b0]? = some T) (htk : tk ≤ ga_FL g) (eT : T = pre ++ S ++ suf) (hS : dk_fo S 1) (hAi : A[i]? = some S) (eS : S = t :: l) (h11 : t.1 = 11) : iv_O g T b0 A tk i pre.length S.length ctx := by
  have hb := dk_bd_pos (dk_inv_bd hg hi) hAi
  have hS1 := dk_fo_len hS
  have fl := hS
  rw [eS] at fl
  obtain ⟨cs, hl, ecs, hcs⟩ := dk_fo_kids fl.2
  rw [show 1 - 1 + dk_ar t.1 = dk_ar t.1 from by omega] at hl
  have hA' : A[i]? = some (t :: cs.flatten) := by rw [ecs, ← eS]; exact hAi
  by_cases hlt : tk < ga_FL g
  · refine ⟨A, tk + 1, ⟨⟨[], by simp⟩, hi, by omega⟩, Or.inr ⟨-6, i, Or.inr (Or.inr (Or.inr (Or.inl rfl))), ?_, ?_⟩⟩
    · intro post x q u bs bl f ans B h hq hf K
      refine xl_first hg (by omega) (by omega) htk h (fun z => absurd hlt (by omega)) fun _ u1 h1 => ?_
      have hn := xl_node hi h1 hA' hcs hl
      have bad := xi_bad (post := post) (q := q) (Or.inr (Or.inr (Or.inr (Or.inl rfl)))) (by omega) h1 K
      refine x58_pre (t := t) hb.1 hn.1 (by rw [h11]; unfold dk_kk; decide) ?_ ?_ ?_ ?_ ?_ ?_ ?_ ?_ ?_ (fun _ => bad)
      all_goals (intro z; rw [h11] at z; exact absurd z (by decide))
    · intro post u bs bl H h hcx K
      exact yt_open hg hi hT h htk eT hS eS hAi rfl (fun z => absurd hlt (by omega)) (fun _ _ u' h' => K u' H h') (fun _ z => absurd h11 z)
  · refine ⟨A, tk, ⟨⟨[], by simp⟩, hi, htk⟩, Or.inr ⟨-4, i, Or.inr (Or.inl rfl), ?_, ?_⟩⟩
    · intro post x q u bs bl f ans B h hq hf K
      refine xl_first hg (by omega) (by omega) htk h (fun _ u1 h1 => xi_bad (Or.inr (Or.inl rfl)) (by omega) h1 K) fun z => absurd z hlt
    · intro post u bs bl H h hcx K
      exact yt_open hg hi hT h htk eT hS eS hAi rfl (fun _ u' h' => K u' H h') (fun z => absurd z hlt) (fun z => absurd z hlt)
theorem iv_leaves (hg : ga_ok g) (hi : dk_inv g A) (hE : dk_ev g A) (hT : A[b0]? = some T) (htk : tk ≤ ga_FL g) (eT : T = pre ++ S ++ suf) (hS : dk_fo S 1) (hAi : A[i]? = some S) (eS : S = [t]) (hcl : ctx.length ≤ pre.length) (hctx : ∀ c ∈ ctx, c < A.length) (hk : t.1 = 1 ∨ t.1 = 2 ∨ t.1 = 3 ∨ t.1 = 10 ∨ t.1 = 5) : iv_O g T b0 A tk i pre.length S.length ctx := by
  have hb := dk_bd_pos (dk_inv_bd hg hi) hAi
  have hbT := dk_bd_pos (dk_inv_bd hg hi) hT
  have hAl : A.length ≤ 256 := (dk_inv_bd hg hi).1
  have h4 := dk_A4 hi
  have hlen : T.length = pre.length + (S.length + suf.length) := by rw [eT]; simp
  have h11 : t.1 ≠ 11 := fun z => by rw [z] at hk; exact absurd hk (by decide)
  have har : dk_ar t.1 = 0 := by rcases hk with z | z | z | z | z <;> rw [z] <;> decide
  have hkk : dk_kk t.1 := by rcases hk with z | z | z | z | z <;> rw [z] <;> (unfold dk_kk; decide)
  have hA' : A[i]? = some (t :: ([] : List (List dk_T)).flatten) := by rw [hAi, eS]; rfl
  refine iv_leaf hg hi hT htk eT hS hAi eS h11 fun hlt => ?_
  have hxA : lk_x g A A (tk + 1) := ⟨⟨[], by simp⟩, hi, by omega⟩
  -- X at a leaf
  have xin : ∀ (post : Int32 → SX → Prop) (u : SX) (bs : Nat) (bl : Int32) (f : Nat) (ans : Int32) (B : dk_B), xf_R g A bs (tk + 1) bl f i 1 0 ans ctx B u → (t.1 = 1 → t.2 = 0 → post 1 u) → (t.1 = 1 → ¬ t.2 = 0 → post (-6) u) → (t.1 = 2 → post 0 u) → (t.1 = 3 → post 2 u) → (t.1 = 5 → wpX_typeOfVariable (fun r u' => post r u') u t.2) → (t.1 = 10 → wpX_typeOfEntry (fun r => post r u) u t.2) → xv_stepVisit_58 post (nI f) (nI i) (nI 0) u := by
    intro post u bs bl f ans B h k1 k1' k2 k3 k5 k10
    obtain ⟨n1, n2, _⟩ := xl_node hi h hA' (by simp) (by rw [har]; rfl)
    have hp := n2 har
    refine x58_pre (t := t) (s := 0) hb.1 n1 hkk ?_ k2 k3 ?_ ?_ ?_ ?_ ?_ ?_ ?_
    · intro z
      rw [hp]
      exact ⟨vp_in_nI (by omega) (by omega), br_c (k1 z) (k1' z)⟩
    · intro z; rw [z] at hk; exact absurd hk (by decide)
    · intro z
      rw [hp]
      exact ⟨vp_in_nI (by omega) (by omega), k5 z⟩
    · intro z
      rcases z with z | z <;> (rw [z] at hk; exact absurd hk (by decide))
    · intro z; rw [z] at hk; exact absurd hk (by decide)
    · intro z; rw [z] at hk; exact absurd hk (by decide)
    · intro z
      rw [hp]
      exact ⟨vp_in_nI (by omega) (by omega), k10 z⟩
    · intro z; exact absurd z h11
  have two : ∀ {a b : Int32}, t.1 = a → t.1 = b → a ≠ b → False := fun h1 h2 h3 => h3 (h1.symm.trans h2)
  rcases hk with z | z | z | z | z
  · by_cases h0 : t.2 = 0
    · refine ⟨1, A, hxA, Or.inr ⟨1, rfl, by omega⟩, ?_, ?_⟩
      · intro post u bs bl f ans B h K
        exact xin post u bs bl f ans B h (fun _ _ => K u h) (fun _ w => absurd h0 w) (fun w => (two z w (by decide)).elim) (fun w => (two z w (by decide)).elim) (fun w => (two z w (by decide)).elim) (fun w => (two z w (by decide)).elim)
      · intro post u bs bl H h hcx K
        exact yf_leaf hg hi hT h eT eS (fun _ _ => K u h) (fun _ w => absurd h0 w) (fun w => (two z w (by decide)).elim) (fun w => (two z w (by decide)).elim) (fun w => (two z w (by decide)).elim) (fun w => (two z w (by decide)).elim) (Or.inl z)
    · refine ⟨-6, A, hxA, Or.inl (Or.inr (Or.inr (Or.inr (Or.inl rfl)))), ?_, ?_⟩
      · intro post u bs bl f ans B h K
        exact xin post u bs bl f ans B h (fun _ w => absurd w h0) (fun _ _ => K u h) (fun w => (two z w (by decide)).elim) (fun w => (two z w (by decide)).elim) (fun w => (two z w (by decide)).elim) (fun w => (two z w (by decide)).elim)
      · intro post u bs bl H h hcx K
        exact yf_leaf hg hi hT h eT eS (fun _ w => absurd w h0) (fun _ _ => K u h) (fun w => (two z w (by decide)).elim) (fun w => (two z w (by decide)).elim) (fun w => (two z w (by decide)).elim) (fun w => (two z w (by decide)).elim) (Or.inl z)
  · refine ⟨0, A, hxA, Or.inr ⟨0, rfl, by omega⟩, ?_, ?_⟩
    · intro post u bs bl f ans B h K
      exact xin post u bs bl f ans B h (fun w => (two z w (by decide)).elim) (fun w => (two z w (by decide)).elim) (fun _ => K u h) (fun w => (two z w (by decide)).elim) (fun w => (two z w (by decide)).elim) (fun w => (two z w (by decide)).elim)
    · intro post u bs bl H h hcx K
      exact yf_leaf hg hi hT h eT eS (fun w => (two z w (by decide)).elim) (fun w => (two z w (by decide)).elim) (fun _ => K u h) (fun w => (two z w (by decide)).elim) (fun w => (two z w (by decide)).elim) (fun w => (two z w (by decide)).elim) (Or.inr (Or.inl z))
  · refine ⟨2, A, hxA, Or.inr ⟨2, rfl, by omega⟩, ?_, ?_⟩
    · intro post u bs bl f ans B h K
      exact xin post u bs bl f ans B h (fun w => (two z w (by decide)).elim) (fun w => (two z w (by decide)).elim) (fun w => (two z w (by decide)).elim) (fun _ => K u h) (fun w => (two z w (by decide)).elim) (fun w => (two z w (by decide)).elim)
    · intro post u bs bl H h hcx K
      exact yf_leaf hg hi hT h eT eS (fun w => (two z w (by decide)).elim) (fun w => (two z w (by decide)).elim) (fun w => (two z w (by decide)).elim) (fun _ => K u h) (fun w => (two z w (by decide)).elim) (fun w => (two z w (by decide)).elim) (Or.inr (Or.inr (Or.inl z)))
  · have hgd := (dk_inv_gd hi hAi).1
    obtain ⟨j, hj, ej⟩ := (hgd.2 t (by rw [eS]; simp)).2.2 z
    obtain ⟨_, _, ⟨x, hx, ex⟩⟩ := hE j hj
    have hne : ga_ne g ≤ 16 := by have := hg.2.2.2.2.2.2.2; omega
    refine ⟨nI x, A, hxA, Or.inr ⟨x, rfl, hx⟩, ?_, ?_⟩
    · intro post u bs bl f ans B h K
      refine xin post u bs bl f ans B h (fun w => (two z w (by decide)).elim) (fun w => (two z w (by decide)).elim) (fun w => (two z w (by decide)).elim) (fun w => (two z w (by decide)).elim) (fun w => (two z w (by decide)).elim) fun _ => ?_
      have h' := h
      obtain ⟨⟨F, T', cap, O, hR⟩, _⟩ := h'
      rw [xe_typeOfEntry, xe_isEntry, ej, hR.1.2.2.2.2.1, hR.1.2.2.2.2.2.2.2, nI_clamp (by omega), ex]
      exact br_f (nI_pos (by omega)) (br_f (nI_ge hj (by omega)) (br_f (by decide) ⟨vp_in_nI (by omega) (by omega), K u h⟩))
    · intro post u bs bl H h hcx K
      refine yf_leaf hg hi hT h eT eS (fun w => (two z w (by decide)).elim) (fun w => (two z w (by decide)).elim) (fun w => (two z w (by decide)).elim) (fun w => (two z w (by decide)).elim) (fun _ => ?_) (fun w => (two z w (by decide)).elim) (Or.inr (Or.inr (Or.inr (Or.inl z))))
      have h' := h
      obtain ⟨m, d, O, hR, hA⟩ := h'
      rw [ye_typeOf, ej, hR.1.2.2.2.2.1, hR.1.2.2.2.2.2.2.2.1, nI_clamp (by omega), ex]
      exact br_f (nI_pos (by omega)) (br_t (nI_lt hj (by omega)) ⟨vp_in_nI (by omega) (by omega), K u h⟩)
  · obtain ⟨rr, A', hx1, hr, hX, hY⟩ := lk_lookup hg hi hT (p := pre.length) (ctx := ctx) (show tk + 1 ≤ ga_FL g by omega) (by omega) (by omega) hctx t.2
    refine ⟨rr, A', hx1, hr, ?_, ?_⟩
    · intro post u bs bl f ans B h K
      refine xin post u bs bl f ans B h (fun w => (two z w (by decide)).elim) (fun w => (two z w (by decide)).elim) (fun w => (two z w (by decide)).elim) (fun w => (two z w (by decide)).elim) (fun _ => ?_) (fun w => (two z w (by decide)).elim)
      exact hX _ u bs bl f i 1 0 ans B h K
    · intro post u bs bl H h hcx K
      refine yf_leaf hg hi hT h eT eS (fun w => (two z w (by decide)).elim) (fun w => (two z w (by decide)).elim) (fun w => (two z w (by decide)).elim) (fun w => (two z w (by decide)).elim) (fun w => (two z w (by decide)).elim) (fun _ => ?_) (Or.inr (Or.inr (Or.inr (Or.inr z))))
      exact hY _ u bs bl H h hcx K
/-- what stays known of a place and its context -/
theorem cx_keep {p pc : Nat} {H H' : dk_H} (hp : p ≤ pc) (h : cx_Y T p H.2 ctx) (hs : ∀ j, j < pc → H'.1 j = H.1 j ∧ H'.2 j = H.2 j) : cx_Y T p H'.2 ctx := cx_Y_congr h fun j hj => (hs j (by omega)).2
theorem iv_suc {k : Nat} (hg : ga_ok g) (IH : iv_P g T b0 k) (hk : S.length ≤ k + 1) (hi : dk_inv g A) (hE : dk_ev g A) (hT : A[b0]? = some T) (htk : tk ≤ ga_FL g) (eT : T = pre ++ S ++ suf) (hS : dk_fo S 1) (hAi : A[i]? = some S) (hcl : ctx.length ≤ pre.length) (hctx : ∀ c ∈ ctx, c < A.length) {c : List dk_T} (eS : S = t :: c) (h4 : t.1 = 4) (hc : dk_fo c 1) : iv_O g T b0 A tk i pre.length S.length ctx := by
  have hb := dk_bd_pos (dk_inv_bd hg hi) hAi
  have hTf := (dk_bd_pos (dk_inv_bd hg hi) hT).2.1
  have hc1 := dk_fo_len hc
  have hSl : S.length = 1 + c.length := by rw [eS]; simp; omega
  have eS1 : S = t :: (c ++ []) := by rw [eS]; simp
  have eS2 : S = t :: ([] ++ (c ++ [])) := by rw [eS]; simp
  have hA' : A[i]? = some (t :: [c].flatten) := by rw [hAi, eS]; simp
  have hcs : ∀ x ∈ [c], dk_fo x 1 := by simpa using hc
  have hl : [c].length = dk_ar t.1 := by rw [h4, show dk_ar 4 = 1 from by decide]; rfl
  have hkk : dk_kk t.1 := by rw [h4]; unfold dk_kk; decide
  obtain ⟨ic, hic⟩ := dk_kid hi hA' hcs (c := c) (by simp)
  have hover : ∀ q, dk_over T pre.length q = false := by
    intro q
    have e1 : T = pre ++ t :: (c ++ suf) := by rw [eT, eS]; simp
    have hT' := hTf
    rw [e1] at hT'
    obtain ⟨k2, _, hf2⟩ := dk_fo_suf hT' (by simp)
    exact (dk_over_spec (p := q) e1 rfl hf2).2.2 (by rw [h4]; decide)
  have two : ∀ {a b : Int32}, t.1 = a → t.1 = b → a ≠ b → False := fun h1 h2 h3 => h3 (h1.symm.trans h2)
  have x58 : ∀ {A1 : List (List dk_T)} {tk1 : Nat} (_ : lk_x g A A1 tk1) (post : Int32 → SX → Prop) (u : SX) (bs : Nat) (bl : Int32) (f s : Nat) (kp ans : Int32) (ctx1 : List Nat) (B : dk_B) (s0 : Nat), xf_R g A1 bs tk1 bl f i s kp ans ctx1 B u → wpX_stepSuc (fun r u' => post r u') u (nI i) (nI s0) → xv_stepVisit_58 post (nI f) (nI i) (nI s0) u := by
    intro A1 tk1 hx post u bs bl f s kp ans ctx1 B s0 h K
    have hn := xl_node hx.2.1 h (lk_x_get hx hA') hcs hl
    refine x58_pre (t := t) hb.1 hn.1 hkk ?_ ?_ ?_ (fun _ => K) ?_ ?_ ?_ ?_ ?_ ?_
    all_goals (intro w; rw [h4] at w; exact absurd w (by decide))
  refine iv_open (c := c) (rs := []) (ic := ic) (Q := fun H => cx_Y T pre.length H.2 ctx) (W := 1 + 5 * c.length + 1) hg hi hT htk eT hS hAi eS1 (by omega) (by rw [h4]; decide) (by omega) (by omega) (fun H h => h) ?_ fun hlt => ?_
  · intro post u bs bl f ans B hf h K
    have hn := xl_node hi h hA' hcs hl
    have go : wpX_stepSuc (fun r u' => post r u') u (nI i) (nI 0) := by
      rw [xe_stepSuc, show (4 : Int32) * nI i = nI (4 * i) from pk_mul 4 i, nI_clamp (by omega)]
      refine br_t rfl ⟨vp_in_nI (by omega) (by omega), ?_⟩
      rw [show xg_part u (4 * i) = nI ic from xl_part (j := 0) hi h hA' hcs hl rfl hic]
      exact K
    refine x58_pre (t := t) hb.1 hn.1 hkk ?_ ?_ ?_ (fun _ => go) ?_ ?_ ?_ ?_ ?_ ?_
    all_goals (intro w; rw [h4] at w; exact absurd w (by decide))
  · have hxA : lk_x g A A (tk + 1) := ⟨⟨[], by simp⟩, hi, by omega⟩
    refine ph_child (pre' := pre ++ [t]) (suf' := suf) IH (by omega) (by rw [eT, eS]; simp) (by simp) hc hi hE hT hic (by omega) (by omega) hctx (by omega) (by omega) ?_ ?_ ?_
    · intro H hQ
      exact cx_Y_same hTf eT hS eS2 (m := 0) rfl (by omega) (hover _) hQ
    · intro H H' hQ hs
      exact cx_keep (by omega) hQ hs
    · intro A1 tk1 r1 hx1 hr1
      have hAl1 : A1.length ≤ 256 := (dk_inv_bd hg hx1.2.1).1
      have hx11 : lk_x g A1 A1 tk1 := ⟨⟨[], by simp⟩, hx1.2.1, hx1.2.2⟩
      have hA1 := dk_A4 hx1.2.1
      refine ph_last (x := []) (m := 0) (rr := if r1 = 2 then 2 else -9) hg hx1.2.1 (lk_x_get hx1 hT) eT hS (lk_x_get hx1 hAi) eS2 rfl (by omega) (by omega) (by omega) hx11 ?_ ?_ ?_ ?_
      · by_cases h2 : r1 = 2
        · rw [if_pos h2]; exact Or.inr ⟨2, rfl, by omega⟩
        · rw [if_neg h2]; exact Or.inl (Or.inr (Or.inr (Or.inr (Or.inr (Or.inr (Or.inr (Or.inl rfl)))))))
      · intro post u bs bl H h hQ K
        refine ya_pre hg hx1.2.1 (lk_x_get hx1 hT) h eT eS1 hc (by omega) (by simp; omega) ?_
        rw [h4]
        exact ya_plain (by decide) (by decide) (by decide) (by decide) K
      · intro post u bs bl f B hf h K
        refine x58 hx1 post u bs bl f _ _ _ _ B 1 h ?_
        rw [xe_stepSuc, h.2.2.2.2.2.1]
        refine br_f (by decide) (br_c (fun w => ?_) fun w => ?_)
        · have : r1 = 2 := (nI_eq (by omega) (by decide)).mp w
          have K' := K u _ _ _ h
          rw [if_pos this] at K'
          exact K'
        · have : r1 ≠ 2 := fun z => w (by rw [z]; rfl)
          have K' := K u _ _ _ h
          rw [if_neg this] at K'
          exact K'
      · intro post u bs bl H h hQ K
        have hH : H.1 (pre.length + 1) = nI r1 := hQ.2
        refine yf_node hg hx1.2.1 (lk_x_get hx1 hT) h eT eS1 hc ?_ ?_ (fun w => absurd h4 w) (fun w => (two h4 w (by decide)).elim) (fun w => (two h4 w (by decide)).elim) (fun w => (two h4 w (by decide)).elim) (fun w => (two h4 w (by decide)).elim) (Or.inl h4)
        · intro _ w
          rw [hH] at w
          have : r1 = 2 := (nI_eq (by omega) (by decide)).mp w
          have K' := K u h
          rw [if_pos this] at K'
          exact K'
        · intro _ w
          rw [hH] at w
          have : r1 ≠ 2 := fun z => w (by rw [z]; rfl)
          have K' := K u h
          rw [if_neg this] at K'
          exact K'
end
end
section
/-! INFER by kind: PI and LAM -/
section
variable {g : dk_G} {T : List dk_T} {b0 : Nat} {A : List (List dk_T)} {tk i : Nat} {pre S suf : List dk_T} {t : dk_T} {ctx : List Nat}
/-- X's stepBinder is what is asked at a PI or LAM -/
theorem xb_in {bs : Nat} {bl : Int32} {f s s0 : Nat} {kp ans : Int32} {ctx1 : List Nat} {B : dk_B} {u : SX} {post : Int32 → SX → Prop} {cs : List (List dk_T)} (hb : i < 256) (hi : dk_inv g A) (h : xf_R g A bs tk bl f i s kp ans ctx1 B u) (hA : A[i]? = some (t :: cs.flatten)) (hcs : ∀ c ∈ cs, dk_fo c 1) (hl : cs.length = dk_ar t.1) (hk : t.1 = 6 ∨ t.1 = 7) (K : wpX_stepBinder (fun r u' => post r u') u (nI f) (nI i) (nI s0)) : xv_stepVisit_58 post (nI f) (nI i) (nI s0) u := by
  have hn := xl_node hi h hA hcs hl
  refine x58_pre (t := t) hb hn.1 (by rcases hk with z | z <;> rw [z] <;> (unfold dk_kk; decide)) ?_ ?_ ?_ ?_ ?_ (fun _ => K) ?_ ?_ ?_ ?_
  all_goals (intro w; rw [w] at hk; exact absurd hk (by decide))
theorem nI_120 (k : Nat) : nI k * 120 = nI (120 * k) := by
  rw [show (120 : Int32) = nI 120 from rfl, pk_mul, Nat.mul_comm]
/-- Y's aux, set -/
theorem yf_aux {bs : Nat} {bl : Int32} {H : dk_H} {u : SY} {p : Nat} {v : Int32} (h : yf_R g A bs tk bl H u) : yf_R g A bs tk bl (H.1, upd H.2 p v) (ys_aux (upd (yg_aux u) p v) u) := by
  obtain ⟨m, d, O, hR, hA⟩ := h
  refine ⟨m, d, O, ⟨hR.1, hR.2.1, hR.2.2.1, ⟨hR.2.2.2.1.1, ?_⟩, hR.2.2.2.2⟩, hA⟩
  show upd (yg_aux u) p v = upd H.2 p v
  rw [hR.2.2.2.1.2]
/-- the last step of a PI or LAM -/
theorem ph_binder2 {dm r1 : Nat} {d b : List dk_T} (hg : ga_ok g) (hi : dk_inv g A) (hT : A[b0]? = some T) (htk : tk ≤ ga_FL g) (eT : T = pre ++ S ++ suf) (hS : dk_fo S 1) (hAi : A[i]? = some S) (hcl : ctx.length ≤ pre.length) (eS : S = t :: (d ++ b)) (hk : t.1 = 6 ∨ t.1 = 7) (hd : dk_fo d 1) (hbf : dk_fo b 1) (hdm : dm < A.length) (hr1 : r1 < A.length) : ph_O g T b0 A tk pre.length S.length i 2 (nI dm) r1 (pre.length + 1 + d.length) (pre.length + 1 + d.length + b.length) (fun H => (cx_Y T pre.length H.2 ctx ∧ H.2 pre.length = nI dm) ∧ H.1 (pre.length + 1 + d.length) = nI r1) (dm :: ctx) ctx 1 := by
  have hb := dk_bd_pos (dk_inv_bd hg hi) hAi
  have hbT := dk_bd_pos (dk_inv_bd hg hi) hT
  have hAl : A.length ≤ 256 := (dk_inv_bd hg hi).1
  have hlen : T.length = pre.length + (S.length + suf.length) := by rw [eT]; simp
  have hb1 := dk_fo_len hbf
  have hSl : S.length = 1 + (d.length + b.length) := by rw [eS]; simp; omega
  have eS2 : S = t :: (d ++ (b ++ [])) := by rw [eS]; simp
  have hA' : A[i]? = some (t :: [d, b].flatten) := by rw [hAi, eS]; simp
  have hcs : ∀ x ∈ [d, b], dk_fo x 1 := by
    intro x hx
    simp at hx
    rcases hx with z | z <;> rw [z] <;> assumption
  have hl : [d, b].length = dk_ar t.1 := by rcases hk with z | z <;> rw [z] <;> rfl
  have hxA : lk_x g A A tk := ⟨⟨[], by simp⟩, hi, htk⟩
  have hAf : ∀ (post : Int32 → SY → Prop) (u : SY) (bs : Nat) (bl : Int32) (H : dk_H), yf_R g A bs tk bl H u → ((cx_Y T pre.length H.2 ctx ∧ H.2 pre.length = nI dm) ∧ H.1 (pre.length + 1 + d.length) = nI r1) → post 1 u → wpY_afterChild post u (nI (120 * b0)) (nI (120 * b0 + pre.length)) (nI (120 * b0 + (pre.length + 1 + d.length))) := by
    intro post u bs bl H h hQ K
    refine ya_pre hg hi hT h eT eS hd (by omega) (by omega) ?_
    rw [decide_eq_false (by have := dk_fo_len hd; omega)]
    exact ya_binder2 hk K
  -- X's last step
  have xin : ∀ (post : Int32 → SX → Prop) (u : SX) (bs : Nat) (bl : Int32) (f : Nat) (B : dk_B), f ≤ 190 → xf_R g A bs tk bl f i 3 (nI dm) (nI r1) (dm :: ctx) B u → (∀ u', xf_R g A bs tk bl f i 3 (nI dm) (nI r1) ctx B u' → ((t.1 = 6 → ((r1 ≤ 1 → post (nI r1) u') ∧ (1 < r1 → post (-7) u'))) ∧ (t.1 = 7 → ((r1 = 1 → post (-11) u') ∧ (r1 ≠ 1 → wpX_enterProduct (fun r u => post r u) u' (nI dm) (nI r1)))))) → xv_stepVisit_58 post (nI f) (nI i) (nI 2) u := by
    intro post u bs bl f B hf h K
    refine xb_in hb.1 hi h hA' hcs hl hk ?_
    rw [xe_stepBinder]
    refine br_f (by decide) (br_f (by decide) (xl_pop (by omega) h fun u1 h1 => ?_))
    have hn := xl_node hi h1 hA' hcs hl
    obtain ⟨k6, k7⟩ := K u1 h1
    rw [nI_clamp (by omega), hn.1, h1.2.2.2.2.2.1, nI_clamp (by omega), h1.2.2.2.2.1]
    refine ⟨vp_in_nI hb.1 (by omega), br_c (fun w => xl_isUniverse (by omega) (fun z => br_f (by decide) ((k6 w).1 z)) fun z => br_t rfl ((k6 w).2 z)) fun w => ?_⟩
    have k7 := k7 (hk.resolve_left w)
    refine br_c (fun z => k7.1 ((nI_eq (by omega) (by decide)).mp z)) fun z => ⟨vp_in_nI (by omega) (by omega), k7.2 (fun y => z (by rw [y]; rfl))⟩
  by_cases h6 : t.1 = 6
  · have n7 : t.1 ≠ 7 := fun z => by rw [h6] at z; exact absurd z (by decide)
    have two : ∀ {a b : Int32}, t.1 = a → t.1 = b → a ≠ b → False := fun h1 h2 h3 => h3 (h1.symm.trans h2)
    by_cases hr : r1 ≤ 1
    · refine ph_last (x := d) (m := 1) (rr := nI r1) hg hi hT eT hS hAi eS2 hd (by omega) (by omega) (by omega) hxA (Or.inr ⟨r1, rfl, hr1⟩) hAf ?_ ?_
      · intro post u bs bl f B hf h K
        exact xin post u bs bl f B hf h fun u' h' => ⟨fun _ => ⟨fun _ => K u' _ _ _ h', fun z => absurd hr (by omega)⟩, fun z => absurd z n7⟩
      · intro post u bs bl H h hQ K
        have hH : H.1 (pre.length + 1 + d.length) = nI r1 := hQ.2
        refine yf_node hg hi hT h eT eS hd (fun w => (two h6 w (by decide)).elim) (fun w => (two h6 w (by decide)).elim) (fun _ => by omega) (fun _ => ?_) (fun w => (two h6 w (by decide)).elim) (fun w => (two h6 w (by decide)).elim) (fun w => (two h6 w (by decide)).elim) (Or.inr (Or.inl h6))
        rw [hH]
        exact br_t (nI_le (b := 1) hr (by decide)) (K u h)
    · refine ph_last (x := d) (m := 1) (rr := -7) hg hi hT eT hS hAi eS2 hd (by omega) (by omega) (by omega) hxA (Or.inl (Or.inr (Or.inr (Or.inr (Or.inr (Or.inl rfl)))))) hAf ?_ ?_
      · intro post u bs bl f B hf h K
        exact xin post u bs bl f B hf h fun u' h' => ⟨fun _ => ⟨fun z => absurd z hr, fun _ => K u' _ _ _ h'⟩, fun z => absurd z n7⟩
      · intro post u bs bl H h hQ K
        have hH : H.1 (pre.length + 1 + d.length) = nI r1 := hQ.2
        refine yf_node hg hi hT h eT eS hd (fun w => (two h6 w (by decide)).elim) (fun w => (two h6 w (by decide)).elim) (fun _ => by omega) (fun _ => ?_) (fun w => (two h6 w (by decide)).elim) (fun w => (two h6 w (by decide)).elim) (fun w => (two h6 w (by decide)).elim) (Or.inr (Or.inl h6))
        rw [hH]
        exact br_f (nI_ge (a := 1) (by omega) (by omega)) (K u h)
  · have h7 : t.1 = 7 := hk.resolve_left h6
    have two : ∀ {a b : Int32}, t.1 = a → t.1 = b → a ≠ b → False := fun h1 h2 h3 => h3 (h1.symm.trans h2)
    by_cases hr : r1 = 1
    · refine ph_last (x := d) (m := 1) (rr := -11) hg hi hT eT hS hAi eS2 hd (by omega) (by omega) (by omega) hxA (Or.inl (Or.inr (Or.inr (Or.inr (Or.inr (Or.inr (Or.inr (Or.inr rfl)))))))) hAf ?_ ?_
      · intro post u bs bl f B hf h K
        exact xin post u bs bl f B hf h fun u' h' => ⟨fun z => absurd z h6, fun _ => ⟨fun _ => K u' _ _ _ h', fun z => absurd hr z⟩⟩
      · intro post u bs bl H h hQ K
        have hH : H.1 (pre.length + 1 + d.length) = nI r1 := hQ.2
        refine yf_node hg hi hT h eT eS hd (fun w => (two h7 w (by decide)).elim) (fun w => (two h7 w (by decide)).elim) (fun _ => by omega) (fun w => (two h7 w (by decide)).elim) (fun w => (two h7 w (by decide)).elim) (fun _ => ?_) (fun w => (two h7 w (by decide)).elim) (Or.inr (Or.inr (Or.inr (Or.inl h7))))
        rw [hH, hr]
        exact br_t rfl (K u h)
    · obtain ⟨rr, A', hno, hX, hY⟩ := lk_product hg htk hi (List.getElem?_eq_getElem hdm) (List.getElem?_eq_getElem hr1)
      refine ph_last (x := d) (m := 1) (rr := rr) hg hi hT eT hS hAi eS2 hd (by omega) (by omega) (by omega) (lk_no_x hno) (lk_no_r hno) hAf ?_ ?_
      · intro post u bs bl f B hf h K
        exact xin post u bs bl f B hf h fun u' h' => ⟨fun z => absurd z h6, fun _ => ⟨fun z => absurd z hr, fun _ => xf_call hX h' fun u'' h'' => K u'' _ _ _ h''⟩⟩
      · intro post u bs bl H h hQ K
        have hH : H.1 (pre.length + 1 + d.length) = nI r1 := hQ.2
        have hH2 : H.2 pre.length = nI dm := hQ.1.2
        refine yf_node hg hi hT h eT eS hd (fun w => (two h7 w (by decide)).elim) (fun w => (two h7 w (by decide)).elim) (fun _ => by omega) (fun w => (two h7 w (by decide)).elim) (fun w => (two h7 w (by decide)).elim) (fun _ => ?_) (fun w => (two h7 w (by decide)).elim) (Or.inr (Or.inr (Or.inr (Or.inl h7))))
        rw [hH, hH2, nI_120]
        refine br_f (fun z => hr ((nI_eq (by omega) (by decide)).mp z)) ?_
        obtain ⟨m, dd, O, hR, hA⟩ := h
        rw [ye_finish_237]
        refine yl_put (py_out0 hR) fun u1 h1 => br_t rfl ?_
        rw [nI_120]
        exact hY _ u1 bs bl H m dd h1 hA fun u' m' d' O' h2 h3 => K u' ⟨m', d', O', h2, h3⟩
theorem iv_binder {k : Nat} (hg : ga_ok g) (IH : iv_P g T b0 k) (hkk : S.length ≤ k + 1) (hi : dk_inv g A) (hE : dk_ev g A) (hT : A[b0]? = some T) (htk : tk ≤ ga_FL g) (eT : T = pre ++ S ++ suf) (hS : dk_fo S 1) (hAi : A[i]? = some S) (hcl : ctx.length ≤ pre.length) (hctx : ∀ c ∈ ctx, c < A.length) {d b : List dk_T} (eS : S = t :: (d ++ b)) (hk : t.1 = 6 ∨ t.1 = 7) (hd : dk_fo d 1) (hbf : dk_fo b 1) : iv_O g T b0 A tk i pre.length S.length ctx := by
  have hb := dk_bd_pos (dk_inv_bd hg hi) hAi
  have hbT := dk_bd_pos (dk_inv_bd hg hi) hT
  have hTf := hbT.2.1
  have hd1 := dk_fo_len hd
  have hb1 := dk_fo_len hbf
  have hlen : T.length = pre.length + (S.length + suf.length) := by rw [eT]; simp
  have hSl : S.length = 1 + (d.length + b.length) := by rw [eS]; simp; omega
  have eS0 : S = t :: ([] ++ (d ++ b)) := by rw [eS]; simp
  have eS1 : S = t :: (d ++ (b ++ [])) := by rw [eS]; simp
  have hA' : A[i]? = some (t :: [d, b].flatten) := by rw [hAi, eS]; simp
  have hcs : ∀ x ∈ [d, b], dk_fo x 1 := by
    intro x hx
    simp at hx
    rcases hx with z | z <;> rw [z] <;> assumption
  have hl : [d, b].length = dk_ar t.1 := by rcases hk with z | z <;> rw [z] <;> rfl
  obtain ⟨ic, hic⟩ := dk_kid hi hA' hcs (c := d) (by simp)
  obtain ⟨ib, hib⟩ := dk_kid hi hA' hcs (c := b) (by simp)
  have n11 : t.1 ≠ 11 := fun z => by rw [z] at hk; exact absurd hk (by decide)
  have hov : ∀ q, dk_over T pre.length q = (decide (pre.length + 1 + d.length ≤ q) && decide (q < pre.length + 1 + d.length + b.length)) := by
    intro q
    have e1 : T = pre ++ t :: (d ++ (b ++ suf)) := by rw [eT, eS]; simp
    have hT' := hTf
    rw [e1] at hT'
    obtain ⟨k2, _, hf2⟩ := dk_fo_suf hT' (by simp)
    obtain ⟨d', c', r', el, fd, fc, eo⟩ := (dk_over_spec (p := q) e1 rfl hf2).2.1 (by rcases hk with z | z <;> simp [z])
    obtain ⟨z1, z2⟩ := dk_fo_pre hd fd el
    obtain ⟨z3, _⟩ := dk_fo_pre hbf fc z2
    rw [eo, ← z1, ← z3]
  have hpl : ∀ {A1 : List (List dk_T)}, A1[b0]? = some T → dk_pl A1 (120 * b0 + (pre.length + 1)) d := by
    intro A1 h1
    exact ⟨b0, pre ++ [t], b ++ suf, by rw [h1, eT, eS]; simp, by simp⟩
  refine iv_open (c := d) (rs := b) (ic := ic) (Q := fun H => cx_Y T pre.length H.2 ctx) (W := 1 + 5 * d.length + (1 + 5 * b.length + 1)) hg hi hT htk eT hS hAi eS (by omega) n11 (by omega) (by omega) (fun H h => h) ?_ fun hlt => ?_
  · intro post u bs bl f ans B hf h K
    refine xb_in hb.1 hi h hA' hcs hl hk ?_
    rw [xe_stepBinder, show (4 : Int32) * nI i = nI (4 * i) from pk_mul 4 i, nI_clamp (by omega)]
    refine br_t rfl ⟨vp_in_nI (by omega) (by omega), ?_⟩
    rw [show xg_part u (4 * i) = nI ic from xl_part (j := 0) hi h hA' hcs hl rfl hic]
    exact K
  · refine ph_child (pre' := pre ++ [t]) (suf' := b ++ suf) IH (by omega) (by rw [eT, eS]; simp) (by simp) hd hi hE hT hic (by omega) (by omega) hctx (by omega) (by omega) ?_ ?_ ?_
    · intro H hQ
      refine cx_Y_same hTf eT hS eS0 (m := 0) rfl (by omega) ?_ hQ
      rw [hov, decide_eq_false (by simp; omega), Bool.false_and]
    · intro H H' hQ hs
      exact cx_keep (by omega) hQ hs
    · intro A1 tk1 r0 hx1 hr0
      have hi1 := hx1.2.1
      have hT1 := lk_x_get hx1 hT
      have hAi1 := lk_x_get hx1 hAi
      have hA1' := lk_x_get hx1 hA'
      have hAl1 : A1.length ≤ 256 := (dk_inv_bd hg hi1).1
      have hx11 : lk_x g A1 A1 tk1 := ⟨⟨[], by simp⟩, hi1, hx1.2.2⟩
      -- Y's afterChild
      have yin : ∀ (post : Int32 → SY → Prop) (u : SY) (bs : Nat) (bl : Int32) (H : dk_H), yf_R g A1 bs tk1 bl H u → H.1 (pre.length + 1) = nI r0 → (1 < r0 → post (-7) u) → (r0 ≤ 1 → wpY_normErased (fun r u' => (vp_in (nI (120 * b0 + pre.length) - nI (120 * b0)) 120 ∧ ∀ a : Nat → Int32, a = upd (yg_aux u') (nI (120 * b0 + pre.length) - nI (120 * b0)).toNatClampNeg r → (vp_in (nI (120 * b0 + pre.length) - nI (120 * b0)) 120 ∧ (post (a (nI (120 * b0 + pre.length) - nI (120 * b0)).toNatClampNeg) (ys_aux a u'))))) u (nI (120 * b0 + (pre.length + 1)))) → wpY_afterChild post u (nI (120 * b0)) (nI (120 * b0 + pre.length)) (nI (120 * b0 + (pre.length + 1))) := by
        intro post u bs bl H h hH k1 k2
        refine ya_pre hg hi1 hT1 h eT eS hd (by omega) (by omega) ?_
        rw [decide_eq_true rfl, hH]
        exact ya_binder1 hk (by omega) k1 k2
      -- X's second step
      have xin : ∀ (post : Int32 → SX → Prop) (u : SX) (bs : Nat) (bl : Int32) (f : Nat) (B : dk_B), f ≤ 190 → xf_R g A1 bs tk1 bl f i 2 0 (nI r0) ctx B u → (1 < r0 → post (-7) u) → (r0 ≤ 1 → wpX_normNode (fun r u' => (((0 ≤ r → (vp_in (nI f) 256 ∧ ∀ a : Nat → Int32, a = upd (xg_frameKeep u') f r → (wpX_pushContext (fun u2 => (vp_in (nI (4 * i + 1)) 1024 ∧ (wpX_visit (fun r3 u3 => (post r3 u3)) u2 ((xg_part u2) (4 * i + 1))))) (xs_frameKeep a u') r))) ∧ (¬ 0 ≤ r → (post r u'))))) u (nI ic)) → xv_stepVisit_58 post (nI f) (nI i) (nI 1) u := by
        intro post u bs bl f B hf h k1 k2
        refine xb_in hb.1 hi1 h hA1' hcs hl hk ?_
        rw [xe_stepBinder, show (4 : Int32) * nI i = nI (4 * i) from pk_mul 4 i, nI_clamp (n := 4 * i) (by omega), show xg_part u (4 * i) = nI ic from xl_part (j := 0) hi1 h hA1' hcs hl rfl (lk_x_get hx1 hic), h.2.2.2.2.2.1]
        refine br_f (by decide) (br_t rfl (xl_isUniverse (by omega) (fun z => br_f (by decide) ⟨vp_in_nI (by omega) (by omega), ?_⟩) fun z => br_t rfl (k1 z)))
        rw [show (nI (4 * i) + 1 : Int32) = nI (4 * i + 1) from nI_add _ 1, nI_clamp (by omega), nI_clamp (by omega)]
        exact k2 z
      by_cases hr : r0 ≤ 1
      · obtain ⟨rr, A2, tk2, hno, hX, hY⟩ := lk_normNode hg hx1.2.2 hi1 (lk_x_ev hx1 hE) (lk_x_get hx1 hic) (hpl hT1)
        have hx2 := lk_no_x hno
        rcases lk_no_r hno with hfl | ⟨dm, e, hdm⟩
        · obtain ⟨_, f2, f3⟩ := dk_fl_neg hfl
          refine ph_bad (x := []) (m := 0) (rs := b) (rr := rr) hg hi1 hT1 eT hS hAi1 eS0 rfl (by omega) (by omega) (by omega) (by omega) hfl hx2 ?_ ?_
          · intro post u bs bl f B hf h K
            refine xin post u bs bl f B hf h (fun z => absurd hr (by omega)) fun _ => ?_
            exact xf_call hX h fun u' h' => br_f f2 (K u' _ _ _ _ h')
          · intro post u bs bl H h hQ K
            refine yin post u bs bl H h hQ.2 (fun z => absurd hr (by omega)) fun _ => ?_
            refine yf_call hY h fun u' h' => ?_
            rw [pk_sub (by omega), show 120 * b0 + pre.length - 120 * b0 = pre.length from by omega, nI_clamp (by omega)]
            refine ⟨vp_in_nI (by omega) (by omega), nm_e ⟨vp_in_nI (by omega) (by omega), ?_⟩⟩
            rw [pk_us]
            exact K _ _ (yf_aux h')
        · subst e
          have hAl2 : A2.length ≤ 256 := (dk_inv_bd hg hx2.2.1).1
          have hx12 := lk_x_trans hx1 hx2
          refine ph_go (x := []) (m := 0) (rs := b) (ic2 := ib) (kp1 := nI dm) (ctx2 := dm :: ctx) (Q2 := fun H => cx_Y T pre.length H.2 ctx ∧ H.2 pre.length = nI dm) hg hi1 hT1 eT hS eS0 rfl (by omega) (by omega) (by omega) (by omega) (by omega) hx2 ?_ ?_ ?_
          · intro post u bs bl f B hf h K
            refine xin post u bs bl f B hf h (fun z => absurd hr (by omega)) fun _ => ?_
            refine xf_call hX h fun u' h' => br_t (nI_pos' (by omega)) ⟨vp_in_nI (by omega) (by omega), nm_e ?_⟩
            refine xl_push (by omega) (xf_keep h') fun u2 h2 => ⟨vp_in_nI (by omega) (by omega), ?_⟩
            rw [show xg_part u2 (4 * i + 1) = nI ib from xl_part (j := 1) hx2.2.1 h2 (lk_x_get hx2 hA1') hcs hl rfl (lk_x_get hx12 hib)]
            exact K u2 _ h2
          · intro post u bs bl H h hQ K
            refine yin post u bs bl H h hQ.2 (fun z => absurd hr (by omega)) fun _ => ?_
            refine yf_call hY h fun u' h' => ?_
            rw [pk_sub (by omega), show 120 * b0 + pre.length - 120 * b0 = pre.length from by omega, nI_clamp (by omega)]
            refine ⟨vp_in_nI (by omega) (by omega), nm_e ⟨vp_in_nI (by omega) (by omega), ?_⟩⟩
            rw [pk_us]
            refine K _ _ _ (nI_pos (by omega)) (yf_aux h') ⟨?_, ?_⟩ ?_
            · refine cx_Y_congr hQ.1 ?_
              intro j hj
              show upd H.2 pre.length (nI dm) j = _
              rw [pk_un (by omega)]
            · show upd H.2 pre.length (nI dm) pre.length = _
              rw [pk_us]
            · intro j hj
              refine ⟨rfl, ?_⟩
              show upd H.2 pre.length (nI dm) j = _
              rw [pk_un (by omega)]
          · refine ph_child (pre' := pre ++ t :: d) (suf' := suf) IH (by omega) (by rw [eT, eS]; simp) (by simp; omega) hbf hx2.2.1 (lk_x_ev hx12 hE) (lk_x_get hx12 hT) (lk_x_get hx12 hib) hx2.2.2 (by simp; omega) ?_ (by omega) (by simp; omega) ?_ ?_ ?_
            · intro y hy
              rcases List.mem_cons.mp hy with z | z
              · rw [z]; exact hdm
              · have := hctx y z
                have := lk_x_len hx12
                omega
            · intro H hQ
              refine cx_Y_push hTf eT hS eS1 (m := 1) hd (by omega) ?_ hQ.2 hQ.1
              rw [hov, decide_eq_true (by omega), decide_eq_true (by omega)]; rfl
            · intro H H' hQ hs
              exact ⟨cx_keep (by simp; omega) hQ.1 hs, by rw [(hs pre.length (by simp; omega)).2]; exact hQ.2⟩
            · intro A3 tk3 r1 hx3 hr1
              have hx13 := lk_x_trans hx12 hx3
              exact ph_binder2 hg hx3.2.1 (lk_x_get hx13 hT) hx3.2.2 eT hS (lk_x_get hx13 hAi) hcl eS hk hd hbf (by have := lk_x_len hx3; omega) hr1
      · refine ph_bad (x := []) (m := 0) (rs := b) (rr := -7) hg hi1 hT1 eT hS hAi1 eS0 rfl (by omega) (by omega) (by omega) (by omega) (Or.inr (Or.inr (Or.inr (Or.inr (Or.inl rfl))))) hx11 ?_ ?_
        · intro post u bs bl f B hf h K
          exact xin post u bs bl f B hf h (fun _ => K u _ _ _ _ h) fun z => absurd z hr
        · intro post u bs bl H h hQ K
          exact yin post u bs bl H h hQ.2 (fun _ => K u H h) fun z => absurd z hr
end
end
section
/-! INFER by kind: APP -/
section
variable {g : dk_G} {T : List dk_T} {b0 : Nat} {A : List (List dk_T)} {tk i : Nat} {pre S suf : List dk_T} {t : dk_T} {ctx : List Nat}
theorem xa_in {bs : Nat} {bl : Int32} {f s s0 : Nat} {kp ans : Int32} {ctx1 : List Nat} {B : dk_B} {u : SX} {post : Int32 → SX → Prop} {cs : List (List dk_T)} (hb : i < 256) (hi : dk_inv g A) (h : xf_R g A bs tk bl f i s kp ans ctx1 B u) (hA : A[i]? = some (t :: cs.flatten)) (hcs : ∀ c ∈ cs, dk_fo c 1) (hl : cs.length = dk_ar t.1) (hk : t.1 = 8) (K : wpX_stepApp (fun r u' => post r u') u (nI f) (nI i) (nI s0)) : xv_stepVisit_58 post (nI f) (nI i) (nI s0) u := by
  have hn := xl_node hi h hA hcs hl
  refine x58_pre (t := t) hb hn.1 (by rw [hk]; unfold dk_kk; decide) ?_ ?_ ?_ ?_ ?_ ?_ (fun _ => K) ?_ ?_ ?_
  all_goals (intro w; rw [hk] at w; exact absurd w (by decide))
/-- a node's head, in both -/
theorem dk_head {r : Nat} {R : List dk_T} (hi : dk_inv g A) (hR : A[r]? = some R) : ∃ (q : dk_T) (cs : List (List dk_T)), R = q :: cs.flatten ∧ (∀ c ∈ cs, dk_fo c 1) ∧ cs.length = dk_ar q.1 := by
  have hf := (dk_inv_gd hi hR).1.1
  obtain ⟨q, l, e, fl⟩ := dk_fo_pos (n := 0) hf
  rw [Nat.zero_add] at fl
  obtain ⟨cs, h1, h2, h3⟩ := dk_fo_kids fl
  exact ⟨q, cs, by rw [e, h2], h3, h1⟩
theorem iv_app {k : Nat} (hg : ga_ok g) (IH : iv_P g T b0 k) (hkk : S.length ≤ k + 1) (hi : dk_inv g A) (hE : dk_ev g A) (hT : A[b0]? = some T) (htk : tk ≤ ga_FL g) (eT : T = pre ++ S ++ suf) (hS : dk_fo S 1) (hAi : A[i]? = some S) (hcl : ctx.length ≤ pre.length) (hctx : ∀ c ∈ ctx, c < A.length) {d b : List dk_T} (eS : S = t :: (d ++ b)) (hk : t.1 = 8) (hd : dk_fo d 1) (hbf : dk_fo b 1) : iv_O g T b0 A tk i pre.length S.length ctx := by
  have hb := dk_bd_pos (dk_inv_bd hg hi) hAi
  have hbT := dk_bd_pos (dk_inv_bd hg hi) hT
  have hTf := hbT.2.1
  have hd1 := dk_fo_len hd
  have hb1 := dk_fo_len hbf
  have hlen : T.length = pre.length + (S.length + suf.length) := by rw [eT]; simp
  have hSl : S.length = 1 + (d.length + b.length) := by rw [eS]; simp; omega
  have eS0 : S = t :: ([] ++ (d ++ b)) := by rw [eS]; simp
  have eS1 : S = t :: (d ++ (b ++ [])) := by rw [eS]; simp
  have hA' : A[i]? = some (t :: [d, b].flatten) := by rw [hAi, eS]; simp
  have hcs : ∀ x ∈ [d, b], dk_fo x 1 := by
    intro x hx
    simp at hx
    rcases hx with z | z <;> rw [z] <;> assumption
  have hl : [d, b].length = dk_ar t.1 := by rw [hk]; rfl
  obtain ⟨ic, hic⟩ := dk_kid hi hA' hcs (c := d) (by simp)
  obtain ⟨ib, hib⟩ := dk_kid hi hA' hcs (c := b) (by simp)
  have two : ∀ {a b : Int32}, t.1 = a → t.1 = b → a ≠ b → False := fun h1 h2 h3 => h3 (h1.symm.trans h2)
  have hov : ∀ q, dk_over T pre.length q = false := by
    intro q
    have e1 : T = pre ++ t :: (d ++ (b ++ suf)) := by rw [eT, eS]; simp
    have hT' := hTf
    rw [e1] at hT'
    obtain ⟨k2, _, hf2⟩ := dk_fo_suf hT' (by simp)
    exact (dk_over_spec (p := q) e1 rfl hf2).2.2 (by rw [hk]; decide)
  have hplb : ∀ {A1 : List (List dk_T)}, A1[b0]? = some T → dk_pl A1 (120 * b0 + (pre.length + 1 + d.length)) b := by
    intro A1 h1
    exact ⟨b0, pre ++ t :: d, suf, by rw [h1, eT, eS]; simp, by simp; omega⟩
  refine iv_open (c := d) (rs := b) (ic := ic) (Q := fun H => cx_Y T pre.length H.2 ctx) (W := 1 + 5 * d.length + (1 + 5 * b.length + 1)) hg hi hT htk eT hS hAi eS (by omega) (by rw [hk]; decide) (by omega) (by omega) (fun H h => h) ?_ fun hlt => ?_
  · intro post u bs bl f ans B hf h K
    refine xa_in hb.1 hi h hA' hcs hl hk ?_
    rw [xe_stepApp, show (4 : Int32) * nI i = nI (4 * i) from pk_mul 4 i, nI_clamp (n := 4 * i) (by omega)]
    refine br_t rfl ⟨vp_in_nI (by omega) (by omega), ?_⟩
    rw [show xg_part u (4 * i) = nI ic from xl_part (j := 0) hi h hA' hcs hl rfl hic]
    exact K
  · refine ph_child (pre' := pre ++ [t]) (suf' := b ++ suf) IH (by omega) (by rw [eT, eS]; simp) (by simp) hd hi hE hT hic (by omega) (by omega) hctx (by omega) (by omega) ?_ ?_ ?_
    · intro H hQ
      exact cx_Y_same hTf eT hS eS0 (m := 0) rfl (by omega) (hov _) hQ
    · intro H H' hQ hs
      exact cx_keep (by omega) hQ hs
    · intro A1 tk1 r0 hx1 hr0
      have hi1 := hx1.2.1
      have hT1 := lk_x_get hx1 hT
      have hAi1 := lk_x_get hx1 hAi
      have hA1' := lk_x_get hx1 hA'
      have hbd1 := dk_inv_bd hg hi1
      have hAl1 : A1.length ≤ 256 := hbd1.1
      have hx11 : lk_x g A1 A1 tk1 := ⟨⟨[], by simp⟩, hi1, hx1.2.2⟩
      have hR0 := List.getElem?_eq_getElem hr0
      obtain ⟨q0, cs0, eR0, hcs0, hl0⟩ := dk_head hi1 hR0
      have hb0r := dk_bd_pos hbd1 hR0
      -- Y's afterChild
      have yin : ∀ (post : Int32 → SY → Prop) (u : SY) (bs : Nat) (bl : Int32) (H : dk_H), yf_R g A1 bs tk1 bl H u → H.1 (pre.length + 1) = nI r0 → (q0.1 = 6 → post 1 u) → (q0.1 ≠ 6 → post (-8) u) → wpY_afterChild post u (nI (120 * b0)) (nI (120 * b0 + pre.length)) (nI (120 * b0 + (pre.length + 1))) := by
        intro post u bs bl H h hH k1 k2
        refine ya_pre hg hi1 hT1 h eT eS hd (by omega) (by omega) ?_
        rw [decide_eq_true rfl, hH, hk]
        refine ya_app1 ?_
        rw [nI_120]
        obtain ⟨hnm, _⟩ := yf_T hg hi1 hT1 h
        obtain ⟨m, dd, O, hR, hA⟩ := h
        have s := py_low hR (hA r0 _ hR0) (by omega)
        rw [eR0] at s
        exact yl_kind hnm s.1.1 s.1.2 (by omega) (br_c k1 k2)
      -- X's second step
      have xin : ∀ (post : Int32 → SX → Prop) (u : SX) (bs : Nat) (bl : Int32) (f : Nat) (B : dk_B), f ≤ 190 → xf_R g A1 bs tk1 bl f i 2 0 (nI r0) ctx B u → (q0.1 = 6 → wpX_visit (fun r3 u3 => (post r3 u3)) (xs_frameKeep (upd (xg_frameKeep u) f (nI r0)) u) (nI ib)) → (q0.1 ≠ 6 → post (-8) u) → xv_stepVisit_58 post (nI f) (nI i) (nI 1) u := by
        intro post u bs bl f B hf h k1 k2
        have h' := h
        obtain ⟨⟨F, T', cap, O, hR⟩, _⟩ := h'
        have hkr : xg_kind u r0 = q0.1 := by
          obtain ⟨⟨ds, d1, _⟩, _⟩ := hR.2.1.2 r0 _ hR0
          rw [eR0] at d1
          injection d1 with e1 _
          exact (congrArg Prod.fst e1).symm
        refine xa_in hb.1 hi1 h hA1' hcs hl hk ?_
        rw [xe_stepApp, show (4 : Int32) * nI i = nI (4 * i) from pk_mul 4 i, show (nI (4 * i) + 1 : Int32) = nI (4 * i + 1) from nI_add _ 1, nI_clamp (n := 4 * i + 1) (by omega), h.2.2.2.2.2.1, nI_clamp (n := r0) (by omega), hkr, nI_clamp (n := f) (by omega), show xg_part u (4 * i + 1) = nI ib from xl_part (j := 1) hi1 h hA1' hcs hl rfl (lk_x_get hx1 hib)]
        refine br_f (by decide) (br_t rfl ⟨vp_in_nI (by omega) (by omega), br_c (fun z => ⟨vp_in_nI (by omega) (by omega), nm_e ⟨vp_in_nI (by omega) (by omega), k1 z⟩⟩) k2⟩)
      by_cases h6 : q0.1 = 6
      · -- the product's parts
        have h2 : ∃ Dm Cd, cs0 = [Dm, Cd] := by
          rw [h6, show dk_ar 6 = 2 from by decide] at hl0
          match cs0, hl0 with
          | [a, b], _ => exact ⟨a, b, rfl⟩
        obtain ⟨Dm, Cd, rfl⟩ := h2
        have fDm := hcs0 Dm (by simp)
        have fCd := hcs0 Cd (by simp)
        have hR0' : A1[r0]? = some (q0 :: [Dm, Cd].flatten) := by rw [hR0, eR0]
        obtain ⟨idm, hidm⟩ := dk_kid hi1 hR0' hcs0 (c := Dm) (by simp)
        obtain ⟨icd, hicd⟩ := dk_kid hi1 hR0' hcs0 (c := Cd) (by simp)
        have hR0'' : A1[r0]? = some (q0 :: (Dm ++ Cd)) := by rw [hR0']; simp
        have hbr := dk_bd_pos hbd1 hR0''
        simp only [List.length_cons, List.length_append] at hbr
        refine ph_go (x := []) (m := 0) (rs := b) (ic2 := ib) (kp1 := nI r0) (ctx2 := ctx) (Q2 := fun H => cx_Y T pre.length H.2 ctx ∧ H.1 (pre.length + 1) = nI r0) hg hi1 hT1 eT hS eS0 rfl (by omega) (by omega) (by omega) (by omega) (by omega) hx11 ?_ ?_ ?_
        · intro post u bs bl f B hf h K
          exact xin post u bs bl f B hf h (fun _ => K _ _ (xf_keep h)) fun z => absurd h6 z
        · intro post u bs bl H h hQ K
          exact yin post u bs bl H h hQ.2 (fun _ => K u H 1 (by decide) h hQ fun _ _ => ⟨rfl, rfl⟩) fun z => absurd h6 z
        · refine ph_child (pre' := pre ++ t :: d) (suf' := suf) IH (by omega) (by rw [eT, eS]; simp) (by simp; omega) hbf hi1 (lk_x_ev hx1 hE) hT1 (lk_x_get hx1 hib) hx1.2.2 (by simp; omega) (fun y hy => by have := hctx y hy; have := lk_x_len hx1; omega) (by omega) (by simp; omega) ?_ ?_ ?_
          · intro H hQ
            exact cx_Y_same hTf eT hS eS1 (m := 1) hd (by omega) (hov _) hQ.1
          · intro H H' hQ hs
            exact ⟨cx_keep (by simp; omega) hQ.1 hs, by rw [(hs (pre.length + 1) (by simp; omega)).1]; exact hQ.2⟩
          · intro A3 tk3 r1 hx3 hr1
            have hx13 := lk_x_trans hx1 hx3
            have hi3 := hx3.2.1
            have hT3 := lk_x_get hx13 hT
            have hA3' := lk_x_get hx13 hA'
            have hbd3 := dk_inv_bd hg hi3
            have hAl3 : A3.length ≤ 256 := hbd3.1
            have hx33 : lk_x g A3 A3 tk3 := ⟨⟨[], by simp⟩, hi3, hx3.2.2⟩
            have hR3 := lk_x_get hx3 hR0'
            have hR3'' := lk_x_get hx3 hR0''
            have hidm3 := lk_x_get hx3 hidm
            have hicd3 := lk_x_get hx3 hicd
            have hid256 := (dk_bd_pos hbd3 hidm3).1
            have hAf : ∀ (post : Int32 → SY → Prop) (u : SY) (bs : Nat) (bl : Int32) (H : dk_H), yf_R g A3 bs tk3 bl H u → ((cx_Y T pre.length H.2 ctx ∧ H.1 (pre.length + 1) = nI r0) ∧ H.1 (pre.length + 1 + ([] : List dk_T).length + d.length) = nI r1) → post 1 u → wpY_afterChild post u (nI (120 * b0)) (nI (120 * b0 + pre.length)) (nI (120 * b0 + (pre.length + 1 + d.length))) := by
              intro post u bs bl H h hQ K
              refine ya_pre hg hi3 hT3 h eT eS hd (by omega) (by omega) ?_
              rw [decide_eq_false (by omega), hk]
              exact ya_app2 K
            have xfin : ∀ (post : Int32 → SX → Prop) (u : SX) (bs : Nat) (bl : Int32) (f : Nat) (B : dk_B), f ≤ 190 → xf_R g A3 bs tk3 bl f i 3 (nI r0) (nI r1) ctx B u → (r1 = idm → wpX_normInstance (fun r u' => post r u') u (nI icd) (nI ib)) → (r1 ≠ idm → post (-9) u) → xv_stepVisit_58 post (nI f) (nI i) (nI 2) u := by
              intro post u bs bl f B hf h k1 k2
              refine xa_in hb.1 hi3 h hA3' hcs hl hk ?_
              have h' := h
              obtain ⟨⟨F, T', cap, O, hR⟩, _⟩ := h'
              have hpr : ∀ (j ic' : Nat) (c : List dk_T), [Dm, Cd][j]? = some c → A3[ic']? = some c → xg_part u (4 * r0 + j) = nI ic' := by
                intro j ic' c hj hc'
                obtain ⟨⟨ds, d1, d2, d3, _⟩, _⟩ := hR.2.1.2 r0 _ hR3
                injection d1 with e1 e2
                have ek : xg_kind u r0 = q0.1 := (congrArg Prod.fst e1).symm
                have fd : ∀ c ∈ ds, dk_fo c 1 := fun c hc => by
                  obtain ⟨j, hj⟩ := List.getElem?_of_mem hc
                  exact (d3 j c hj).1
                rw [ek] at d2
                have ec : [Dm, Cd] = ds := dk_kids_inj (r := []) (s := []) hcs0 fd (by rw [d2, ← hl0]) (by rw [e2])
                subst ec
                obtain ⟨_, i', a, b'⟩ := d3 j c hj
                rw [dk_idx hi3.2.1 hc' a]; exact b'
              rw [xe_stepApp, show (4 : Int32) * nI i = nI (4 * i) from pk_mul 4 i, show (nI (4 * i) + 1 : Int32) = nI (4 * i + 1) from nI_add _ 1, nI_clamp (n := 4 * i + 1) (by omega), h.2.2.2.2.2.1, nI_clamp (n := f) (by omega), show xg_part u (4 * i + 1) = nI ib from xl_part (j := 1) hi3 h hA3' hcs hl rfl (lk_x_get hx13 hib)]
              refine br_f (by decide) (br_f (by decide) ⟨vp_in_nI (by omega) (by omega), nm_r h.2.2.2.2.1 ?_⟩)
              rw [show (4 : Int32) * nI r0 = nI (4 * r0) from pk_mul 4 r0, nI_clamp (n := 4 * r0) (by omega), show xg_part u (4 * r0) = nI idm from hpr 0 idm Dm rfl hidm3, show (nI (4 * r0) + 1 : Int32) = nI (4 * r0 + 1) from nI_add _ 1, nI_clamp (n := 4 * r0 + 1) (by omega), show xg_part u (4 * r0 + 1) = nI icd from hpr 1 icd Cd rfl hicd3]
              refine ⟨vp_in_nI (by omega) (by omega), br_c (fun z => ⟨vp_in_nI (by omega) (by omega), vp_in_nI (by omega) (by omega), k1 ((nI_eq (by omega) (by omega)).mp z)⟩) fun z => k2 (fun w => z (by rw [w]))⟩
            have yfin : ∀ (post : Int32 → SY → Prop) (u : SY) (bs : Nat) (bl : Int32) (H : dk_H), yf_R g A3 bs tk3 bl H u → H.1 (pre.length + 1) = nI r0 → H.1 (pre.length + 1 + d.length) = nI r1 → (r1 = idm → wpY_apply (fun r u' => post r u') u (nI (120 * r0 + 1 + Dm.length)) (nI (120 * b0 + (pre.length + 1 + d.length)))) → (r1 ≠ idm → post (-9) u) → wpY_finish post u (nI (120 * b0)) (nI (120 * b0 + pre.length)) := by
              intro post u bs bl H h hH0 hH1 k1 k2
              refine yf_node hg hi3 hT3 h eT eS hd (fun w => (two hk w (by decide)).elim) (fun w => (two hk w (by decide)).elim) (fun _ => by omega) (fun w => (two hk w (by decide)).elim) (fun _ => ?_) (fun w => (two hk w (by decide)).elim) (fun w => (two hk w (by decide)).elim) (Or.inr (Or.inr (Or.inl hk)))
              rw [hH0, hH1, nI_120, nI_1]
              obtain ⟨hnm, _⟩ := yf_T hg hi3 hT3 h
              obtain ⟨m, dd, O, hR, hA⟩ := h
              have s := py_low hR (hA r0 _ hR3'') (by simp; omega)
              have sD := (py_s_app.mp s.2).1
              refine yl_end hnm sD fDm (by omega) ?_
              refine yl_find hnm hR.2.1 hbd3 (py_A_low hR hbd3 hA) sD fDm (by omega) (by omega) rfl ?_ ?_
              · intro i' hi'
                rw [dk_idx hi3.2.1 hi' hidm3]
                refine br_c (fun z => k1 ?_) fun z => k2 (fun w => z (by rw [w]))
                exact ((nI_eq (by omega) (by omega)).mp z).symm
              · intro z
                exact absurd (List.mem_of_getElem? hidm3) z
            by_cases hr : r1 = idm
            · obtain ⟨rr, A4, tk4, hno, hX, hY⟩ := lk_inst hg hx3.2.2 hi3 (lk_x_ev hx13 hE) hicd3 (lk_x_get hx13 hib) (p := 120 * r0 + 1 + Dm.length) (q := 120 * b0 + (pre.length + 1 + d.length)) ⟨r0, q0 :: Dm, [], by rw [hR3'']; simp, by simp; omega⟩ (hplb hT3)
              refine ph_last (x := d) (m := 1) (rr := rr) hg hi3 hT3 eT hS (lk_x_get hx13 hAi) eS1 hd (by omega) (by omega) (by omega) (lk_no_x hno) (lk_no_r hno) hAf ?_ ?_
              · intro post u bs bl f B hf h K
                exact xfin post u bs bl f B hf h (fun _ => xf_call hX h fun u' h' => K u' _ _ _ h') fun z => absurd hr z
              · intro post u bs bl H h hQ K
                exact yfin post u bs bl H h hQ.1.2 hQ.2 (fun _ => yf_call hY h K) fun z => absurd hr z
            · refine ph_last (x := d) (m := 1) (rr := -9) hg hi3 hT3 eT hS (lk_x_get hx13 hAi) eS1 hd (by omega) (by omega) (by omega) hx33 (Or.inl (Or.inr (Or.inr (Or.inr (Or.inr (Or.inr (Or.inr (Or.inl rfl)))))))) hAf ?_ ?_
              · intro post u bs bl f B hf h K
                exact xfin post u bs bl f B hf h (fun z => absurd z hr) fun _ => K u _ _ _ h
              · intro post u bs bl H h hQ K
                exact yfin post u bs bl H h hQ.1.2 hQ.2 (fun z => absurd z hr) fun _ => K u h
      · refine ph_bad (x := []) (m := 0) (rs := b) (rr := -8) hg hi1 hT1 eT hS hAi1 eS0 rfl (by omega) (by omega) (by omega) (by omega) (Or.inr (Or.inr (Or.inr (Or.inr (Or.inr (Or.inl rfl)))))) hx11 ?_ ?_
        · intro post u bs bl f B hf h K
          exact xin post u bs bl f B hf h (fun z => absurd z h6) fun _ => K u _ _ _ _ h
        · intro post u bs bl H h hQ K
          exact yin post u bs bl H h hQ.2 (fun z => absurd z h6) fun _ => K u H h
end
end
section
/-! INFER by kind: REC -/
section
variable {g : dk_G} {T : List dk_T} {b0 : Nat} {A : List (List dk_T)} {tk i : Nat} {pre S suf : List dk_T} {t : dk_T} {ctx : List Nat} {a P z w : List dk_T}
theorem xr_in {bs : Nat} {bl : Int32} {f s s0 : Nat} {kp ans : Int32} {ctx1 : List Nat} {B : dk_B} {u : SX} {post : Int32 → SX → Prop} {cs : List (List dk_T)} (hb : i < 256) (hi : dk_inv g A) (h : xf_R g A bs tk bl f i s kp ans ctx1 B u) (hA : A[i]? = some (t :: cs.flatten)) (hcs : ∀ c ∈ cs, dk_fo c 1) (hl : cs.length = dk_ar t.1) (hk : t.1 = 9) (K : wpX_stepRec (fun r u' => post r u') u (nI f) (nI i) (nI s0)) : xv_stepVisit_58 post (nI f) (nI i) (nI s0) u := by
  have hn := xl_node hi h hA hcs hl
  refine x58_pre (t := t) hb hn.1 (by rw [hk]; unfold dk_kk; decide) ?_ ?_ ?_ ?_ ?_ ?_ ?_ (fun _ => K) ?_ ?_
  all_goals (intro w; rw [hk] at w; exact absurd w (by decide))
/-- the last step of a REC -/
theorem ph_rec4 {fam r3 ia : Nat} (hg : ga_ok g) (hi : dk_inv g A) (hE : dk_ev g A) (hT : A[b0]? = some T) (htk : tk ≤ ga_FL g) (eT : T = pre ++ S ++ suf) (hS : dk_fo S 1) (hAi : A[i]? = some S) (eS : S = t :: (a ++ (P ++ (z ++ w)))) (hk : t.1 = 9) (ha : dk_fo a 1) (hP : dk_fo P 1) (hz : dk_fo z 1) (hw : dk_fo w 1) (hia : A[ia]? = some a) (hfam : fam < A.length) (hr3 : r3 < A.length) : ph_O g T b0 A tk pre.length S.length i 4 (nI fam) r3 (pre.length + 1 + (a ++ (P ++ z)).length) (pre.length + 1 + (a ++ (P ++ z)).length + w.length) (fun H => (cx_Y T pre.length H.2 ctx ∧ H.2 pre.length = nI fam) ∧ H.1 (pre.length + 1 + (a ++ (P ++ z)).length) = nI r3) ctx ctx 1 := by
  have hb := dk_bd_pos (dk_inv_bd hg hi) hAi
  have hbd := dk_inv_bd hg hi
  have hbT := dk_bd_pos hbd hT
  have hAl : A.length ≤ 256 := hbd.1
  have hlen : T.length = pre.length + (S.length + suf.length) := by rw [eT]; simp
  have ha1 := dk_fo_len ha
  have hP1 := dk_fo_len hP
  have hz1 := dk_fo_len hz
  have hw1 := dk_fo_len hw
  have hSl : S.length = 1 + (a.length + (P.length + (z.length + w.length))) := by rw [eS]; simp; omega
  have hxl : (a ++ (P ++ z)).length = a.length + (P.length + z.length) := by simp
  have eS2 : S = t :: ((a ++ (P ++ z)) ++ (w ++ [])) := by rw [eS]; simp
  have hx3 : dk_fo (a ++ (P ++ z)) 3 := dk_fo_app ha (dk_fo_app hP hz)
  have hA' : A[i]? = some (t :: [a, P, z, w].flatten) := by rw [hAi, eS]; simp
  have hcs : ∀ x ∈ [a, P, z, w], dk_fo x 1 := by
    intro x hx
    simp at hx
    rcases hx with y | y | y | y <;> rw [y] <;> assumption
  have hl : [a, P, z, w].length = dk_ar t.1 := by rw [hk]; rfl
  have two : ∀ {a b : Int32}, t.1 = a → t.1 = b → a ≠ b → False := fun h1 h2 h3 => h3 (h1.symm.trans h2)
  have hF := List.getElem?_eq_getElem hfam
  have hAf : ∀ (post : Int32 → SY → Prop) (u : SY) (bs : Nat) (bl : Int32) (H : dk_H), yf_R g A bs tk bl H u → ((cx_Y T pre.length H.2 ctx ∧ H.2 pre.length = nI fam) ∧ H.1 (pre.length + 1 + (a ++ (P ++ z)).length) = nI r3) → post 1 u → wpY_afterChild post u (nI (120 * b0)) (nI (120 * b0 + pre.length)) (nI (120 * b0 + (pre.length + 1 + (a ++ (P ++ z)).length))) := by
    intro post u bs bl H h hQ K
    refine ya_pre hg hi hT h eT eS ha (by omega) (by omega) ?_
    rw [decide_eq_false (by omega), hk]
    refine ya_rec3 ?_ ?_
    · rw [nI_eq (by omega) (by omega)]; omega
    · obtain ⟨hnm, _⟩ := yf_T hg hi hT h
      obtain ⟨s1, s2, s3, s4⟩ := yf_S hg hi hT h eT
      rw [eS] at s1
      have sP := (py_s_app.mp (py_s_app.mp s1.2).2).1
      rw [show 120 * b0 + pre.length + 1 + a.length = 120 * b0 + (pre.length + 1 + a.length) from by omega] at sP
      refine yl_end hnm sP hP (by omega) (br_f ?_ K)
      rw [nI_eq (by omega) (by omega)]; omega
  obtain ⟨rs, A1, tk1, hno1, hX1, hY1⟩ := lk_stepType hg htk hi hE hF
  have hx1 := lk_no_x hno1
  have hAl1 : A1.length ≤ 256 := (dk_inv_bd hg hx1.2.1).1
  -- X's last step
  have xin : ∀ (post : Int32 → SX → Prop) (u : SX) (bs : Nat) (bl : Int32) (f : Nat) (B : dk_B), f ≤ 190 → xf_R g A bs tk bl f i 5 (nI fam) (nI r3) ctx B u → (∀ u', xf_R g A1 bs tk1 bl f i 5 (nI fam) (nI r3) ctx B u' → ((0 ≤ rs → (nI r3 = rs → wpX_normInstance (fun r u => post r u) u' (nI fam) (nI ia)) ∧ (¬ nI r3 = rs → post (-9) u')) ∧ (¬ 0 ≤ rs → post rs u'))) → xv_stepVisit_58 post (nI f) (nI i) (nI 4) u := by
    intro post u bs bl f B hf h K
    refine xr_in hb.1 hi h hA' hcs hl hk ?_
    rw [xe_stepRec, show (4 : Int32) * nI i = nI (4 * i) from pk_mul 4 i, nI_clamp (n := 4 * i) (by omega), nI_clamp (n := f) (by omega), h.2.2.2.2.1]
    refine br_f (by decide) (br_f (by decide) (br_f (by decide) (br_f (by decide) ⟨vp_in_nI (by omega) (by omega), ?_⟩)))
    refine xf_call hX1 h fun u1 h1 => ?_
    obtain ⟨k1, k2⟩ := K u1 h1
    rw [h1.2.2.2.2.2.1, h1.2.2.2.2.1, show xg_part u1 (4 * i) = nI ia from xl_part (j := 0) hx1.2.1 h1 (lk_x_get hx1 hA') hcs hl rfl (lk_x_get hx1 hia)]
    exact br_c (fun y => br_c (fun y2 => ⟨vp_in_nI (by omega) (by omega), vp_in_nI (by omega) (by omega), (k1 y).1 y2⟩) (k1 y).2) k2
  -- Y's finish
  have yin : ∀ (post : Int32 → SY → Prop) (u : SY) (bs : Nat) (bl : Int32) (H : dk_H), yf_R g A bs tk bl H u → H.2 pre.length = nI fam → H.1 (pre.length + 1 + (a ++ (P ++ z)).length) = nI r3 → (∀ u', yf_R g A1 bs tk1 bl H u' → ((0 ≤ rs → (nI r3 = rs → wpY_apply (fun r u => post r u) u' (nI (120 * fam)) (nI (120 * b0 + (pre.length + 1)))) ∧ (¬ nI r3 = rs → post (-9) u')) ∧ (¬ 0 ≤ rs → post rs u'))) → wpY_finish post u (nI (120 * b0)) (nI (120 * b0 + pre.length)) := by
    intro post u bs bl H h hH2 hH1 K
    refine yf_node hg hi hT h eT eS ha (fun y => (two hk y (by decide)).elim) (fun y => (two hk y (by decide)).elim) (fun _ => by simp; omega) (fun y => (two hk y (by decide)).elim) (fun y => (two hk y (by decide)).elim) (fun y => (two hk y (by decide)).elim) (fun _ => ?_) (Or.inr (Or.inr (Or.inr (Or.inr hk))))
    rw [hH2, nI_120, ye_finish_237]
    obtain ⟨m, dd, O, hR, hA⟩ := h
    refine yl_put (py_out0 hR) fun u1 h1 => br_f (by decide) ?_
    refine hY1 _ u1 bs bl H m dd h1 hA fun u2 m2 d2 O2 h2 h3 => ?_
    have hf2 : yf_R g A1 bs tk1 bl H u2 := ⟨m2, d2, O2, h2, h3⟩
    have hT1 := lk_x_get hx1 hT
    obtain ⟨hnm, _⟩ := yf_T hg hx1.2.1 hT1 hf2
    obtain ⟨s1, s2, s3, s4⟩ := yf_S hg hx1.2.1 hT1 hf2 eT
    rw [eS2] at s1
    have sX := (py_s_app.mp s1.2).1
    obtain ⟨k1, k2⟩ := K u2 hf2
    refine yl_child (c := 3) hnm (by decide) hx3 sX (by omega) ?_
    have hty : yg_ty u2 = H.1 := h2.2.2.2.1.1
    rw [pk_sub (by omega), show 120 * b0 + pre.length + 1 + (a ++ (P ++ z)).length - 120 * b0 = pre.length + 1 + (a ++ (P ++ z)).length from by omega, nI_clamp (by omega), hty, hH1, nI_1, show 120 * b0 + pre.length + 1 = 120 * b0 + (pre.length + 1) from by omega]
    exact br_c (fun y => ⟨vp_in_nI (by omega) (by omega), br_c (k1 y).1 (k1 y).2⟩) k2
  rcases lk_no_r hno1 with hfl | ⟨st, e, hst⟩
  · obtain ⟨_, f2, f3⟩ := dk_fl_neg hfl
    refine ph_last (x := a ++ (P ++ z)) (m := 3) (rr := rs) hg hi hT eT hS hAi eS2 hx3 (by omega) (by omega) (by omega) hx1 (Or.inl hfl) hAf ?_ ?_
    · intro post u bs bl f B hf h K
      exact xin post u bs bl f B hf h fun u' h' => ⟨fun y => absurd y f2, fun _ => K u' _ _ _ h'⟩
    · intro post u bs bl H h hQ K
      exact yin post u bs bl H h hQ.1.2 hQ.2 fun u' h' => ⟨fun y => absurd y f2, fun _ => K u' h'⟩
  · subst e
    have hp := nI_pos' (n := st) (by omega)
    by_cases hr : r3 = st
    · obtain ⟨rr, A2, tk2, hno2, hX2, hY2⟩ := lk_inst hg hx1.2.2 hx1.2.1 (lk_x_ev hx1 hE) (lk_x_get hx1 hF) (lk_x_get hx1 hia) (p := 120 * fam) (q := 120 * b0 + (pre.length + 1)) (dk_pl_node (lk_x_get hx1 hF)) ⟨b0, pre ++ [t], P ++ (z ++ w) ++ suf, by rw [lk_x_get hx1 hT, eT, eS]; simp, by simp⟩
      refine ph_last (x := a ++ (P ++ z)) (m := 3) (rr := rr) hg hi hT eT hS hAi eS2 hx3 (by omega) (by omega) (by omega) (lk_x_trans hx1 (lk_no_x hno2)) (lk_no_r hno2) hAf ?_ ?_
      · intro post u bs bl f B hf h K
        exact xin post u bs bl f B hf h fun u' h' => ⟨fun _ => ⟨fun _ => xf_call hX2 h' fun u'' h'' => K u'' _ _ _ h'', fun y => absurd (by rw [hr]) y⟩, fun y => absurd hp y⟩
      · intro post u bs bl H h hQ K
        exact yin post u bs bl H h hQ.1.2 hQ.2 fun u' h' => ⟨fun _ => ⟨fun _ => yf_call hY2 h' K, fun y => absurd (by rw [hr]) y⟩, fun y => absurd hp y⟩
    · have hne : ¬ nI r3 = nI st := fun y => hr ((nI_eq (by omega) (by omega)).mp y)
      refine ph_last (x := a ++ (P ++ z)) (m := 3) (rr := -9) hg hi hT eT hS hAi eS2 hx3 (by omega) (by omega) (by omega) hx1 (Or.inl (Or.inr (Or.inr (Or.inr (Or.inr (Or.inr (Or.inr (Or.inl rfl)))))))) hAf ?_ ?_
      · intro post u bs bl f B hf h K
        exact xin post u bs bl f B hf h fun u' h' => ⟨fun _ => ⟨fun y => absurd y hne, fun _ => K u' _ _ _ h'⟩, fun y => absurd hp y⟩
      · intro post u bs bl H h hQ K
        exact yin post u bs bl H h hQ.1.2 hQ.2 fun u' h' => ⟨fun _ => ⟨fun y => absurd y hne, fun _ => K u' h'⟩, fun y => absurd hp y⟩
/-- behind the third child -/
theorem ph_rec3 {k fam r2 ia iw : Nat} (hg : ga_ok g) (IH : iv_P g T b0 k) (hkk : S.length ≤ k + 1) (hi : dk_inv g A) (hE : dk_ev g A) (hT : A[b0]? = some T) (htk : tk ≤ ga_FL g) (eT : T = pre ++ S ++ suf) (hS : dk_fo S 1) (hAi : A[i]? = some S) (hcl : ctx.length ≤ pre.length) (hctx : ∀ c ∈ ctx, c < A.length) (eS : S = t :: (a ++ (P ++ (z ++ w)))) (hk : t.1 = 9) (hov : ∀ q, dk_over T pre.length q = (decide (pre.length + 1 + a.length ≤ q) && decide (q < pre.length + 1 + a.length + P.length))) (ha : dk_fo a 1) (hP : dk_fo P 1) (hz : dk_fo z 1) (hw : dk_fo w 1) (hia : A[ia]? = some a) (hiw : A[iw]? = some w) (hfam : fam < A.length) (hr2 : r2 < A.length) : ph_O g T b0 A tk pre.length S.length i 3 (nI fam) r2 (pre.length + 1 + (a ++ P).length) (pre.length + 1 + (a ++ P).length + z.length) (fun H => (cx_Y T pre.length H.2 ctx ∧ H.2 pre.length = nI fam) ∧ H.1 (pre.length + 1 + (a ++ P).length) = nI r2) ctx ctx (1 + 5 * w.length + 1) := by
  have hb := dk_bd_pos (dk_inv_bd hg hi) hAi
  have hbd := dk_inv_bd hg hi
  have hbT := dk_bd_pos hbd hT
  have hTf := hbT.2.1
  have hAl : A.length ≤ 256 := hbd.1
  have hlen : T.length = pre.length + (S.length + suf.length) := by rw [eT]; simp
  have ha1 := dk_fo_len ha
  have hP1 := dk_fo_len hP
  have hz1 := dk_fo_len hz
  have hw1 := dk_fo_len hw
  have hSl : S.length = 1 + (a.length + (P.length + (z.length + w.length))) := by rw [eS]; simp; omega
  have hxl : (a ++ P).length = a.length + P.length := by simp
  have hxl3 : (a ++ (P ++ z)).length = a.length + (P.length + z.length) := by simp
  have eS2 : S = t :: ((a ++ P) ++ (z ++ w)) := by rw [eS]; simp
  have eS3 : S = t :: ((a ++ (P ++ z)) ++ (w ++ [])) := by rw [eS]; simp
  have hx2 : dk_fo (a ++ P) 2 := dk_fo_app ha hP
  have hx3 : dk_fo (a ++ (P ++ z)) 3 := dk_fo_app ha (dk_fo_app hP hz)
  have hA' : A[i]? = some (t :: [a, P, z, w].flatten) := by rw [hAi, eS]; simp
  have hcs : ∀ x ∈ [a, P, z, w], dk_fo x 1 := by
    intro x hx
    simp at hx
    rcases hx with y | y | y | y <;> rw [y] <;> assumption
  have hl : [a, P, z, w].length = dk_ar t.1 := by rw [hk]; rfl
  have hF := List.getElem?_eq_getElem hfam
  obtain ⟨rs, A1, tk1, hno1, hX1, hY1⟩ := lk_inst0 hg htk hi hE hF
  have hx1 := lk_no_x hno1
  have hAl1 : A1.length ≤ 256 := (dk_inv_bd hg hx1.2.1).1
  have xin : ∀ (post : Int32 → SX → Prop) (u : SX) (bs : Nat) (bl : Int32) (f : Nat) (B : dk_B), f ≤ 190 → xf_R g A bs tk bl f i 4 (nI fam) (nI r2) ctx B u → (∀ u', xf_R g A1 bs tk1 bl f i 4 (nI fam) (nI r2) ctx B u' → ((0 ≤ rs → (nI r2 = rs → wpX_visit (fun r u => post r u) u' (nI iw)) ∧ (¬ nI r2 = rs → post (-9) u')) ∧ (¬ 0 ≤ rs → post rs u'))) → xv_stepVisit_58 post (nI f) (nI i) (nI 3) u := by
    intro post u bs bl f B hf h K
    refine xr_in hb.1 hi h hA' hcs hl hk ?_
    rw [xe_stepRec, show (4 : Int32) * nI i = nI (4 * i) from pk_mul 4 i, show (nI (4 * i) + 3 : Int32) = nI (4 * i + 3) from nI_add _ 3, nI_clamp (n := 4 * i + 3) (by omega), nI_clamp (n := f) (by omega), h.2.2.2.2.1]
    refine br_f (by decide) (br_f (by decide) (br_f (by decide) (br_t rfl ⟨vp_in_nI (by omega) (by omega), ?_⟩)))
    refine xf_call hX1 h fun u1 h1 => ?_
    obtain ⟨k1, k2⟩ := K u1 h1
    rw [h1.2.2.2.2.2.1, show xg_part u1 (4 * i + 3) = nI iw from xl_part (j := 3) hx1.2.1 h1 (lk_x_get hx1 hA') hcs hl rfl (lk_x_get hx1 hiw)]
    exact br_c (fun y => br_c (fun y2 => ⟨vp_in_nI (by omega) (by omega), (k1 y).1 y2⟩) (k1 y).2) k2
  have yin : ∀ (post : Int32 → SY → Prop) (u : SY) (bs : Nat) (bl : Int32) (H : dk_H), yf_R g A bs tk bl H u → H.2 pre.length = nI fam → H.1 (pre.length + 1 + (a ++ P).length) = nI r2 → (∀ u', yf_R g A1 bs tk1 bl H u' → ((0 ≤ rs → (nI r2 = rs → post 1 u') ∧ (¬ nI r2 = rs → post (-9) u')) ∧ (¬ 0 ≤ rs → post rs u'))) → wpY_afterChild post u (nI (120 * b0)) (nI (120 * b0 + pre.length)) (nI (120 * b0 + (pre.length + 1 + (a ++ P).length))) := by
    intro post u bs bl H h hH2 hH1 K
    refine ya_pre hg hi hT h eT eS ha (by omega) (by omega) ?_
    rw [decide_eq_false (by omega), hk, hH1]
    refine ya_rec3 ?_ ?_
    · rw [nI_eq (by omega) (by omega)]; omega
    · obtain ⟨hnm, _⟩ := yf_T hg hi hT h
      obtain ⟨s1, s2, s3, s4⟩ := yf_S hg hi hT h eT
      rw [eS] at s1
      have sP := (py_s_app.mp (py_s_app.mp s1.2).2).1
      rw [show 120 * b0 + pre.length + 1 + a.length = 120 * b0 + (pre.length + 1 + a.length) from by omega] at sP
      have haux : yg_aux u = H.2 := by
        obtain ⟨m, dd, O, hR, hA⟩ := h
        exact hR.2.2.2.1.2
      refine yl_end hnm sP hP (by omega) (br_t (congrArg nI (by omega)) ?_)
      rw [pk_sub (by omega), show 120 * b0 + pre.length - 120 * b0 = pre.length from by omega, nI_clamp (by omega), haux, hH2, nI_120]
      refine ⟨vp_in_nI (by omega) (by omega), ?_⟩
      refine yf_call hY1 h fun u1 h1 => ?_
      obtain ⟨k1, k2⟩ := K u1 h1
      exact br_c (fun y => br_c (fun y2 => (k1 y).1 y2.symm) fun y2 => (k1 y).2 (fun y3 => y2 y3.symm)) k2
  rcases lk_no_r hno1 with hfl | ⟨st, e, hst⟩
  · obtain ⟨_, f2, f3⟩ := dk_fl_neg hfl
    refine ph_bad (x := a ++ P) (m := 2) (rs := w) (rr := rs) hg hi hT eT hS hAi eS2 hx2 (by omega) (by omega) (by omega) (by omega) hfl hx1 ?_ ?_
    · intro post u bs bl f B hf h K
      exact xin post u bs bl f B hf h fun u' h' => ⟨fun y => absurd y f2, fun _ => K u' _ _ _ _ h'⟩
    · intro post u bs bl H h hQ K
      exact yin post u bs bl H h hQ.1.2 hQ.2 fun u' h' => ⟨fun y => absurd y f2, fun _ => K u' H h'⟩
  · subst e
    have hp := nI_pos' (n := st) (by omega)
    by_cases hr : r2 = st
    · refine ph_go (x := a ++ P) (m := 2) (rs := w) (ic2 := iw) (kp1 := nI fam) (ctx2 := ctx) (Q2 := fun H => cx_Y T pre.length H.2 ctx ∧ H.2 pre.length = nI fam) hg hi hT eT hS eS2 hx2 (by omega) (by omega) (by omega) (by omega) (by omega) hx1 ?_ ?_ ?_
      · intro post u bs bl f B hf h K
        exact xin post u bs bl f B hf h fun u' h' => ⟨fun _ => ⟨fun _ => K u' _ h', fun y => absurd (by rw [hr]) y⟩, fun y => absurd hp y⟩
      · intro post u bs bl H h hQ K
        exact yin post u bs bl H h hQ.1.2 hQ.2 fun u' h' => ⟨fun _ => ⟨fun _ => K u' H 1 (by decide) h' hQ.1 fun _ _ => ⟨rfl, rfl⟩, fun y => absurd (by rw [hr]) y⟩, fun y => absurd hp y⟩
      · rw [show pre.length + 1 + (a ++ P).length + z.length = pre.length + 1 + (a ++ (P ++ z)).length from by omega]
        refine ph_child (pre' := pre ++ t :: (a ++ (P ++ z))) (suf' := suf) IH (by omega) (by rw [eT, eS]; simp) (by simp; omega) hw hx1.2.1 (lk_x_ev hx1 hE) (lk_x_get hx1 hT) (lk_x_get hx1 hiw) hx1.2.2 (by omega) (fun y hy => by have := hctx y hy; have := lk_x_len hx1; omega) (by omega) (by omega) ?_ ?_ ?_
        · intro H hQ
          refine cx_Y_same hTf eT hS eS3 (m := 3) hx3 (by omega) ?_ hQ.1
          rw [hov, decide_eq_false (p := pre.length + 1 + (a ++ (P ++ z)).length < pre.length + 1 + a.length + P.length) (by omega), Bool.and_false]
        · intro H H' hQ hs
          exact ⟨cx_keep (by omega) hQ.1 hs, by rw [(hs pre.length (by omega)).2]; exact hQ.2⟩
        · intro A3 tk3 r3 hx3' hr3
          have hx13 := lk_x_trans hx1 hx3'
          exact ph_rec4 hg hx3'.2.1 (lk_x_ev hx13 hE) (lk_x_get hx13 hT) hx3'.2.2 eT hS (lk_x_get hx13 hAi) eS hk ha hP hz hw (lk_x_get hx13 hia) (by have := lk_x_len hx13; omega) hr3
    · have hne : ¬ nI r2 = nI st := fun y => hr ((nI_eq (by omega) (by omega)).mp y)
      refine ph_bad (x := a ++ P) (m := 2) (rs := w) (rr := -9) hg hi hT eT hS hAi eS2 hx2 (by omega) (by omega) (by omega) (by omega) (Or.inr (Or.inr (Or.inr (Or.inr (Or.inr (Or.inr (Or.inl rfl))))))) hx1 ?_ ?_
      · intro post u bs bl f B hf h K
        exact xin post u bs bl f B hf h fun u' h' => ⟨fun _ => ⟨fun y => absurd y hne, fun _ => K u' _ _ _ _ h'⟩, fun y => absurd hp y⟩
      · intro post u bs bl H h hQ K
        exact yin post u bs bl H h hQ.1.2 hQ.2 fun u' h' => ⟨fun _ => ⟨fun y => absurd y hne, fun _ => K u' H h'⟩, fun y => absurd hp y⟩
end
end
section
/-! INFER: REC whole, the induction, the whole call -/
section
variable {g : dk_G} {T : List dk_T} {b0 : Nat} {A : List (List dk_T)} {tk i : Nat} {pre S suf : List dk_T} {t : dk_T} {ctx : List Nat} {a P z w : List dk_T}
/-- behind the family -/
theorem ph_rec2 {k r1 ia iP iz iw : Nat} (hg : ga_ok g) (IH : iv_P g T b0 k) (hkk : S.length ≤ k + 1) (hi : dk_inv g A) (hE : dk_ev g A) (hT : A[b0]? = some T) (htk : tk ≤ ga_FL g) (eT : T = pre ++ S ++ suf) (hS : dk_fo S 1) (hAi : A[i]? = some S) (hcl : ctx.length ≤ pre.length) (hctx : ∀ c ∈ ctx, c < A.length) (eS : S = t :: (a ++ (P ++ (z ++ w)))) (hk : t.1 = 9) (hov : ∀ q, dk_over T pre.length q = (decide (pre.length + 1 + a.length ≤ q) && decide (q < pre.length + 1 + a.length + P.length))) (ha : dk_fo a 1) (hP : dk_fo P 1) (hz : dk_fo z 1) (hw : dk_fo w 1) (hia : A[ia]? = some a) (hiP : A[iP]? = some P) (hiz : A[iz]? = some z) (hiw : A[iw]? = some w) (hr1 : r1 < A.length) : ph_O g T b0 A tk pre.length S.length i 2 0 r1 (pre.length + 1 + a.length) (pre.length + 1 + a.length + P.length) (fun H => cx_Y T pre.length H.2 ctx ∧ H.2 pre.length = nI 2 ∧ H.1 (pre.length + 1 + a.length) = nI r1) (2 :: ctx) ctx (1 + 5 * z.length + (1 + 5 * w.length + 1)) := by
  have hb := dk_bd_pos (dk_inv_bd hg hi) hAi
  have hbd := dk_inv_bd hg hi
  have hbT := dk_bd_pos hbd hT
  have hTf := hbT.2.1
  have hAl : A.length ≤ 256 := hbd.1
  have hlen : T.length = pre.length + (S.length + suf.length) := by rw [eT]; simp
  have ha1 := dk_fo_len ha
  have hP1 := dk_fo_len hP
  have hz1 := dk_fo_len hz
  have hw1 := dk_fo_len hw
  have hSl : S.length = 1 + (a.length + (P.length + (z.length + w.length))) := by rw [eS]; simp; omega
  have hxl : (a ++ P).length = a.length + P.length := by simp
  have eS1 : S = t :: (a ++ (P ++ (z ++ w))) := eS
  have eS2 : S = t :: ((a ++ P) ++ (z ++ w)) := by rw [eS]; simp
  have hx2 : dk_fo (a ++ P) 2 := dk_fo_app ha hP
  have hA' : A[i]? = some (t :: [a, P, z, w].flatten) := by rw [hAi, eS]; simp
  have hcs : ∀ x ∈ [a, P, z, w], dk_fo x 1 := by
    intro x hx
    simp at hx
    rcases hx with y | y | y | y <;> rw [y] <;> assumption
  have hl : [a, P, z, w].length = dk_ar t.1 := by rw [hk]; rfl
  have hxA : lk_x g A A tk := ⟨⟨[], by simp⟩, hi, htk⟩
  -- X
  have xin : ∀ (post : Int32 → SX → Prop) (u : SX) (bs : Nat) (bl : Int32) (f : Nat) (B : dk_B), f ≤ 190 → xf_R g A bs tk bl f i 3 0 (nI r1) (2 :: ctx) B u → (∀ u', xf_R g A bs tk bl f i 3 0 (nI r1) ctx B u' → ((1 < r1 → post (-7) u') ∧ (r1 ≤ 1 → wpX_normNode (fun r u2 => (((0 ≤ r → (vp_in (nI f) 256 ∧ ∀ b : Nat → Int32, b = upd (xg_frameKeep u2) f r → (vp_in (nI (4 * i + 2)) 1024 ∧ (wpX_visit (fun r3 u3 => (post r3 u3)) (xs_frameKeep b u2) ((xg_part u2) (4 * i + 2)))))) ∧ (¬ 0 ≤ r → (post r u2))))) u' (nI iP)))) → xv_stepVisit_58 post (nI f) (nI i) (nI 2) u := by
    intro post u bs bl f B hf h K
    refine xr_in hb.1 hi h hA' hcs hl hk ?_
    rw [xe_stepRec, show (4 : Int32) * nI i = nI (4 * i) from pk_mul 4 i, show (nI (4 * i) + 1 : Int32) = nI (4 * i + 1) from nI_add _ 1, show (nI (4 * i) + 2 : Int32) = nI (4 * i + 2) from nI_add _ 2, nI_clamp (n := 4 * i + 1) (by omega), nI_clamp (n := 4 * i + 2) (by omega), nI_clamp (n := f) (by omega)]
    refine br_f (by decide) (br_f (by decide) (br_t rfl (xl_pop (by omega) h fun u1 h1 => ?_)))
    obtain ⟨k1, k2⟩ := K u1 h1
    rw [h1.2.2.2.2.2.1, show xg_part u1 (4 * i + 1) = nI iP from xl_part (j := 1) hi h1 hA' hcs hl rfl hiP]
    exact xl_isUniverse (by omega) (fun y => br_f (by decide) ⟨vp_in_nI (by omega) (by omega), k2 y⟩) fun y => br_t rfl (k1 y)
  -- Y
  have yin : ∀ (post : Int32 → SY → Prop) (u : SY) (bs : Nat) (bl : Int32) (H : dk_H), yf_R g A bs tk bl H u → H.1 (pre.length + 1 + a.length) = nI r1 → (1 < r1 → post (-7) u) → (r1 ≤ 1 → wpY_normErased (fun r u' => (vp_in (nI (120 * b0 + pre.length) - nI (120 * b0)) 120 ∧ ∀ b : Nat → Int32, b = upd (yg_aux u') (nI (120 * b0 + pre.length) - nI (120 * b0)).toNatClampNeg r → (vp_in (nI (120 * b0 + pre.length) - nI (120 * b0)) 120 ∧ (post (b (nI (120 * b0 + pre.length) - nI (120 * b0)).toNatClampNeg) (ys_aux b u'))))) u (nI (120 * b0 + (pre.length + 1 + a.length)))) → wpY_afterChild post u (nI (120 * b0)) (nI (120 * b0 + pre.length)) (nI (120 * b0 + (pre.length + 1 + a.length))) := by
    intro post u bs bl H h hH k1 k2
    refine ya_pre hg hi hT h eT eS ha (by omega) (by omega) ?_
    rw [decide_eq_false (by omega), hH, hk]
    exact ya_rec2 (by omega) k1 k2
  by_cases hr : r1 ≤ 1
  · obtain ⟨rr, A2, tk2, hno, hX, hY⟩ := lk_normNode hg htk hi hE hiP (p := 120 * b0 + (pre.length + 1 + a.length)) ⟨b0, pre ++ t :: a, (z ++ w) ++ suf, by rw [hT, eT, eS]; simp, by simp; omega⟩
    have hx2' := lk_no_x hno
    rcases lk_no_r hno with hfl | ⟨fam, e, hfam⟩
    · obtain ⟨_, f2, f3⟩ := dk_fl_neg hfl
      refine ph_bad (x := a) (m := 1) (rs := z ++ w) (rr := rr) hg hi hT eT hS hAi eS1 ha (by omega) (by omega) (by omega) (by omega) hfl hx2' ?_ ?_
      · intro post u bs bl f B hf h K
        exact xin post u bs bl f B hf h fun u' h' => ⟨fun y => absurd hr (by omega), fun _ => xf_call hX h' fun u2 h2 => br_f f2 (K u2 _ _ _ _ h2)⟩
      · intro post u bs bl H h hQ K
        refine yin post u bs bl H h hQ.2.2 (fun y => absurd hr (by omega)) fun _ => ?_
        refine yf_call hY h fun u' h' => ?_
        rw [pk_sub (by omega), show 120 * b0 + pre.length - 120 * b0 = pre.length from by omega, nI_clamp (by omega)]
        refine ⟨vp_in_nI (by omega) (by omega), nm_e ⟨vp_in_nI (by omega) (by omega), ?_⟩⟩
        rw [pk_us]
        exact K _ _ (yf_aux h')
    · subst e
      have hAl2 : A2.length ≤ 256 := (dk_inv_bd hg hx2'.2.1).1
      refine ph_go (x := a) (m := 1) (rs := z ++ w) (ic2 := iz) (kp1 := nI fam) (ctx2 := ctx) (Q2 := fun H => cx_Y T pre.length H.2 ctx ∧ H.2 pre.length = nI fam) hg hi hT eT hS eS1 ha (by omega) (by simp; omega) (by omega) (by omega) (by omega) hx2' ?_ ?_ ?_
      · intro post u bs bl f B hf h K
        refine xin post u bs bl f B hf h fun u' h' => ⟨fun y => absurd hr (by omega), fun _ => ?_⟩
        refine xf_call hX h' fun u2 h2 => br_t (nI_pos' (by omega)) ⟨vp_in_nI (by omega) (by omega), nm_e ⟨vp_in_nI (by omega) (by omega), ?_⟩⟩
        rw [show xg_part u2 (4 * i + 2) = nI iz from xl_part (j := 2) hx2'.2.1 h2 (lk_x_get hx2' hA') hcs hl rfl (lk_x_get hx2' hiz)]
        exact K _ _ (xf_keep h2)
      · intro post u bs bl H h hQ K
        refine yin post u bs bl H h hQ.2.2 (fun y => absurd hr (by omega)) fun _ => ?_
        refine yf_call hY h fun u' h' => ?_
        rw [pk_sub (by omega), show 120 * b0 + pre.length - 120 * b0 = pre.length from by omega, nI_clamp (by omega)]
        refine ⟨vp_in_nI (by omega) (by omega), nm_e ⟨vp_in_nI (by omega) (by omega), ?_⟩⟩
        rw [pk_us]
        refine K _ _ _ (nI_pos (by omega)) (yf_aux h') ⟨?_, ?_⟩ ?_
        · refine cx_Y_congr hQ.1 ?_
          intro j hj
          show upd H.2 pre.length (nI fam) j = _
          rw [pk_un (by omega)]
        · show upd H.2 pre.length (nI fam) pre.length = _
          rw [pk_us]
        · intro j hj
          refine ⟨rfl, ?_⟩
          show upd H.2 pre.length (nI fam) j = _
          rw [pk_un (by omega)]
      · rw [show pre.length + 1 + a.length + P.length = pre.length + 1 + (a ++ P).length from by omega]
        refine ph_child (pre' := pre ++ t :: (a ++ P)) (suf' := w ++ suf) IH (by omega) (by rw [eT, eS]; simp) (by simp; omega) hz hx2'.2.1 (lk_x_ev hx2' hE) (lk_x_get hx2' hT) (lk_x_get hx2' hiz) hx2'.2.2 (by omega) (fun y hy => by have := hctx y hy; have := lk_x_len hx2'; omega) (by omega) (by omega) ?_ ?_ ?_
        · intro H hQ
          refine cx_Y_same hTf eT hS eS2 (m := 2) hx2 (by omega) ?_ hQ.1
          rw [hov, decide_eq_false (p := pre.length + 1 + (a ++ P).length < pre.length + 1 + a.length + P.length) (by omega), Bool.and_false]
        · intro H H' hQ hs
          exact ⟨cx_keep (by omega) hQ.1 hs, by rw [(hs pre.length (by omega)).2]; exact hQ.2⟩
        · intro A3 tk3 r2 hx3' hr2
          have hx13 := lk_x_trans hx2' hx3'
          exact ph_rec3 hg IH hkk hx3'.2.1 (lk_x_ev hx13 hE) (lk_x_get hx13 hT) hx3'.2.2 eT hS (lk_x_get hx13 hAi) hcl (fun y hy => by have := hctx y hy; have := lk_x_len hx13; omega) eS hk hov ha hP hz hw (lk_x_get hx13 hia) (lk_x_get hx13 hiw) (by have := lk_x_len hx3'; omega) hr2
  · refine ph_bad (x := a) (m := 1) (rs := z ++ w) (rr := -7) hg hi hT eT hS hAi eS1 ha (by omega) (by omega) (by omega) (by omega) (Or.inr (Or.inr (Or.inr (Or.inr (Or.inl rfl))))) hxA ?_ ?_
    · intro post u bs bl f B hf h K
      exact xin post u bs bl f B hf h fun u' h' => ⟨fun _ => K u' _ _ _ _ h', fun y => absurd y hr⟩
    · intro post u bs bl H h hQ K
      exact yin post u bs bl H h hQ.2.2 (fun _ => K u H h) fun y => absurd y hr
theorem iv_rec {k : Nat} (hg : ga_ok g) (IH : iv_P g T b0 k) (hkk : S.length ≤ k + 1) (hi : dk_inv g A) (hE : dk_ev g A) (hT : A[b0]? = some T) (htk : tk ≤ ga_FL g) (eT : T = pre ++ S ++ suf) (hS : dk_fo S 1) (hAi : A[i]? = some S) (hcl : ctx.length ≤ pre.length) (hctx : ∀ c ∈ ctx, c < A.length) (eS : S = t :: (a ++ (P ++ (z ++ w)))) (hk : t.1 = 9) (ha : dk_fo a 1) (hP : dk_fo P 1) (hz : dk_fo z 1) (hw : dk_fo w 1) : iv_O g T b0 A tk i pre.length S.length ctx := by
  have hb := dk_bd_pos (dk_inv_bd hg hi) hAi
  have hbd := dk_inv_bd hg hi
  have hbT := dk_bd_pos hbd hT
  have hTf := hbT.2.1
  have hAl : A.length ≤ 256 := hbd.1
  have hlen : T.length = pre.length + (S.length + suf.length) := by rw [eT]; simp
  have ha1 := dk_fo_len ha
  have hP1 := dk_fo_len hP
  have hz1 := dk_fo_len hz
  have hw1 := dk_fo_len hw
  have hSl : S.length = 1 + (a.length + (P.length + (z.length + w.length))) := by rw [eS]; simp; omega
  have eS0 : S = t :: ([] ++ (a ++ (P ++ (z ++ w)))) := by rw [eS]; simp
  have hA' : A[i]? = some (t :: [a, P, z, w].flatten) := by rw [hAi, eS]; simp
  have hcs : ∀ x ∈ [a, P, z, w], dk_fo x 1 := by
    intro x hx
    simp at hx
    rcases hx with y | y | y | y <;> rw [y] <;> assumption
  have hl : [a, P, z, w].length = dk_ar t.1 := by rw [hk]; rfl
  obtain ⟨ia, hia⟩ := dk_kid hi hA' hcs (c := a) (by simp)
  obtain ⟨iP, hiP⟩ := dk_kid hi hA' hcs (c := P) (by simp)
  obtain ⟨iz, hiz⟩ := dk_kid hi hA' hcs (c := z) (by simp)
  obtain ⟨iw, hiw⟩ := dk_kid hi hA' hcs (c := w) (by simp)
  have hov : ∀ q, dk_over T pre.length q = (decide (pre.length + 1 + a.length ≤ q) && decide (q < pre.length + 1 + a.length + P.length)) := by
    intro q
    have e1 : T = pre ++ t :: (a ++ (P ++ ((z ++ w) ++ suf))) := by rw [eT, eS]; simp
    have hT' := hTf
    rw [e1] at hT'
    obtain ⟨k2, _, hf2⟩ := dk_fo_suf hT' (by simp)
    obtain ⟨d', c', r', el, fd, fc, eo⟩ := (dk_over_spec (p := q) e1 rfl hf2).2.1 (by simp [hk])
    obtain ⟨z1, z2⟩ := dk_fo_pre ha fd el
    obtain ⟨z3, _⟩ := dk_fo_pre hP fc z2
    rw [eo, ← z1, ← z3]
  refine iv_open (c := a) (rs := P ++ (z ++ w)) (ic := ia) (Q := fun H => cx_Y T pre.length H.2 ctx) (W := 1 + 5 * a.length + (1 + 5 * P.length + (1 + 5 * z.length + (1 + 5 * w.length + 1)))) hg hi hT htk eT hS hAi eS (by omega) (by rw [hk]; decide) (by omega) (by omega) (fun H h => h) ?_ fun hlt => ?_
  · intro post u bs bl f ans B hf h K
    refine xr_in hb.1 hi h hA' hcs hl hk ?_
    rw [xe_stepRec, show (4 : Int32) * nI i = nI (4 * i) from pk_mul 4 i, nI_clamp (n := 4 * i) (by omega)]
    refine br_t rfl ⟨vp_in_nI (by omega) (by omega), ?_⟩
    rw [show xg_part u (4 * i) = nI ia from xl_part (j := 0) hi h hA' hcs hl rfl hia]
    exact K
  · refine ph_child (pre' := pre ++ [t]) (suf' := (P ++ (z ++ w)) ++ suf) IH (by omega) (by rw [eT, eS]; simp) (by simp) ha hi hE hT hia (by omega) (by omega) hctx (by omega) (by omega) ?_ ?_ ?_
    · intro H hQ
      refine cx_Y_same hTf eT hS eS0 (m := 0) rfl (by omega) ?_ hQ
      rw [hov, decide_eq_false (by simp; omega), Bool.false_and]
    · intro H H' hQ hs
      exact cx_keep (by omega) hQ hs
    · intro A1 tk1 r0 hx1 hr0
      have hi1 := hx1.2.1
      have hT1 := lk_x_get hx1 hT
      have hAi1 := lk_x_get hx1 hAi
      have hA1' := lk_x_get hx1 hA'
      have hAl1 : A1.length ≤ 256 := (dk_inv_bd hg hi1).1
      have hA4 := dk_A4 hi1
      have hx11 : lk_x g A1 A1 tk1 := ⟨⟨[], by simp⟩, hi1, hx1.2.2⟩
      have xin : ∀ (post : Int32 → SX → Prop) (u : SX) (bs : Nat) (bl : Int32) (f : Nat) (B : dk_B), f ≤ 190 → xf_R g A1 bs tk1 bl f i 2 0 (nI r0) ctx B u → (r0 = 2 → ∀ u', xf_R g A1 bs tk1 bl f i 2 0 (nI r0) (2 :: ctx) B u' → wpX_visit (fun r3 u3 => (post r3 u3)) u' (nI iP)) → (r0 ≠ 2 → post (-9) u) → xv_stepVisit_58 post (nI f) (nI i) (nI 1) u := by
        intro post u bs bl f B hf h k1 k2
        refine xr_in hb.1 hi1 h hA1' hcs hl hk ?_
        rw [xe_stepRec, show (4 : Int32) * nI i = nI (4 * i) from pk_mul 4 i, show (nI (4 * i) + 1 : Int32) = nI (4 * i + 1) from nI_add _ 1, nI_clamp (n := 4 * i + 1) (by omega), h.2.2.2.2.2.1]
        refine br_f (by decide) (br_t rfl (br_c (fun y => ?_) fun y => k2 (fun y2 => y (by rw [y2]; rfl))))
        refine xl_push (c := 2) (by omega) h fun u1 h1 => ⟨vp_in_nI (by omega) (by omega), ?_⟩
        rw [show xg_part u1 (4 * i + 1) = nI iP from xl_part (j := 1) hi1 h1 hA1' hcs hl rfl (lk_x_get hx1 hiP)]
        exact k1 ((nI_eq (by omega) (by decide)).mp y) u1 h1
      have yin : ∀ (post : Int32 → SY → Prop) (u : SY) (bs : Nat) (bl : Int32) (H : dk_H), yf_R g A1 bs tk1 bl H u → H.1 (pre.length + 1) = nI r0 → (∀ u', yf_R g A1 bs tk1 bl (H.1, upd H.2 pre.length 2) u' → ((r0 = 2 → post 1 u') ∧ (r0 ≠ 2 → post (-9) u'))) → wpY_afterChild post u (nI (120 * b0)) (nI (120 * b0 + pre.length)) (nI (120 * b0 + (pre.length + 1))) := by
        intro post u bs bl H h hH K
        refine ya_pre hg hi1 hT1 h eT eS ha (by omega) (by omega) ?_
        rw [decide_eq_true rfl, hH, hk]
        refine ya_rec1 ?_ ?_
        · rw [nI_eq (by omega) (by omega)]; omega
        · rw [pk_sub (by omega), show 120 * b0 + pre.length - 120 * b0 = pre.length from by omega, nI_clamp (by omega)]
          refine ⟨vp_in_nI (by omega) (by omega), nm_e ?_⟩
          obtain ⟨k1, k2⟩ := K _ (yf_aux (p := pre.length) (v := 2) h)
          exact br_c (fun y => k1 ((nI_eq (by omega) (by decide)).mp y)) fun y => k2 (fun y2 => y (by rw [y2]; rfl))
      by_cases hr : r0 = 2
      · refine ph_go (x := []) (m := 0) (rs := P ++ (z ++ w)) (ic2 := iP) (kp1 := 0) (ctx2 := 2 :: ctx) (Q2 := fun H => cx_Y T pre.length H.2 ctx ∧ H.2 pre.length = nI 2) hg hi1 hT1 eT hS eS0 rfl (by omega) (by simp; omega) (by omega) (by omega) (by omega) hx11 ?_ ?_ ?_
        · intro post u bs bl f B hf h K
          exact xin post u bs bl f B hf h (fun _ u' h' => K u' _ h') fun y => absurd hr y
        · intro post u bs bl H h hQ K
          refine yin post u bs bl H h hQ.2 fun u' h' => ⟨fun _ => ?_, fun y => absurd hr y⟩
          refine K u' _ 1 (by decide) h' ⟨?_, ?_⟩ ?_
          · refine cx_Y_congr hQ.1 ?_
            intro j hj
            show upd H.2 pre.length 2 j = _
            rw [pk_un (by omega)]
          · show upd H.2 pre.length 2 pre.length = _
            rw [pk_us]; rfl
          · intro j hj
            refine ⟨rfl, ?_⟩
            show upd H.2 pre.length 2 j = _
            rw [pk_un (by omega)]
        · refine ph_child (pre' := pre ++ t :: a) (suf' := (z ++ w) ++ suf) IH (by omega) (by rw [eT, eS]; simp) (by simp; omega) hP hi1 (lk_x_ev hx1 hE) hT1 (lk_x_get hx1 hiP) hx1.2.2 (by simp; omega) ?_ (by omega) (by simp; omega) ?_ ?_ ?_
          · intro y hy
            rcases List.mem_cons.mp hy with q | q
            · rw [q]; omega
            · have := hctx y q
              have := lk_x_len hx1
              omega
          · intro H hQ
            refine cx_Y_push hTf eT hS eS (m := 1) ha (by omega) ?_ hQ.2 hQ.1
            rw [hov, decide_eq_true (by omega), decide_eq_true (by omega)]; rfl
          · intro H H' hQ hs
            exact ⟨cx_keep (by simp; omega) hQ.1 hs, by rw [(hs pre.length (by simp; omega)).2]; exact hQ.2⟩
          · intro A3 tk3 r1 hx3 hr1
            have hx13 := lk_x_trans hx1 hx3
            have := ph_rec2 (tk := tk3) (r1 := r1) hg IH hkk hx3.2.1 (lk_x_ev hx13 hE) (lk_x_get hx13 hT) hx3.2.2 eT hS (lk_x_get hx13 hAi) hcl (fun y hy => by have := hctx y hy; have := lk_x_len hx13; omega) eS hk hov ha hP hz hw (lk_x_get hx13 hia) (lk_x_get hx13 hiP) (lk_x_get hx13 hiz) (lk_x_get hx13 hiw) hr1
            have eQ : (fun H : dk_H => (cx_Y T pre.length H.2 ctx ∧ H.2 pre.length = nI 2) ∧ H.1 (pre.length + 1 + ([] : List dk_T).length + a.length) = nI r1) = (fun H => cx_Y T pre.length H.2 ctx ∧ H.2 pre.length = nI 2 ∧ H.1 (pre.length + 1 + a.length) = nI r1) := by
              funext H
              exact propext and_assoc
            rw [eQ]
            exact this
      · refine ph_bad (x := []) (m := 0) (rs := P ++ (z ++ w)) (rr := -9) hg hi1 hT1 eT hS hAi1 eS0 rfl (by omega) (by omega) (by omega) (by omega) (Or.inr (Or.inr (Or.inr (Or.inr (Or.inr (Or.inr (Or.inl rfl))))))) hx11 ?_ ?_
        · intro post u bs bl f B hf h K
          exact xin post u bs bl f B hf h (fun y => absurd y hr) fun _ => K u _ _ _ _ h
        · intro post u bs bl H h hQ K
          exact yin post u bs bl H h hQ.2 fun u' h' => ⟨fun y => absurd y hr, fun _ => K u' _ h'⟩
end
/-- every visit, in step -/
theorem iv_all {g : dk_G} (hg : ga_ok g) (T : List dk_T) (b0 : Nat) : ∀ k, iv_P g T b0 k := by
  intro k
  induction k with
  | zero =>
    intro S pre suf A tk i ctx hk eT hS
    have := dk_fo_len hS
    omega
  | succ k IH =>
    intro S pre suf A tk i ctx hk eT hS hi hE hT hAi htk hcl hctx
    obtain ⟨t, l, eS, fl⟩ := dk_fo_pos (n := 0) hS
    rw [Nat.zero_add] at fl
    have hkk : dk_kk t.1 := ((dk_inv_gd hi hAi).1.2 t (by rw [eS]; simp)).1
    have leaf : (t.1 = 1 ∨ t.1 = 2 ∨ t.1 = 3 ∨ t.1 = 10 ∨ t.1 = 5) → iv_O g T b0 A tk i pre.length S.length ctx := by
      intro hz
      have har : dk_ar t.1 = 0 := by rcases hz with z | z | z | z | z <;> rw [z] <;> decide
      rw [har] at fl
      cases dk_fo0 fl
      exact iv_leaves hg hi hE hT htk eT hS hAi eS hcl hctx hz
    have bin : (t.1 = 6 ∨ t.1 = 7 ∨ t.1 = 8) → ∃ d b, l = d ++ b ∧ dk_fo d 1 ∧ dk_fo b 1 := by
      intro hz
      have har : dk_ar t.1 = 1 + 1 := by rcases hz with z | z | z <;> rw [z] <;> decide
      rw [har] at fl
      exact dk_fo_split fl
    rcases hkk with z | z | z | z | z | z | z | z | z | z | z
    · exact leaf (Or.inl z)
    · exact leaf (Or.inr (Or.inl z))
    · exact leaf (Or.inr (Or.inr (Or.inl z)))
    · rw [z, show dk_ar 4 = 1 from by decide] at fl
      exact iv_suc hg IH hk hi hE hT htk eT hS hAi hcl hctx eS z fl
    · exact leaf (Or.inr (Or.inr (Or.inr (Or.inr z))))
    · obtain ⟨d, b, e, h1, h2⟩ := bin (Or.inl z)
      exact iv_binder hg IH hk hi hE hT htk eT hS hAi hcl hctx (by rw [eS, e]) (Or.inl z) h1 h2
    · obtain ⟨d, b, e, h1, h2⟩ := bin (Or.inr (Or.inl z))
      exact iv_binder hg IH hk hi hE hT htk eT hS hAi hcl hctx (by rw [eS, e]) (Or.inr z) h1 h2
    · obtain ⟨d, b, e, h1, h2⟩ := bin (Or.inr (Or.inr z))
      exact iv_app hg IH hk hi hE hT htk eT hS hAi hcl hctx (by rw [eS, e]) z h1 h2
    · rw [z, show dk_ar 9 = 1 + (1 + (1 + 1)) from by decide] at fl
      obtain ⟨a, r1, e1, fa, f1⟩ := dk_fo_split fl
      obtain ⟨P, r2, e2, fP, f2⟩ := dk_fo_split f1
      obtain ⟨y, w, e3, fy, fw⟩ := dk_fo_split f2
      exact iv_rec hg IH hk hi hE hT htk eT hS hAi hcl hctx (by rw [eS, e1, e2, e3]) z fa fP fy fw
    · exact leaf (Or.inr (Or.inr (Or.inr (Or.inl z))))
    · exact iv_fun hg hi hT htk eT hS hAi eS z
end
section
theorem xe_init {post : SX → Prop} {p0 : Int32} {p1 : Int32} {p2 : Int32} {p3 : Int32} : wpX_init post p0 p1 p2 p3 = (wpX_clamp (fun r_1 => (wpX_clamp (fun r_38 => (wpX_clamp (fun r_75 => (wpX_clamp (fun r_112 => (wpX_intern (fun r_149 u_150 => (wpX_intern (fun r_186 u_187 => (wpX_intern (fun r_223 u_224 => (wpX_intern (fun r_260 u_261 => (post (xs_base (xg_count u_261) u_261))) u_224 3 0 0 0 0)) u_187 2 0 0 0 0)) u_150 1 1 0 0 0)) ((-100), r_1, r_38, r_75, r_112, 0, 0, 0, 0, (-13), 0, 0, 0, 0, 0, 0, 0, (fun _ => 0), (fun _ => 0), (fun _ => 0), (fun _ => 0), (fun _ => 0), (fun _ => 0), (fun _ => 0), (fun _ => 0), (fun _ => 0), (fun _ => 0), (fun _ => 0), (fun _ => 0), (fun _ => 0), (fun _ => 0), (fun _ => 0), (fun _ => 0), (fun _ => 0), (fun _ => 0), (fun _ => 0)) 1 0 0 0 0)) ((-100), r_1, r_38, r_75, 0, 0, 0, 0, 0, 0, 0, 0, 0, 0, 0, 0, 0, (fun _ => 0), (fun _ => 0), (fun _ => 0), (fun _ => 0), (fun _ => 0), (fun _ => 0), (fun _ => 0), (fun _ => 0), (fun _ => 0), (fun _ => 0), (fun _ => 0), (fun _ => 0), (fun _ => 0), (fun _ => 0), (fun _ => 0), (fun _ => 0), (fun _ => 0), (fun _ => 0), (fun _ => 0)) p3 1 16)) ((-100), r_1, r_38, 0, 0, 0, 0, 0, 0, 0, 0, 0, 0, 0, 0, 0, 0, (fun _ => 0), (fun _ => 0), (fun _ => 0), (fun _ => 0), (fun _ => 0), (fun _ => 0), (fun _ => 0), (fun _ => 0), (fun _ => 0), (fun _ => 0), (fun _ => 0), (fun _ => 0), (fun _ => 0), (fun _ => 0), (fun _ => 0), (fun _ => 0), (fun _ => 0), (fun _ => 0), (fun _ => 0)) p2 8 200)) ((-100), r_1, 0, 0, 0, 0, 0, 0, 0, 0, 0, 0, 0, 0, 0, 0, 0, (fun _ => 0), (fun _ => 0), (fun _ => 0), (fun _ => 0), (fun _ => 0), (fun _ => 0), (fun _ => 0), (fun _ => 0), (fun _ => 0), (fun _ => 0), (fun _ => 0), (fun _ => 0), (fun _ => 0), (fun _ => 0), (fun _ => 0), (fun _ => 0), (fun _ => 0), (fun _ => 0), (fun _ => 0)) p1 8 120)) ((-100), 0, 0, 0, 0, 0, 0, 0, 0, 0, 0, 0, 0, 0, 0, 0, 0, (fun _ => 0), (fun _ => 0), (fun _ => 0), (fun _ => 0), (fun _ => 0), (fun _ => 0), (fun _ => 0), (fun _ => 0), (fun _ => 0), (fun _ => 0), (fun _ => 0), (fun _ => 0), (fun _ => 0), (fun _ => 0), (fun _ => 0), (fun _ => 0), (fun _ => 0), (fun _ => 0), (fun _ => 0)) p0 16 256) := rfl
theorem ye_init {post : SY → Prop} {p0 : Int32} {p1 : Int32} {p2 : Int32} {p3 : Int32} : wpY_init post p0 p1 p2 p3 = (¬ (47344 : Int32) < 0 ∧ ∀ n_mem : Nat, n_mem = (47344 : Int32).toNatClampNeg → n_mem ≤ 47344 ∧ (¬ (47344 : Int32) < 0 ∧ ∀ n_dep : Nat, n_dep = (47344 : Int32).toNatClampNeg → n_dep ≤ 47344 ∧ (wpY_clamp (fun r_5 => (wpY_clamp (fun r_25 => (wpY_clamp (fun r_45 => (wpY_clamp (fun r_65 => (vp_in 0 n_mem ∧ ∀ a_mem_86 : Nat → Int64, a_mem_86 = vp_updL (fun _ => 0) (0 : Int32).toNatClampNeg 1 → (vp_in 120 n_mem ∧ ∀ a_mem_88 : Nat → Int64, a_mem_88 = vp_updL a_mem_86 (120 : Int32).toNatClampNeg 17 → (vp_in 240 n_mem ∧ ∀ a_mem_90 : Nat → Int64, a_mem_90 = vp_updL a_mem_88 (240 : Int32).toNatClampNeg 2 → (vp_in 360 n_mem ∧ ∀ a_mem_92 : Nat → Int64, a_mem_92 = vp_updL a_mem_90 (360 : Int32).toNatClampNeg 3 → (post (r_5, r_25, r_45, r_65, 4, 0, 0, (-13), 0, 0, a_mem_92, (fun _ => 0), (fun _ => 0), (fun _ => 0), (fun _ => 0), (fun _ => 0), (fun _ => 0), n_mem, n_dep))))))) (r_5, r_25, r_45, 0, 0, 0, 0, 0, 0, 0, (fun _ => 0), (fun _ => 0), (fun _ => 0), (fun _ => 0), (fun _ => 0), (fun _ => 0), (fun _ => 0), n_mem, n_dep) p3 1 16)) (r_5, r_25, 0, 0, 0, 0, 0, 0, 0, 0, (fun _ => 0), (fun _ => 0), (fun _ => 0), (fun _ => 0), (fun _ => 0), (fun _ => 0), (fun _ => 0), n_mem, n_dep) p2 8 200)) (r_5, 0, 0, 0, 0, 0, 0, 0, 0, 0, (fun _ => 0), (fun _ => 0), (fun _ => 0), (fun _ => 0), (fun _ => 0), (fun _ => 0), (fun _ => 0), n_mem, n_dep) p1 8 120)) (0, 0, 0, 0, 0, 0, 0, 0, 0, 0, (fun _ => 0), (fun _ => 0), (fun _ => 0), (fun _ => 0), (fun _ => 0), (fun _ => 0), (fun _ => 0), n_mem, n_dep) p0 16 256))) := rfl
end
section
/-! the whole calls of INFER, and keep -/
def dk_bl (ob : Option Nat) (bl : Int32) : Int32 := match ob with
  | none => bl
  | some b => nI b
theorem px_root {g : dk_G} {A : List (List dk_T)} {M : dk_M} {F : dk_F} {T O : List dk_T} {cap : Nat} {u : SX} (h : px_R g A M F T cap O u) : ∃ F', px_R g A M F' T cap O (xs_frameTop_contextLen 0 0 u) := ⟨(0, F.2.1, 0, F.2.2.2.1, F.2.2.2.2.1, F.2.2.2.2.2.1, F.2.2.2.2.2.2), h.1, h.2.1, h.2.2.1, ⟨rfl, h.2.2.2.1.2.1, rfl, h.2.2.2.1.2.2.2.1, h.2.2.2.1.2.2.2.2.1, h.2.2.2.1.2.2.2.2.2.1, h.2.2.2.1.2.2.2.2.2.2⟩, h.2.2.2.2.1, h.2.2.2.2.2⟩
theorem xl_rootv {g : dk_G} {A : List (List dk_T)} {bs tk i : Nat} {bl : Int32} {F : dk_F} {T O : List dk_T} {cap : Nat} {u : SX} {post : Int32 → SX → Prop} (hR : px_R g A (bs, tk, bl) F T cap O u) (h0 : xg_frameTop u = nI 0) (h1 : xg_contextLen u = nI 0) (K : ∀ u' ans B, xf_R g A bs tk bl 0 i 0 0 ans [] B u' → post (-100) u') : wpX_visit post u (nI i) := by
  rw [xe_visit, h0, nI_clamp (by decide)]
  refine br_t (by decide) ⟨vp_in_nI (by decide) (by decide), nm_e ⟨vp_in_nI (by decide) (by decide), nm_e ⟨vp_in_nI (by decide) (by decide), nm_e (nm_r (nI_1 _) ?_)⟩⟩⟩
  obtain ⟨F1, hR1⟩ := px_frames (a := nI (0 + 1)) (b := upd (xg_frameNode u) 0 (nI i)) (c := upd (xg_frameStep u) 0 0) (d := upd (xg_frameKeep u) 0 0) hR
  refine K _ (xg_answer u) (xg_frameNode u, xg_frameStep u, xg_frameKeep u) ⟨⟨F1, T, cap, O, hR1⟩, rfl, ?_, ?_, ?_, rfl, ⟨h1, by simp⟩, ?_⟩
  · show upd (xg_frameNode u) 0 (nI i) 0 = _
    rw [pk_us]
  · show upd (xg_frameStep u) 0 0 0 = _
    rw [pk_us]; rfl
  · show upd (xg_frameKeep u) 0 0 0 = _
    rw [pk_us]
  · intro j hj; omega
/-- INFER(empty, node i) -/
theorem lk_infer {g : dk_G} (hg : ga_ok g) {A : List (List dk_T)} {tk i : Nat} {T : List dk_T} (hi : dk_inv g A) (hE : dk_ev g A) (htk : tk ≤ ga_FL g) (hT : A[i]? = some T) : ∃ (r : Int32) (A' : List (List dk_T)) (tk' : Nat) (ob : Option Nat), lk_x g A A' tk' ∧ ((∃ ri : Nat, r = nI ri ∧ ri < A'.length ∧ ob = none) ∨ (dk_fl r ∧ ∃ bi, ob = some bi)) ∧ (∀ (post : Int32 → SX → Prop) (u : SX) (bs : Nat) (bl : Int32) (F : dk_F) (T' : List dk_T) (cap : Nat) (O : List dk_T), px_R g A (bs, tk, bl) F T' cap O u → (∀ u' F' T' cap' O', px_R g A' (bs, tk', dk_bl ob bl) F' T' cap' O' u' → post r u') → wpX_runInfer post u (nI i)) ∧ (∀ (post : Int32 → SY → Prop) (u : SY) (bs : Nat) (bl : Int32) (H : dk_H), yf_R g A bs tk bl H u → (∀ u' H', yf_R g A' bs tk' (dk_bl ob bl) H' u' → post r u') → wpY_typing post u (nI i)) := by
  have hb := dk_bd_pos (dk_inv_bd hg hi) hT
  have hT1 := dk_fo_len hb.2.1
  obtain ⟨A', tk', hx, hout⟩ := iv_all hg T i T.length T [] [] A tk i [] (Nat.le_refl _) (by simp) hb.2.1 hi hE hT hT htk (by simp) (by simp)
  have hAl' : A'.length ≤ 256 := (dk_inv_bd hg hx.2.1).1
  have xin : ∀ (post : Int32 → SX → Prop) (u : SX) (bs : Nat) (bl : Int32) (F : dk_F) (T' : List dk_T) (cap : Nat) (O : List dk_T), px_R g A (bs, tk, bl) F T' cap O u → (∀ u' ans B, xf_R g A bs tk bl 0 i 0 0 ans [] B u' → xv_runInfer_21 post (4200 - 0) (-4) (nI 0) u') → wpX_runInfer post u (nI i) := by
    intro post u bs bl F T' cap O hR K
    rw [xe_runInfer]
    obtain ⟨F0, hR0⟩ := px_root hR
    exact xl_rootv hR0 rfl rfl fun u' ans B h' => ⟨4200, K u' ans B h'⟩
  have yin : ∀ (post : Int32 → SY → Prop) (u : SY) (bs : Nat) (bl : Int32) (H : dk_H), yf_R g A bs tk bl H u → yv_typing_14 post (nI (120 * i)) (nI (120 * i + T.length)) (T.length - 0 + 1) (nI (120 * i + 0)) u → wpY_typing post u (nI i) := by
    intro post u bs bl H h K
    obtain ⟨hnm, hs, hbl, hTl, hTf, _⟩ := yf_T hg hi hT h
    rw [ye_typing]
    refine nm_r (nI_120 i) ?_
    exact yl_end hnm hs hTf (by omega) ⟨_, K⟩
  have hcx : ∀ H : dk_H, cx_Y T 0 H.2 [] := fun H => ⟨rfl, by simp⟩
  rcases hout with ⟨r, hr, hX, hY⟩ | ⟨rr, bi, hfl, hX, hY⟩
  · refine ⟨nI r, A', tk', none, hx, Or.inl ⟨r, rfl, hr, rfl⟩, ?_, ?_⟩
    · intro post u bs bl F T' cap O hR K
      refine xin post u bs bl F T' cap O hR fun u1 ans B h1 => ?_
      refine hX post (-4) 0 u1 bs bl 0 ans B h1 (by omega) (by omega) ?_
      intro u2 q2 hq2 h2
      obtain ⟨⟨F2, T2, cap2, O2, hR2⟩, k1, _⟩ := h2
      rw [show 4200 - q2 = (4200 - (q2 + 1)) + 1 from by omega, xe_runInfer_21, k1]
      exact br_f (nI_ge (b := 4096) (by omega) (by decide)) (br_t (by decide) (K u2 F2 T2 cap2 O2 hR2))
    · intro post u bs bl H h K
      refine yin post u bs bl H h ?_
      refine hY post u bs bl H h (hcx H) ?_
      intro u1 H1 h1 _ hH
      have hT' := lk_x_get hx hT
      refine br_t (Int32.le_refl _) (nm_e ?_)
      show yv_typing_80 _ _ _ _ _ _ _ _ _ _
      rw [ye_typing_80]
      refine br_t (ni_lt1 (120 * i) (by omega)) ?_
      rw [ye_typing_168]
      refine br_t (nI_pos' (by omega)) (nm_r (nI_1 _) ?_)
      show yv_typing_14 _ _ _ _ _ _
      have hty : yg_ty u1 = H1.1 := by
        obtain ⟨m, d, O, hR, hA⟩ := h1
        exact hR.2.2.2.1.1
      rw [ye_typing_14, hty]
      refine br_t ?_ ?_
      · rw [show 120 * i + (([] : List dk_T).length + T.length - 1) + 1 = 120 * i + T.length from by simp; omega]
        exact Int32.le_refl _
      · have hH : H1.1 0 = nI r := hH
        rw [hH]
        exact K u1 H1 h1
  · refine ⟨rr, A', tk', some bi, hx, Or.inr ⟨hfl, bi, rfl⟩, ?_, ?_⟩
    · intro post u bs bl F T' cap O hR K
      refine xin post u bs bl F T' cap O hR fun u1 ans B h1 => ?_
      refine hX post (-4) 0 u1 bs bl 0 ans B h1 (by omega) (by omega) ?_
      intro u2 h2
      obtain ⟨F2, T2, cap2, O2, hR2⟩ := h2
      exact K u2 F2 T2 cap2 O2 hR2
    · intro post u bs bl H h K
      refine yin post u bs bl H h ?_
      exact hY post u bs bl H h (hcx H) K
/-! cutting the arena back -/
theorem px_A_take {g : dk_G} {A : List (List dk_T)} {k : Nat} {u : SX} (hi : dk_inv g A) (hk : k ≤ A.length) (h : px_A A u) : px_A (A.take k) (xs_count (nI k) u) := by
  refine ⟨?_, ?_⟩
  · show nI k = nI (A.take k).length
    rw [List.length_take_of_le hk]
  · intro i S hS
    have hik : i < k := by
      have := (List.getElem?_eq_some_iff.mp hS).1
      simp at this; omega
    rw [List.getElem?_take_of_lt hik] at hS
    obtain ⟨⟨cs, c1, c2, c3, c4⟩, h2⟩ := h.2 i S hS
    refine ⟨⟨cs, c1, c2, ?_, c4⟩, h2⟩
    intro j c hj
    obtain ⟨f1, i', e1, e2⟩ := c3 j c hj
    refine ⟨f1, i', ?_, e2⟩
    have hcs : ∀ c ∈ cs, dk_fo c 1 := fun c hc => by
      obtain ⟨j, hj⟩ := List.getElem?_of_mem hc
      exact (c3 j c hj).1
    have hcm : c ∈ cs := List.mem_of_getElem? hj
    have hlt : c.length ≤ cs.flatten.length := by
      obtain ⟨x, y, e⟩ := List.append_of_mem hcm
      rw [e]; simp; omega
    obtain ⟨j', hj', e'⟩ := hi.2.2.2.1 i S c hS (by rw [c1]; exact dk_sub_child hcs hcm) (by
      intro z
      have : c.length = S.length := by rw [z]
      rw [c1] at this
      simp only [List.length_cons] at this
      omega)
    have ei := dk_idx hi.2.1 e1 e'
    subst ei
    rw [List.getElem?_take_of_lt (by omega)]
    exact e'
theorem px_cut {g : dk_G} {A : List (List dk_T)} {M : dk_M} {F : dk_F} {T O : List dk_T} {cap k : Nat} {u : SX} (hi : dk_inv g A) (hk : k ≤ A.length) (h : px_R g A M F T cap O u) : px_R g (A.take k) M F T cap O (xs_count (nI k) u) := ⟨h.1, px_A_take hi hk h.2.1, h.2.2.1, h.2.2.2.1, h.2.2.2.2.1, h.2.2.2.2.2⟩
theorem py_A_take {A : List (List dk_T)} {k : Nat} {m : Nat → Int64} (h : py_A A m) : py_A (A.take k) m := by
  intro i S hS
  have hik : i < k := by
    have := (List.getElem?_eq_some_iff.mp hS).1
    simp at this; omega
  rw [List.getElem?_take_of_lt hik] at hS
  exact h i S hS
theorem dk_ev_take {g : dk_G} {A : List (List dk_T)} {k : Nat} (hE : dk_ev g (A.take k)) : dk_ev g A := by
  have := dk_ev_app (B := A.drop k) hE
  rw [List.take_append_drop] at this
  exact this
/-- a list without doubles within another is no longer -/
theorem dk_nodup_len {α : Type} : ∀ {l m : List α}, l.Nodup → (∀ x ∈ l, x ∈ m) → l.length ≤ m.length := by
  intro l
  induction l with
  | nil => intro m _ _; simp
  | cons x l ih =>
    intro m hn hs
    obtain ⟨a, b, e⟩ := List.append_of_mem (hs x (by simp))
    rw [List.nodup_cons] at hn
    have := ih (m := a ++ b) hn.2 (by
      intro y hy
      have h1 := hs y (by simp [hy])
      rw [e] at h1
      simp at h1
      rcases h1 with h1 | h1 | h1
      · simp [h1]
      · rw [h1] at hy; exact absurd hy hn.1
      · simp [h1])
    rw [e]
    simp at this ⊢
    omega
/-- keep: the tree of r entered afresh over the arena as it was -/
theorem lk_keep {g : dk_G} (hg : ga_ok g) {A : List (List dk_T)} {k r : Nat} {S : List dk_T} (hi : dk_inv g A) (hk4 : 4 ≤ k) (hk : k ≤ A.length) (hS : A[r]? = some S) : ∃ (r' : Nat) (A' : List (List dk_T)), (∃ B, A' = A.take k ++ B) ∧ dk_inv g A' ∧ r' < A'.length ∧ (∀ (post : Int32 → SX → Prop) (u : SX) (tk : Nat) (bl : Int32) (F : dk_F) (T : List dk_T) (cap : Nat) (O : List dk_T), px_R g A (k, tk, bl) F T cap O u → (∀ u' T' cap' O', px_R g A' (k, tk, bl) F T' cap' O' u' → post (nI r') u') → wpX_keep post u (nI r)) ∧ (∀ (post : Int32 → SY → Prop) (u : SY) (tk : Nat) (bl : Int32) (H : dk_H), yf_R g A k tk bl H u → (∀ u', yf_R g A' k tk bl H u' → post (nI r') u') → wpY_keep post u (nI r)) := by
  have hbd := dk_inv_bd hg hi
  have hbS := dk_bd_pos hbd hS
  obtain ⟨gS, lS⟩ := dk_inv_gd hi hS
  have hi0 := dk_inv_take hi hk4
  obtain ⟨rr, A', ho, hr, hX, hY⟩ := lk_enter hg gS lS hi0
  have hr' : ∃ r' : Nat, rr = nI r' ∧ A'[r']? = some S := by
    rcases hr with h | ⟨_, hb1, R, hR1, hR2⟩
    · exact h
    · exfalso
      have hin : ∀ Q, dk_sub Q S → Q ∈ A := by
        intro Q hQ
        by_cases hQS : Q = S
        · rw [hQS]; exact List.mem_of_getElem? hS
        · obtain ⟨j, _, hj⟩ := hi.2.2.2.1 r S Q hS hQ hQS
          exact List.mem_of_getElem? hj
      have hn : (R :: A').Nodup := by
        rw [List.nodup_cons]
        exact ⟨hR2, ho.2.1.2.1⟩
      have hsub : ∀ x ∈ R :: A', x ∈ A := by
        intro x hx
        rcases List.mem_cons.mp hx with hx | hx
        · rw [hx]; exact hin R hR1
        · rcases ho.2.2 x hx with h | h
          · exact List.mem_of_mem_take h
          · exact hin x h
      have := dk_nodup_len hn hsub
      simp only [List.length_cons] at this
      have := hi.1
      omega
  obtain ⟨r', e, hA'r⟩ := hr'
  subst e
  refine ⟨r', A', ho.1, ho.2.1, (List.getElem?_eq_some_iff.mp hA'r).1, ?_, ?_⟩
  · intro post u tk bl F T cap O hR K
    rw [xe_keep]
    refine xl_load false (fun B hB => (hi.2.2.1 B hB).1) hbd.1 hS (by omega) hR fun u1 h1 => ?_
    have h1 : px_R g A (k, tk, bl) F S 256 S u1 := h1
    rw [show xg_base u1 = nI k from h1.2.2.1.1]
    exact hX _ _ _ F _ _ (px_cut hi hk h1) fun u2 h2 => K u2 _ _ _ h2
  · intro post u tk bl H h K
    obtain ⟨m, d, O, hR, hA⟩ := h
    rw [ye_keep]
    refine br_f (nI_pos (by omega)) ?_
    rw [nI_120]
    refine yl_term (py_out0 hR) (hA r S hS) gS.1 (by omega) rfl fun u1 h1 => ?_
    rw [List.nil_append] at h1
    rw [ye_keep_17]
    refine br_t (nI_pos' (by omega)) ?_
    rw [show yg_mark u1 = nI k from h1.2.2.1.1]
    refine hY _ _ _ H m d ?_ (py_A_take hA) fun u2 m2 h2 h3 _ => K u2 ⟨m2, d, _, h2, h3⟩
    rw [List.length_take_of_le hk]
    exact py_setc h1
end
section
/-! the relation, and the calls that only read -/
def i_Rel (k : Nat) (u : SX) (v : SY) : Prop := 0 ≤ k ∧ ∃ (g : dk_G) (A : List (List dk_T)) (b1 b2 tk : Nat) (bl : Int32) (F : dk_F) (T : List dk_T) (cap : Nat) (O : List dk_T) (H : dk_H), ga_ok g ∧ dk_inv g A ∧ dk_ev g A ∧ tk ≤ ga_FL g ∧ px_R g A (b1, tk, bl) F T cap O u ∧ yf_R g A b2 tk bl H v
theorem i_up {k : Nat} {u : SX} {v : SY} (h : i_Rel k u v) : i_Rel (k + 5) u v := ⟨Nat.zero_le _, h.2⟩
theorem rl_in {k : Nat} {u : SX} {v : SY} {g : dk_G} {A : List (List dk_T)} {b1 b2 tk : Nat} {bl : Int32} {F : dk_F} {T : List dk_T} {cap : Nat} {O : List dk_T} {H : dk_H} (h1 : ga_ok g) (h2 : dk_inv g A) (h3 : dk_ev g A) (h4 : tk ≤ ga_FL g) (h5 : px_R g A (b1, tk, bl) F T cap O u) (h6 : yf_R g A b2 tk bl H v) : i_Rel k u v := ⟨Nat.zero_le _, g, A, b1, b2, tk, bl, F, T, cap, O, H, h1, h2, h3, h4, h5, h6⟩
theorem xl_isNode0 {post : Int32 → Prop} {u : SX} {n : Nat} {x : Int32} (h : xg_count u = nI n) (hx : x < 0 ∨ nI n ≤ x) (K : post 0) : wpX_isNode post u x := by
  rw [xe_isNode, h]
  exact br_c (fun _ => K) fun z => br_t (hx.resolve_left z) K
theorem xl_isNode1 {post : Int32 → Prop} {u : SX} {n j : Nat} (h : xg_count u = nI n) (hn : n < 2 ^ 31) (hj : j < n) (K : post 1) : wpX_isNode post u (nI j) := by
  rw [xe_isNode, h]
  exact br_f (nI_pos (by omega)) (br_f (nI_ge hj hn) K)
theorem yl_bad1 {post : Int32 → Prop} {u : SY} {n : Nat} {x : Int32} (h : yg_count u = nI n) (hx : x < 0 ∨ nI n ≤ x) (K : post 1) : wpY_bad post u x := by
  rw [ye_bad, h]
  refine br_c (fun _ => K) fun z => br_f (Int32.not_lt.mpr (hx.resolve_left z)) K
theorem yl_bad0 {post : Int32 → Prop} {u : SY} {n j : Nat} (h : yg_count u = nI n) (hn : n < 2 ^ 31) (hj : j < n) (K : post 0) : wpY_bad post u (nI j) := by
  rw [ye_bad, h]
  exact br_f (nI_pos (by omega)) (br_t (nI_lt hj hn) K)
theorem xl_isEntry0 {post : Int32 → Prop} {u : SX} {n : Nat} {x : Int32} (h : xg_entryCount u = nI n) (hx : x < 0 ∨ nI n ≤ x) (K : post 0) : wpX_isEntry post u x := by
  rw [xe_isEntry, h]
  exact br_c (fun _ => K) fun z => br_t (hx.resolve_left z) K
theorem xl_isEntry1 {post : Int32 → Prop} {u : SX} {n j : Nat} (h : xg_entryCount u = nI n) (hn : n < 2 ^ 31) (hj : j < n) (K : post 1) : wpX_isEntry post u (nI j) := by
  rw [xe_isEntry, h]
  exact br_f (nI_pos (by omega)) (br_f (nI_ge hj hn) K)
theorem yf_cnt {g : dk_G} {A : List (List dk_T)} {bs tk : Nat} {bl : Int32} {H : dk_H} {v : SY} (h : yf_R g A bs tk bl H v) : yg_count v = nI A.length ∧ py_G g v ∧ yg_ticks v = nI tk ∧ yg_blame v = bl := by
  obtain ⟨m, d, O, hR, hA⟩ := h
  exact ⟨hR.2.1, hR.1, hR.2.2.1.2.1, hR.2.2.1.2.2⟩
theorem i_vc_nodes {k : Nat} {u : SX} {v : SY} (I : i_Rel k u v) (hk : k + 5 ≤ 2564) : wpX_nodes (fun r => wpY_nodes (fun r' => r' = r ∧ i_Rel (k + 5) u v) v) u := by
  have I' := i_up I
  obtain ⟨_, g, A, b1, b2, tk, bl, F, T, cap, O, H, hg, hi, hE, htk, hR, hY⟩ := I
  rw [xe_nodes, ye_nodes]
  exact ⟨by rw [(yf_cnt hY).1, hR.2.1.1], I'⟩
theorem i_vc_definitions {k : Nat} {u : SX} {v : SY} (I : i_Rel k u v) (hk : k + 5 ≤ 2564) : wpX_definitions (fun r => wpY_definitions (fun r' => r' = r ∧ i_Rel (k + 5) u v) v) u := by
  have I' := i_up I
  obtain ⟨_, g, A, b1, b2, tk, bl, F, T, cap, O, H, hg, hi, hE, htk, hR, hY⟩ := I
  rw [xe_definitions, ye_definitions]
  exact ⟨by rw [(yf_cnt hY).2.1.2.2.2.2.1, hR.1.2.2.2.2.1], I'⟩
theorem i_vc_ticks {k : Nat} {u : SX} {v : SY} (I : i_Rel k u v) (hk : k + 5 ≤ 2564) : wpX_ticks (fun r => wpY_ticks (fun r' => r' = r ∧ i_Rel (k + 5) u v) v) u := by
  have I' := i_up I
  obtain ⟨_, g, A, b1, b2, tk, bl, F, T, cap, O, H, hg, hi, hE, htk, hR, hY⟩ := I
  rw [xe_ticks, ye_ticks]
  exact ⟨by rw [(yf_cnt hY).2.2.1, hR.2.2.1.2.1], I'⟩
theorem i_vc_blame {k : Nat} {u : SX} {v : SY} (I : i_Rel k u v) (hk : k + 5 ≤ 2564) : wpX_blame (fun r => wpY_blame (fun r' => r' = r ∧ i_Rel (k + 5) u v) v) u := by
  have I' := i_up I
  obtain ⟨_, g, A, b1, b2, tk, bl, F, T, cap, O, H, hg, hi, hE, htk, hR, hY⟩ := I
  rw [xe_blame, ye_blame]
  exact ⟨by rw [(yf_cnt hY).2.2.2, hR.2.2.1.2.2], I'⟩
theorem pk_ix2 (x : Int32) {n : Nat} (hn : n < 2 ^ 31) : (x < 0 ∨ nI n ≤ x) ∨ ∃ j : Nat, j < n ∧ x = nI j := by
  rcases pk_ix x hn with h | h | h
  · exact Or.inl (Or.inl h)
  · exact Or.inl (Or.inr h)
  · exact Or.inr h
theorem i_vc_limit {k : Nat} {u : SX} {v : SY} (I : i_Rel k u v) (hk : k + 5 ≤ 2564) (v1 : Int32) : wpX_limit (fun r => wpY_limit (fun r' => r' = r ∧ i_Rel (k + 5) u v) v v1) u v1 := by
  have I' := i_up I
  obtain ⟨_, g, A, b1, b2, tk, bl, F, T, cap, O, H, hg, hi, hE, htk, hR, hY⟩ := I
  have hG := (yf_cnt hY).2.1
  have bad : (v1 < 0 ∨ 3 < v1) → wpY_limit (fun r' => r' = -2 ∧ i_Rel (k + 5) u v) v v1 := by
    intro h
    rw [ye_limit]
    refine br_f ?_ (br_f ?_ (br_f ?_ (br_f ?_ ⟨rfl, I'⟩))) <;> (rintro rfl; exact absurd h (by decide))
  rw [xe_limit]
  refine br_c (fun h => bad (Or.inl h)) fun _ => br_c (fun h => bad (Or.inr h)) fun _ => br_c (fun h => ?_) fun h0 => br_c (fun h => ?_) fun h1 => br_c (fun h => ?_) fun h2 => br_c (fun h => ?_) fun h3 => trivial
  · rw [ye_limit]; exact br_t h ⟨hG.1.trans hR.1.1.symm, I'⟩
  · rw [ye_limit]; exact br_f h0 (br_t h ⟨hG.2.1.trans hR.1.2.1.symm, I'⟩)
  · rw [ye_limit]; exact br_f h0 (br_f h1 (br_t h ⟨hG.2.2.1.trans hR.1.2.2.1.symm, I'⟩))
  · rw [ye_limit]; exact br_f h0 (br_f h1 (br_f h2 (br_t h ⟨hG.2.2.2.1.trans hR.1.2.2.2.1.symm, I'⟩)))
theorem i_vc_bodyOf {k : Nat} {u : SX} {v : SY} (I : i_Rel k u v) (hk : k + 5 ≤ 2564) (v1 : Int32) : wpX_bodyOf (fun r => wpY_bodyOf (fun r' => r' = r ∧ i_Rel (k + 5) u v) v v1) u v1 := by
  have I' := i_up I
  obtain ⟨_, g, A, b1, b2, tk, bl, F, T, cap, O, H, hg, hi, hE, htk, hR, hY⟩ := I
  have hG := (yf_cnt hY).2.1
  have hne : ga_ne g ≤ 16 := by have := hg.2.2.2.2.2.2.2; omega
  rw [xe_bodyOf]
  rcases pk_ix2 v1 (n := ga_ne g) (by omega) with h | ⟨j, hj, rfl⟩
  · refine xl_isEntry0 hR.1.2.2.2.2.1 h (br_t rfl ?_)
    rw [ye_bodyOf, hG.2.2.2.2.1]
    exact br_c (fun _ => ⟨rfl, I'⟩) fun z => br_f (Int32.not_lt.mpr (h.resolve_left z)) ⟨rfl, I'⟩
  · refine xl_isEntry1 hR.1.2.2.2.2.1 (by omega) hj (br_f (by decide) ⟨vp_in_nI (by omega) (by omega), ?_⟩)
    rw [ye_bodyOf, hG.2.2.2.2.1, hG.2.2.2.2.2.1, hR.1.2.2.2.2.2.1]
    exact br_f (nI_pos (by omega)) (br_t (nI_lt hj (by omega)) ⟨vp_in_nI (by omega) (by omega), rfl, I'⟩)
theorem i_vc_claimOf {k : Nat} {u : SX} {v : SY} (I : i_Rel k u v) (hk : k + 5 ≤ 2564) (v1 : Int32) : wpX_claimOf (fun r => wpY_claimOf (fun r' => r' = r ∧ i_Rel (k + 5) u v) v v1) u v1 := by
  have I' := i_up I
  obtain ⟨_, g, A, b1, b2, tk, bl, F, T, cap, O, H, hg, hi, hE, htk, hR, hY⟩ := I
  have hG := (yf_cnt hY).2.1
  have hne : ga_ne g ≤ 16 := by have := hg.2.2.2.2.2.2.2; omega
  rw [xe_claimOf]
  rcases pk_ix2 v1 (n := ga_ne g) (by omega) with h | ⟨j, hj, rfl⟩
  · refine xl_isEntry0 hR.1.2.2.2.2.1 h (br_t rfl ?_)
    rw [ye_claimOf, hG.2.2.2.2.1]
    exact br_c (fun _ => ⟨rfl, I'⟩) fun z => br_f (Int32.not_lt.mpr (h.resolve_left z)) ⟨rfl, I'⟩
  · refine xl_isEntry1 hR.1.2.2.2.2.1 (by omega) hj (br_f (by decide) ⟨vp_in_nI (by omega) (by omega), ?_⟩)
    rw [ye_claimOf, hG.2.2.2.2.1, hG.2.2.2.2.2.2.1, hR.1.2.2.2.2.2.2.1]
    exact br_f (nI_pos (by omega)) (br_t (nI_lt hj (by omega)) ⟨vp_in_nI (by omega) (by omega), rfl, I'⟩)
theorem i_vc_typeOf {k : Nat} {u : SX} {v : SY} (I : i_Rel k u v) (hk : k + 5 ≤ 2564) (v1 : Int32) : wpX_typeOf (fun r => wpY_typeOf (fun r' => r' = r ∧ i_Rel (k + 5) u v) v v1) u v1 := by
  have I' := i_up I
  obtain ⟨_, g, A, b1, b2, tk, bl, F, T, cap, O, H, hg, hi, hE, htk, hR, hY⟩ := I
  have hG := (yf_cnt hY).2.1
  have hne : ga_ne g ≤ 16 := by have := hg.2.2.2.2.2.2.2; omega
  rw [xe_typeOf]
  rcases pk_ix2 v1 (n := ga_ne g) (by omega) with h | ⟨j, hj, rfl⟩
  · refine xl_isEntry0 hR.1.2.2.2.2.1 h (br_t rfl ?_)
    rw [ye_typeOf, hG.2.2.2.2.1]
    exact br_c (fun _ => ⟨rfl, I'⟩) fun z => br_f (Int32.not_lt.mpr (h.resolve_left z)) ⟨rfl, I'⟩
  · refine xl_isEntry1 hR.1.2.2.2.2.1 (by omega) hj (br_f (by decide) ⟨vp_in_nI (by omega) (by omega), ?_⟩)
    rw [ye_typeOf, hG.2.2.2.2.1, hG.2.2.2.2.2.2.2.1, hR.1.2.2.2.2.2.2.2]
    exact br_f (nI_pos (by omega)) (br_t (nI_lt hj (by omega)) ⟨vp_in_nI (by omega) (by omega), rfl, I'⟩)
/-- a node, read by both -/
theorem rd_node {g : dk_G} {A : List (List dk_T)} {b1 b2 tk j : Nat} {bl : Int32} {F : dk_F} {T : List dk_T} {cap : Nat} {O : List dk_T} {H : dk_H} {u : SX} {v : SY} (hg : ga_ok g) (hi : dk_inv g A) (hR : px_R g A (b1, tk, bl) F T cap O u) (hY : yf_R g A b2 tk bl H v) (hj : j < A.length) : ∃ (t : dk_T) (cs : List (List dk_T)), A[j]? = some (t :: cs.flatten) ∧ (∀ c ∈ cs, dk_fo c 1) ∧ cs.length = dk_ar t.1 ∧ dk_kk t.1 ∧ xg_kind u j = t.1 ∧ (dk_ar t.1 = 0 → xg_part u (4 * j) = t.2) ∧ (∀ (i : Nat) (c : List dk_T), cs[i]? = some c → ∃ ic : Nat, A[ic]? = some c ∧ xg_part u (4 * j + i) = nI ic) ∧ xg_heavy u j = nI (t :: cs.flatten).length ∧ py_s (yg_mem v) (120 * j) (t :: cs.flatten) ∧ yg_nmem v = 47344 ∧ 120 * j + (t :: cs.flatten).length ≤ 30720 ∧ j < 256 := by
  have hA := List.getElem?_eq_getElem hj
  obtain ⟨t, cs, e, hcs, hl⟩ := dk_head hi hA
  rw [e] at hA
  have hgd := (dk_inv_gd hi hA).1
  have hb := dk_bd_pos (dk_inv_bd hg hi) hA
  obtain ⟨⟨ds, d1, d2, d3, _⟩, hh⟩ := hR.2.1.2 j _ hA
  injection d1 with e1 e2
  have ek : xg_kind u j = t.1 := (congrArg Prod.fst e1).symm
  have ev := congrArg Prod.snd e1
  dsimp only at ev
  rw [ek] at ev d2
  have fd : ∀ c ∈ ds, dk_fo c 1 := fun c hc => by
    obtain ⟨j, hj⟩ := List.getElem?_of_mem hc
    exact (d3 j c hj).1
  have ec : cs = ds := dk_kids_inj (r := []) (s := []) hcs fd (by omega) (by rw [e2])
  subst ec
  obtain ⟨m, d, O', hR', hA'⟩ := hY
  refine ⟨t, cs, hA, hcs, hl, (hgd.2 t (by simp)).1, ek, fun h0 => ?_, fun i c hc => (d3 i c hc).2, hh, py_low hR' (hA' j _ hA) (by omega), (py_nm hR').1, hb.2.2.2, hb.1⟩
  rw [if_pos h0] at ev
  exact ev.symm
theorem i_vc_kindOf {k : Nat} {u : SX} {v : SY} (I : i_Rel k u v) (hk : k + 5 ≤ 2564) (v1 : Int32) : wpX_kindOf (fun r => wpY_kindOf (fun r' => r' = r ∧ i_Rel (k + 5) u v) v v1) u v1 := by
  have I' := i_up I
  obtain ⟨_, g, A, b1, b2, tk, bl, F, T, cap, O, H, hg, hi, hE, htk, hR, hY⟩ := I
  have hAl : A.length ≤ 256 := (dk_inv_bd hg hi).1
  rw [xe_kindOf]
  rcases pk_ix2 v1 (n := A.length) (by omega) with h | ⟨j, hj, rfl⟩
  · refine xl_isNode0 hR.2.1.1 h (br_t rfl ?_)
    rw [ye_kindOf]
    exact yl_bad1 (yf_cnt hY).1 h (br_f (by decide) ⟨rfl, I'⟩)
  · obtain ⟨t, cs, hA, hcs, hl, hkk, n1, n2, n3, n4, s1, s2, s3, s4⟩ := rd_node hg hi hR hY hj
    refine xl_isNode1 hR.2.1.1 (by omega) hj (br_f (by decide) ⟨vp_in_nI (by omega) (by omega), ?_⟩)
    rw [nI_clamp (by omega), n1, ye_kindOf]
    refine yl_bad0 (yf_cnt hY).1 (by omega) hj (br_t rfl ?_)
    rw [nI_120]
    exact yl_kind s2 s1.1.1 s1.1.2 (by omega) ⟨rfl, I'⟩
theorem i_vc_weight {k : Nat} {u : SX} {v : SY} (I : i_Rel k u v) (hk : k + 5 ≤ 2564) (v1 : Int32) : wpX_weight (fun r => wpY_weight (fun r' => r' = r ∧ i_Rel (k + 5) u v) v v1) u v1 := by
  have I' := i_up I
  obtain ⟨_, g, A, b1, b2, tk, bl, F, T, cap, O, H, hg, hi, hE, htk, hR, hY⟩ := I
  have hAl : A.length ≤ 256 := (dk_inv_bd hg hi).1
  rw [xe_weight]
  rcases pk_ix2 v1 (n := A.length) (by omega) with h | ⟨j, hj, rfl⟩
  · refine xl_isNode0 hR.2.1.1 h (br_t rfl ?_)
    rw [ye_weight]
    exact yl_bad1 (yf_cnt hY).1 h (br_f (by decide) ⟨rfl, I'⟩)
  · obtain ⟨t, cs, hA, hcs, hl, hkk, n1, n2, n3, n4, s1, s2, s3, s4⟩ := rd_node hg hi hR hY hj
    refine xl_isNode1 hR.2.1.1 (by omega) hj (br_f (by decide) ⟨vp_in_nI (by omega) (by omega), ?_⟩)
    rw [nI_clamp (by omega), n4, ye_weight]
    refine yl_bad0 (yf_cnt hY).1 (by omega) hj (br_t rfl ?_)
    rw [nI_120]
    refine yl_end s2 s1 (dk_inv_gd hi hA).1.1 (by omega) ⟨?_, I'⟩
    rw [pk_sub (by omega)]
    exact congrArg nI (by omega)
end
section
/-! the calls that make nodes -/
theorem lk_make {g : dk_G} (hg : ga_ok g) {A : List (List dk_T)} {t : dk_T} {cs : List (List dk_T)} (hi : dk_inv g A) (hS : dk_gd (ga_ne g) (t :: cs.flatten)) (hcs : ∀ c ∈ cs, dk_fo c 1) (hl : cs.length = dk_ar t.1) (hin : ∀ c ∈ cs, c ∈ A) : ∃ (r : Int32) (A' : List (List dk_T)), (∃ B, A' = A ++ B) ∧ dk_inv g A' ∧ (∀ (post : Int32 → SX → Prop) (u : SX) (M : dk_M) (F : dk_F) (T : List dk_T) (cap : Nat) (O : List dk_T) (a b c d : Int32), px_R g A M F T cap O u → px_N A t.1 (dk_p4 a b c d) (t :: cs.flatten) → (∀ u', px_R g A' M F T cap O u' → post r u') → wpX_intern post u t.1 a b c d) ∧ (∀ (post : Int32 → SY → Prop) (u : SY) (M : dk_M) (H : dk_H) (m : Nat → Int64) (d : Nat → Int32), py_R g A.length M H m d (t :: cs.flatten) u → py_A A m → (∀ u' m', py_R g A'.length M H m' d (t :: cs.flatten) u' → py_A A' m' → post r u') → wpY_enter post u) := by
  have hWL : ga_WL g ≤ 120 := hg.2.2.2.1
  have hAl : A.length ≤ 256 := (dk_inv_bd hg hi).1
  have hbd := dk_inv_bd hg hi
  have hcl : ∀ c ∈ cs, c.length ≤ 120 := fun c hc => (hbd.2 c (hin c hc)).2
  have hlen : (t :: cs.flatten).length < 2 ^ 31 := by
    have h4 := dk_ar4 t.1
    have : ∀ (ds : List (List dk_T)), (∀ c ∈ ds, c.length ≤ 120) → ds.flatten.length ≤ 120 * ds.length := by
      intro ds
      induction ds with
      | nil => intro _; simp
      | cons c ds ih =>
        intro h
        have h1 := ih (fun c hc => h c (by simp [hc]))
        have h2 := h c (by simp)
        rw [List.flatten_cons, List.length_append, List.length_cons]
        omega
    have := this cs hcl
    rw [List.length_cons]
    omega
  have hsub : ∀ R, dk_sub R (t :: cs.flatten) → R ≠ t :: cs.flatten → R ∈ A := by
    intro R hR hne
    rcases dk_sub_cons hcs hl hR with z | ⟨c, hc, hs⟩
    · exact absurd z hne
    · obtain ⟨j, hj⟩ := List.getElem?_of_mem (hin c hc)
      by_cases hRc : R = c
      · rw [hRc]; exact hin c hc
      · obtain ⟨j', _, hj'⟩ := hi.2.2.2.1 j c R hj hs hRc
        exact List.mem_of_getElem? hj'
  by_cases hw : (t :: cs.flatten).length ≤ ga_WL g
  · obtain ⟨r, A', ho, hr, _, hY⟩ := lk_enter hg hS hw hi
    obtain ⟨⟨B, hB⟩, hi', hAR⟩ := ho
    have hnd := hi'.2.1
    rw [hB, List.nodup_append] at hnd
    have hBS : ∀ R ∈ B, R = t :: cs.flatten := by
      intro R hR
      rcases hAR R (by rw [hB]; simp [hR]) with z | z
      · exact absurd rfl (hnd.2.2 R z R hR)
      · apply Decidable.byContradiction
        intro hne
        exact absurd rfl (hnd.2.2 R (hsub R z hne) R hR)
    refine ⟨r, A', ⟨B, hB⟩, hi', ?_, fun post u M H m d h1 h2 K => hY post u M H m d h1 h2 fun u' m' k1 k2 _ => K u' m' k1 k2⟩
    intro post u M F T cap O a b c d hR hN K
    refine xl_intern hg hi.1 hi.2.1 hR hN hlen (fun z => absurd hw (by omega)) (fun _ i hAi => ?_) (fun _ z1 z2 => ?_) (fun _ z1 z2 u' _ hR' => ?_)
    · have hB0 : B = [] := by
        cases B with
        | nil => rfl
        | cons R B =>
          have := hBS R (by simp)
          exact absurd rfl (hnd.2.2 R (by rw [this]; exact List.mem_of_getElem? hAi) R (by simp))
      rw [hB0, List.append_nil] at hB
      subst hB
      have : r = nI i := by
        rcases hr with ⟨i', e, h'⟩ | ⟨_, _, R, h1, h2⟩
        · rw [e, dk_idx hi.2.1 h' hAi]
        · exfalso
          by_cases hRS : R = t :: cs.flatten
          · rw [hRS] at h2; exact h2 (List.mem_of_getElem? hAi)
          · exact h2 (hsub R h1 hRS)
      rw [← this]
      exact K u hR
    · have hB0 : B = [] := by
        have h1 := hi'.1
        rw [hB, List.length_append] at h1
        exact List.length_eq_zero_iff.mp (by omega)
      rw [hB0, List.append_nil] at hB
      subst hB
      have : r = -3 := by
        rcases hr with ⟨i', e, h'⟩ | ⟨e, _⟩
        · exact absurd (List.mem_of_getElem? h') z1
        · exact e
      rw [← this]
      exact K u hR
    · have hBe : B = [] ∨ B = [t :: cs.flatten] := by
        match B, hBS, hnd with
        | [], _, _ => exact Or.inl rfl
        | [R], h, _ => exact Or.inr (by rw [h R (by simp)])
        | R :: Q :: B', h, hn =>
          exfalso
          have e1 := h R (by simp)
          have e2 := h Q (by simp)
          have := hn.2.1
          rw [List.nodup_cons] at this
          exact this.1 (by rw [e1, e2]; simp)
      have hfin : A' = A ++ [t :: cs.flatten] ∧ r = nI A.length := by
        rcases hBe with e | e
        · exfalso
          rw [e, List.append_nil] at hB
          subst hB
          rcases hr with ⟨i', e, h'⟩ | ⟨_, hb, _⟩
          · exact z1 (List.mem_of_getElem? h')
          · omega
        · rw [e] at hB
          refine ⟨hB, ?_⟩
          rcases hr with ⟨i', e', h'⟩ | ⟨_, _, R, h1, h2⟩
          · rw [e']
            have : (A ++ [t :: cs.flatten])[A.length]? = some (t :: cs.flatten) := by simp
            rw [← hB] at this
            rw [dk_idx hi'.2.1 h' this]
          · exfalso
            by_cases hRS : R = t :: cs.flatten
            · rw [hRS, hB] at h2; exact h2 (by simp)
            · exact h2 (by rw [hB]; simp [hsub R h1 hRS])
      obtain ⟨e1, e2⟩ := hfin
      rw [← e2]
      refine K u' ?_
      rw [e1]; exact hR'
  · refine ⟨-3, A, ⟨[], by simp⟩, hi, ?_, ?_⟩
    · intro post u M F T cap O a b c d hR hN K
      exact xl_intern hg hi.1 hi.2.1 hR hN hlen (fun _ => K u hR) (fun z => absurd z hw) (fun z => absurd z hw) (fun z => absurd z hw)
    · intro post u M H m d hR hA K
      rw [ye_enter, hR.2.2.2.2.2.2.1, hR.1.2.1]
      exact br_f (nI_ge (by omega) (by omega)) (K u m hR hA)
section
variable {post : Int32 → SY → Prop} {g : dk_G} {c : Nat} {M : dk_M} {H : dk_H} {m : Nat → Int64} {d : Nat → Int32} {v : SY} {k x : Int32}
/-- the first token of make -/
theorem yl_make_in {O : List dk_T} {p2 p3 p4 p5 : Int32} (hR : py_R g c M H m d O v) (hk : dk_kk k) (K : ∀ u', py_R g c M H m d [(k, x)] u' → ((nI (dk_ar k) ≤ 0 → yv_make_33 post p2 p3 p4 p5 (nI (dk_ar k)) u') ∧ (¬ nI (dk_ar k) ≤ 0 → wpY_bad (fun r => ((r = 0 → yv_make_33 post p2 p3 p4 p5 (nI (dk_ar k)) u') ∧ (¬ r = 0 → post (-1) u'))) u' p2))) : wpY_make post v k x p2 p3 p4 p5 := by
  rw [ye_make]
  refine yl_put (py_out0 hR) fun u1 h1 => ?_
  have h2 : py_R g c M H m d [(k, x)] u1 := h1
  have s := py_O_s (T := [(k, x)]) h2 (by simpa using hk) (by simp)
  exact yl_arity (p := 30960) (t := (k, x)) (py_nm h2).1 s.1.1 hk (by decide) (K u1 h2)
end
/-- making a node: X's intern, and what Y still has to do -/
theorem mk_go {k : Nat} {g : dk_G} {A : List (List dk_T)} {b1 b2 tk : Nat} {bl : Int32} {F : dk_F} {T : List dk_T} {cap : Nat} {O : List dk_T} {H : dk_H} {u : SX} {m : Nat → Int64} {d : Nat → Int32} (hg : ga_ok g) (hi : dk_inv g A) (hE : dk_ev g A) (htk : tk ≤ ga_FL g) (hR : px_R g A (b1, tk, bl) F T cap O u) (hA : py_A A m) {t : dk_T} {cs : List (List dk_T)} (hok : dk_ok (ga_ne g) t) (hin : ∀ c ∈ cs, c ∈ A) (hl : cs.length = dk_ar t.1) {x0 x1 x2 x3 : Int32} (hN : px_N A t.1 (dk_p4 x0 x1 x2 x3) (t :: cs.flatten)) {Q : Int32 → SX → Prop} (hQ : ∀ r u', (∀ v', py_R g A.length (b2, tk, bl) H m d (t :: cs.flatten) v' → wpY_enter (fun r' v' => r' = r ∧ i_Rel (k + 5) u' v') v') → Q r u') : wpX_intern Q u t.1 x0 x1 x2 x3 := by
  have hgd : ∀ c ∈ cs, dk_gd (ga_ne g) c := fun c hc => by
    obtain ⟨j, hj⟩ := List.getElem?_of_mem (hin c hc)
    exact (dk_inv_gd hi hj).1
  have hcs : ∀ c ∈ cs, dk_fo c 1 := fun c hc => (hgd c hc).1
  have hS : dk_gd (ga_ne g) (t :: cs.flatten) := by
    refine ⟨⟨by omega, ?_⟩, fun q hq => ?_⟩
    · have := dk_fo_flat hcs
      rw [hl] at this
      simpa using this
    · rcases List.mem_cons.mp hq with e | h
      · rw [e]; exact hok
      · obtain ⟨c, hc, h⟩ := List.mem_flatten.mp h
        exact (hgd c hc).2 q h
  obtain ⟨r, A', ⟨B, hB⟩, hi', hX, hYm⟩ := lk_make hg hi hS hcs hl hin
  refine hX _ u _ F T cap O x0 x1 x2 x3 hR hN fun u' hR' => hQ _ _ fun v' h1 => ?_
  exact hYm _ v' _ H m d h1 hA fun v' m' h2 h3 => ⟨rfl, rl_in hg hi' (by rw [hB]; exact dk_ev_app hE) htk hR' ⟨m', d, _, h2, h3⟩⟩
/-- Y's make, with no child -/
theorem ym_0 {post : Int32 → SY → Prop} {g : dk_G} {c : Nat} {M : dk_M} {H : dk_H} {m : Nat → Int64} {d : Nat → Int32} {v : SY} {k x : Int32} {O : List dk_T} (hR : py_R g c M H m d O v) (hk : dk_kk k) (h0 : dk_ar k = 0) {p2 p3 p4 p5 : Int32} (K : ∀ v', py_R g c M H m d [(k, x)] v' → wpY_enter post v') : wpY_make post v k x p2 p3 p4 p5 := by
  refine yl_make_in hR hk fun u1 h1 => ?_
  rw [h0]
  refine br_t (by decide) ?_
  rw [ye_make_33]; refine br_t (by decide) ?_
  rw [ye_make_48]; refine br_t (by decide) ?_
  rw [ye_make_74]; refine br_t (by decide) ?_
  rw [ye_make_87]; refine br_t (by decide) ?_
  rw [ye_make_102]; refine br_t (by decide) ?_
  rw [ye_make_126]
  exact K u1 h1
theorem ym_1 {post : Int32 → SY → Prop} {g : dk_G} {A : List (List dk_T)} {M : dk_M} {H : dk_H} {m : Nat → Int64} {d : Nat → Int32} {v : SY} {k x : Int32} {O : List dk_T} (hg : ga_ok g) (hi : dk_inv g A) (hA : py_A A m) (hR : py_R g A.length M H m d O v) (hk : dk_kk k) (h0 : dk_ar k = 1) {i2 : Nat} {c2 : List dk_T} (h2 : A[i2]? = some c2) {p3 p4 p5 : Int32} (K : ∀ v', py_R g A.length M H m d ((k, x) :: [c2].flatten) v' → wpY_enter post v') : wpY_make post v k x (nI i2) p3 p4 p5 := by
  have hAl : A.length ≤ 256 := (dk_inv_bd hg hi).1
  have b2 := dk_bd_pos (dk_inv_bd hg hi) h2
  have l2 : i2 < A.length := (List.getElem?_eq_some_iff.mp h2).1
  refine yl_make_in hR hk fun u1 h1 => ?_
  rw [h0]
  refine br_f (by decide) (yl_bad0 h1.2.1 (by omega) l2 (br_t rfl ?_))
  rw [ye_make_33]; refine br_t (by decide) ?_
  rw [ye_make_48]; refine br_t (by decide) ?_
  rw [ye_make_74]; refine br_f (by decide) ?_
  refine yl_term h1 (hA i2 c2 h2) (dk_inv_gd hi h2).1.1 (by omega) (nI_120 _) fun u2 h1 => ?_
  rw [ye_make_87]; refine br_t (by decide) ?_
  rw [ye_make_102]; refine br_t (by decide) ?_
  rw [ye_make_126]
  exact K u2 (by simpa using h1)
theorem ym_2 {post : Int32 → SY → Prop} {g : dk_G} {A : List (List dk_T)} {M : dk_M} {H : dk_H} {m : Nat → Int64} {d : Nat → Int32} {v : SY} {k x : Int32} {O : List dk_T} (hg : ga_ok g) (hi : dk_inv g A) (hA : py_A A m) (hR : py_R g A.length M H m d O v) (hk : dk_kk k) (h0 : dk_ar k = 2) {i2 i3 : Nat} {c2 c3 : List dk_T} (h2 : A[i2]? = some c2) (h3 : A[i3]? = some c3) {p4 p5 : Int32} (K : ∀ v', py_R g A.length M H m d ((k, x) :: [c2, c3].flatten) v' → wpY_enter post v') : wpY_make post v k x (nI i2) (nI i3) p4 p5 := by
  have hAl : A.length ≤ 256 := (dk_inv_bd hg hi).1
  have b2 := dk_bd_pos (dk_inv_bd hg hi) h2
  have b3 := dk_bd_pos (dk_inv_bd hg hi) h3
  have l2 : i2 < A.length := (List.getElem?_eq_some_iff.mp h2).1
  have l3 : i3 < A.length := (List.getElem?_eq_some_iff.mp h3).1
  refine yl_make_in hR hk fun u1 h1 => ?_
  rw [h0]
  refine br_f (by decide) (yl_bad0 h1.2.1 (by omega) l2 (br_t rfl ?_))
  rw [ye_make_33]; refine br_f (by decide) (yl_bad0 h1.2.1 (by omega) l3 (br_t rfl ?_))
  rw [ye_make_48]; refine br_t (by decide) ?_
  rw [ye_make_74]; refine br_f (by decide) ?_
  refine yl_term h1 (hA i2 c2 h2) (dk_inv_gd hi h2).1.1 (by omega) (nI_120 _) fun u2 h1 => ?_
  rw [ye_make_87]; refine br_f (by decide) ?_
  refine yl_term h1 (hA i3 c3 h3) (dk_inv_gd hi h3).1.1 (by omega) (nI_120 _) fun u3 h1 => ?_
  rw [ye_make_102]; refine br_t (by decide) ?_
  rw [ye_make_126]
  exact K u3 (by simpa using h1)
theorem ym_4 {post : Int32 → SY → Prop} {g : dk_G} {A : List (List dk_T)} {M : dk_M} {H : dk_H} {m : Nat → Int64} {d : Nat → Int32} {v : SY} {k x : Int32} {O : List dk_T} (hg : ga_ok g) (hi : dk_inv g A) (hA : py_A A m) (hR : py_R g A.length M H m d O v) (hk : dk_kk k) (h0 : dk_ar k = 4) {i2 i3 i4 i5 : Nat} {c2 c3 c4 c5 : List dk_T} (h2 : A[i2]? = some c2) (h3 : A[i3]? = some c3) (h4 : A[i4]? = some c4) (h5 : A[i5]? = some c5) (K : ∀ v', py_R g A.length M H m d ((k, x) :: [c2, c3, c4, c5].flatten) v' → wpY_enter post v') : wpY_make post v k x (nI i2) (nI i3) (nI i4) (nI i5) := by
  have hAl : A.length ≤ 256 := (dk_inv_bd hg hi).1
  have b2 := dk_bd_pos (dk_inv_bd hg hi) h2
  have b3 := dk_bd_pos (dk_inv_bd hg hi) h3
  have b4 := dk_bd_pos (dk_inv_bd hg hi) h4
  have b5 := dk_bd_pos (dk_inv_bd hg hi) h5
  have l2 : i2 < A.length := (List.getElem?_eq_some_iff.mp h2).1
  have l3 : i3 < A.length := (List.getElem?_eq_some_iff.mp h3).1
  have l4 : i4 < A.length := (List.getElem?_eq_some_iff.mp h4).1
  have l5 : i5 < A.length := (List.getElem?_eq_some_iff.mp h5).1
  refine yl_make_in hR hk fun u1 h1 => ?_
  rw [h0]
  refine br_f (by decide) (yl_bad0 h1.2.1 (by omega) l2 (br_t rfl ?_))
  rw [ye_make_33]; refine br_f (by decide) (yl_bad0 h1.2.1 (by omega) l3 (br_t rfl ?_))
  rw [ye_make_48]; refine br_f (by decide) (yl_bad0 h1.2.1 (by omega) l4 (br_t rfl (yl_bad0 h1.2.1 (by omega) l5 (br_t rfl ?_))))
  rw [ye_make_74]; refine br_f (by decide) ?_
  refine yl_term h1 (hA i2 c2 h2) (dk_inv_gd hi h2).1.1 (by omega) (nI_120 _) fun u2 h1 => ?_
  rw [ye_make_87]; refine br_f (by decide) ?_
  refine yl_term h1 (hA i3 c3 h3) (dk_inv_gd hi h3).1.1 (by omega) (nI_120 _) fun u3 h1 => ?_
  rw [ye_make_102]; refine br_f (by decide) ?_
  refine yl_term h1 (hA i4 c4 h4) (dk_inv_gd hi h4).1.1 (by omega) (nI_120 _) fun u4 h1 => ?_
  refine yl_term h1 (hA i5 c5 h5) (dk_inv_gd hi h5).1.1 (by omega) (nI_120 _) fun u5 h1 => ?_
  rw [ye_make_126]
  exact K u5 (by simpa using h1)
/-- Y's make, with a bad child -/
theorem ym_bad {post : Int32 → SY → Prop} {g : dk_G} {c : Nat} {M : dk_M} {H : dk_H} {m : Nat → Int64} {d : Nat → Int32} {v : SY} {k x : Int32} {O : List dk_T} (hc : c < 2 ^ 31) (hR : py_R g c M H m d O v) (hk : dk_kk k) {p2 p3 p4 p5 : Int32} (hb : (1 ≤ dk_ar k ∧ (p2 < 0 ∨ nI c ≤ p2)) ∨ (2 ≤ dk_ar k ∧ (p3 < 0 ∨ nI c ≤ p3)) ∨ (dk_ar k = 4 ∧ ((p4 < 0 ∨ nI c ≤ p4) ∨ (p5 < 0 ∨ nI c ≤ p5)))) (K : ∀ v', py_R g c M H m d [(k, x)] v' → post (-1) v') : wpY_make post v k x p2 p3 p4 p5 := by
  have h4 := dk_ar4 k
  have e1 : 1 ≤ dk_ar k := by rcases hb with h | h | h <;> omega
  refine yl_make_in hR hk fun u1 h1 => br_f (fun z => ?_) ?_
  · exact absurd z (by rw [show (0 : Int32) = nI 0 from rfl]; exact nI_ge (by omega) (by omega))
  rcases pk_ix2 p2 hc with q2 | ⟨j2, l2, rfl⟩
  · exact yl_bad1 h1.2.1 q2 (br_f (by decide) (K u1 h1))
  refine yl_bad0 h1.2.1 hc l2 (br_t rfl ?_)
  have nb : ∀ {j : Nat}, j < c → ¬ (nI j < 0 ∨ nI c ≤ nI j) := fun h q => q.elim (nI_pos (by omega)) (nI_ge h hc)
  have hb2 := hb.resolve_left fun z => nb l2 z.2
  have e2 : 2 ≤ dk_ar k := by rcases hb2 with h | h <;> omega
  rw [ye_make_33]
  refine br_f (fun z => absurd z (by rw [show (1 : Int32) = nI 1 from rfl]; exact nI_ge (by omega) (by omega))) ?_
  rcases pk_ix2 p3 hc with q3 | ⟨j3, l3, rfl⟩
  · exact yl_bad1 h1.2.1 q3 (br_f (by decide) (K u1 h1))
  refine yl_bad0 h1.2.1 hc l3 (br_t rfl ?_)
  have hb3 := hb2.resolve_left fun z => nb l3 z.2
  have e3 := hb3.1
  rw [ye_make_48]
  refine br_f (fun z => absurd z (by rw [show (2 : Int32) = nI 2 from rfl]; exact nI_ge (by omega) (by omega))) ?_
  rcases pk_ix2 p4 hc with q4 | ⟨j4, l4, rfl⟩
  · exact yl_bad1 h1.2.1 q4 (br_f (by decide) (K u1 h1))
  refine yl_bad0 h1.2.1 hc l4 (br_t rfl ?_)
  exact yl_bad1 h1.2.1 (hb3.2.resolve_left (nb l4)) (br_f (by decide) (K u1 h1))
theorem i_vc_var {k : Nat} {u : SX} {v : SY} (I : i_Rel k u v) (hk : k + 5 ≤ 2564) (v1 : Int32) : wpX_var (fun r u' => wpY_var (fun r' v' => r' = r ∧ i_Rel (k + 5) u' v') v v1) u v1 := by
  have I' := i_up I
  obtain ⟨_, g, A, b1, b2, tk, bl, F, T, cap, O, H, hg, hi, hE, htk, hR, m, d, OY, hRY, hA⟩ := I
  have hAl : A.length ≤ 256 := (dk_inv_bd hg hi).1
  have hn : A.length < 2 ^ 31 := by omega
  have hG := hRY.1
  have hne : ga_ne g ≤ 16 := by have := hg.2.2.2.2.2.2.2; omega
  rw [xe_var]
  refine br_c (fun z => ?_) fun z => br_c (fun z2 => ?_) fun z2 => ?_
  · rw [ye_var]; exact br_t z ⟨rfl, I'⟩
  · refine mk_go (k := k) (b2 := b2) (H := H) (d := d) hg hi hE htk hR hA (t := ((5 : Int32), v1)) (cs := []) (dk_ok5 v1) (by simp) (by show 0 = dk_ar 5; decide) (by
      refine ⟨[], ?_, by show 0 = dk_ar 5; decide, by simp, ?_⟩
      · rw [if_pos (show dk_ar 5 = 0 by decide)]; rfl
      · intro j h1 h2 _
        match j, h1, h2 with
        | 1, _, _ => rfl
        | 2, _, _ => rfl
        | 3, _, _ => rfl) fun r u' K => ?_
    rw [ye_var]
    exact br_f z (br_t z2 (ym_0 hRY (by show dk_kk 5; unfold dk_kk; decide) (by decide) K))
  · rw [ye_var]; exact br_f z (br_f z2 ⟨rfl, I'⟩)
theorem i_vc_def {k : Nat} {u : SX} {v : SY} (I : i_Rel k u v) (hk : k + 5 ≤ 2564) (v1 : Int32) : wpX_def (fun r u' => wpY_def (fun r' v' => r' = r ∧ i_Rel (k + 5) u' v') v v1) u v1 := by
  have I' := i_up I
  obtain ⟨_, g, A, b1, b2, tk, bl, F, T, cap, O, H, hg, hi, hE, htk, hR, m, d, OY, hRY, hA⟩ := I
  have hAl : A.length ≤ 256 := (dk_inv_bd hg hi).1
  have hn : A.length < 2 ^ 31 := by omega
  have hG := hRY.1
  have hne : ga_ne g ≤ 16 := by have := hg.2.2.2.2.2.2.2; omega
  rw [xe_def]
  rcases pk_ix2 v1 (n := ga_ne g) (by omega) with h | ⟨j, hj, rfl⟩
  · refine xl_isEntry0 hR.1.2.2.2.2.1 h (br_t rfl ?_)
    rw [ye_def, hG.2.2.2.2.1]
    exact br_c (fun _ => ⟨rfl, I'⟩) fun z => br_f (Int32.not_lt.mpr (h.resolve_left z)) ⟨rfl, I'⟩
  · refine xl_isEntry1 hR.1.2.2.2.2.1 (by omega) hj (br_f (by decide) ?_)
    refine mk_go (k := k) (b2 := b2) (H := H) (d := d) hg hi hE htk hR hA (t := ((10 : Int32), nI j)) (cs := []) ⟨by show dk_kk 10; unfold dk_kk; decide, fun h => absurd h (by show ¬ 0 < dk_ar 10; decide), fun _ => ⟨j, hj, rfl⟩⟩ (by simp) (by show 0 = dk_ar 10; decide) (by
      refine ⟨[], ?_, by show 0 = dk_ar 10; decide, by simp, ?_⟩
      · rw [if_pos (show dk_ar 10 = 0 by decide)]; rfl
      · intro j h1 h2 _
        match j, h1, h2 with
        | 1, _, _ => rfl
        | 2, _, _ => rfl
        | 3, _, _ => rfl) fun r u' K => ?_
    rw [ye_def, hG.2.2.2.2.1]
    exact br_f (nI_pos (by omega)) (br_t (nI_lt hj (by omega)) (ym_0 hRY (by show dk_kk 10; unfold dk_kk; decide) (by decide) K))
theorem i_vc_suc {k : Nat} {u : SX} {v : SY} (I : i_Rel k u v) (hk : k + 5 ≤ 2564) (v1 : Int32) : wpX_suc (fun r u' => wpY_suc (fun r' v' => r' = r ∧ i_Rel (k + 5) u' v') v v1) u v1 := by
  have I' := i_up I
  obtain ⟨_, g, A, b1, b2, tk, bl, F, T, cap, O, H, hg, hi, hE, htk, hR, m, d, OY, hRY, hA⟩ := I
  have hAl : A.length ≤ 256 := (dk_inv_bd hg hi).1
  have hn : A.length < 2 ^ 31 := by omega
  have hG := hRY.1
  have hne : ga_ne g ≤ 16 := by have := hg.2.2.2.2.2.2.2; omega
  have bad : ∀ w, (py_R g A.length (b2, tk, bl) H m d [((4 : Int32), (0 : Int32))] w) → (-1 : Int32) = -1 ∧ i_Rel (k + 5) u w := fun w hw => ⟨rfl, rl_in hg hi hE htk hR ⟨m, d, _, hw, hA⟩⟩
  rw [xe_suc]
  rcases pk_ix2 v1 hn with h | ⟨j1, l1, rfl⟩
  · refine xl_isNode0 hR.2.1.1 h (br_t rfl ?_)
    rw [ye_suc]
    exact ym_bad hn hRY (by show dk_kk 4; unfold dk_kk; decide) (Or.inl ⟨(show 1 ≤ dk_ar 4 by decide), h⟩) bad
  refine xl_isNode1 hR.2.1.1 hn l1 (br_f (by decide) ?_)
  have a1 := List.getElem?_eq_getElem l1
  refine mk_go (k := k) (b2 := b2) (H := H) (d := d) hg hi hE htk hR hA (t := ((4 : Int32), (0 : Int32))) (cs := [A[j1]]) (dk_okk (by decide)) (by simp) (by show 1 = dk_ar 4; decide) ?_ fun r u' K => ?_
  · refine ⟨[A[j1]], ?_, by show 1 = dk_ar 4; decide, ?_, ?_⟩
    · rw [if_neg (show ¬ dk_ar 4 = 0 by decide)]
    · intro j c hc
      match j, hc with
      | 0, hc => injection hc with e; subst e; exact ⟨(dk_inv_gd hi a1).1.1, j1, a1, rfl⟩
      | n + 1, hc => exact absurd hc (by simp)
    · intro j h1 h2 h3
      have h3 : 1 ≤ j := h3
      match j, h1, h2, h3 with
      | 1, _, _, _ => rfl
      | 2, _, _, _ => rfl
      | 3, _, _, _ => rfl
  · rw [ye_suc]
    exact ym_1 hg hi hA hRY (by show dk_kk 4; unfold dk_kk; decide) (by decide) a1 K
theorem i_vc_pi {k : Nat} {u : SX} {v : SY} (I : i_Rel k u v) (hk : k + 5 ≤ 2564) (v1 : Int32) (v2 : Int32) : wpX_pi (fun r u' => wpY_pi (fun r' v' => r' = r ∧ i_Rel (k + 5) u' v') v v1 v2) u v1 v2 := by
  have I' := i_up I
  obtain ⟨_, g, A, b1, b2, tk, bl, F, T, cap, O, H, hg, hi, hE, htk, hR, m, d, OY, hRY, hA⟩ := I
  have hAl : A.length ≤ 256 := (dk_inv_bd hg hi).1
  have hn : A.length < 2 ^ 31 := by omega
  have hG := hRY.1
  have hne : ga_ne g ≤ 16 := by have := hg.2.2.2.2.2.2.2; omega
  have bad : ∀ w, (py_R g A.length (b2, tk, bl) H m d [((6 : Int32), (0 : Int32))] w) → (-1 : Int32) = -1 ∧ i_Rel (k + 5) u w := fun w hw => ⟨rfl, rl_in hg hi hE htk hR ⟨m, d, _, hw, hA⟩⟩
  rw [xe_pi]
  rcases pk_ix2 v1 hn with h | ⟨j1, l1, rfl⟩
  · refine xl_isNode0 hR.2.1.1 h (br_t rfl ?_)
    rw [ye_pi]
    exact ym_bad hn hRY (by show dk_kk 6; unfold dk_kk; decide) (Or.inl ⟨(show 1 ≤ dk_ar 6 by decide), h⟩) bad
  refine xl_isNode1 hR.2.1.1 hn l1 (br_f (by decide) ?_)
  rcases pk_ix2 v2 hn with h | ⟨j2, l2, rfl⟩
  · refine xl_isNode0 hR.2.1.1 h (br_t rfl ?_)
    rw [ye_pi]
    exact ym_bad hn hRY (by show dk_kk 6; unfold dk_kk; decide) (Or.inr (Or.inl ⟨(show 2 ≤ dk_ar 6 by decide), h⟩)) bad
  refine xl_isNode1 hR.2.1.1 hn l2 (br_f (by decide) ?_)
  have a1 := List.getElem?_eq_getElem l1
  have a2 := List.getElem?_eq_getElem l2
  refine mk_go (k := k) (b2 := b2) (H := H) (d := d) hg hi hE htk hR hA (t := ((6 : Int32), (0 : Int32))) (cs := [A[j1], A[j2]]) (dk_okk (by decide)) (by simp) (by show 2 = dk_ar 6; decide) ?_ fun r u' K => ?_
  · refine ⟨[A[j1], A[j2]], ?_, by show 2 = dk_ar 6; decide, ?_, ?_⟩
    · rw [if_neg (show ¬ dk_ar 6 = 0 by decide)]
    · intro j c hc
      match j, hc with
      | 0, hc => injection hc with e; subst e; exact ⟨(dk_inv_gd hi a1).1.1, j1, a1, rfl⟩
      | 1, hc => injection hc with e; subst e; exact ⟨(dk_inv_gd hi a2).1.1, j2, a2, rfl⟩
      | n + 2, hc => exact absurd hc (by simp)
    · intro j h1 h2 h3
      have h3 : 2 ≤ j := h3
      match j, h1, h2, h3 with
      | 2, _, _, _ => rfl
      | 3, _, _, _ => rfl
  · rw [ye_pi]
    exact ym_2 hg hi hA hRY (by show dk_kk 6; unfold dk_kk; decide) (by decide) a1 a2 K
theorem i_vc_lam {k : Nat} {u : SX} {v : SY} (I : i_Rel k u v) (hk : k + 5 ≤ 2564) (v1 : Int32) (v2 : Int32) : wpX_lam (fun r u' => wpY_lam (fun r' v' => r' = r ∧ i_Rel (k + 5) u' v') v v1 v2) u v1 v2 := by
  have I' := i_up I
  obtain ⟨_, g, A, b1, b2, tk, bl, F, T, cap, O, H, hg, hi, hE, htk, hR, m, d, OY, hRY, hA⟩ := I
  have hAl : A.length ≤ 256 := (dk_inv_bd hg hi).1
  have hn : A.length < 2 ^ 31 := by omega
  have hG := hRY.1
  have hne : ga_ne g ≤ 16 := by have := hg.2.2.2.2.2.2.2; omega
  have bad : ∀ w, (py_R g A.length (b2, tk, bl) H m d [((7 : Int32), (0 : Int32))] w) → (-1 : Int32) = -1 ∧ i_Rel (k + 5) u w := fun w hw => ⟨rfl, rl_in hg hi hE htk hR ⟨m, d, _, hw, hA⟩⟩
  rw [xe_lam]
  rcases pk_ix2 v1 hn with h | ⟨j1, l1, rfl⟩
  · refine xl_isNode0 hR.2.1.1 h (br_t rfl ?_)
    rw [ye_lam]
    exact ym_bad hn hRY (by show dk_kk 7; unfold dk_kk; decide) (Or.inl ⟨(show 1 ≤ dk_ar 7 by decide), h⟩) bad
  refine xl_isNode1 hR.2.1.1 hn l1 (br_f (by decide) ?_)
  rcases pk_ix2 v2 hn with h | ⟨j2, l2, rfl⟩
  · refine xl_isNode0 hR.2.1.1 h (br_t rfl ?_)
    rw [ye_lam]
    exact ym_bad hn hRY (by show dk_kk 7; unfold dk_kk; decide) (Or.inr (Or.inl ⟨(show 2 ≤ dk_ar 7 by decide), h⟩)) bad
  refine xl_isNode1 hR.2.1.1 hn l2 (br_f (by decide) ?_)
  have a1 := List.getElem?_eq_getElem l1
  have a2 := List.getElem?_eq_getElem l2
  refine mk_go (k := k) (b2 := b2) (H := H) (d := d) hg hi hE htk hR hA (t := ((7 : Int32), (0 : Int32))) (cs := [A[j1], A[j2]]) ⟨by show dk_kk 7; unfold dk_kk; decide, fun _ => rfl, fun h => absurd h (by show ¬ (7 : Int32) = 10; decide)⟩ (by simp) (by show 2 = dk_ar 7; decide) ?_ fun r u' K => ?_
  · refine ⟨[A[j1], A[j2]], ?_, by show 2 = dk_ar 7; decide, ?_, ?_⟩
    · rw [if_neg (show ¬ dk_ar 7 = 0 by decide)]
    · intro j c hc
      match j, hc with
      | 0, hc => injection hc with e; subst e; exact ⟨(dk_inv_gd hi a1).1.1, j1, a1, rfl⟩
      | 1, hc => injection hc with e; subst e; exact ⟨(dk_inv_gd hi a2).1.1, j2, a2, rfl⟩
      | n + 2, hc => exact absurd hc (by simp)
    · intro j h1 h2 h3
      have h3 : 2 ≤ j := h3
      match j, h1, h2, h3 with
      | 2, _, _, _ => rfl
      | 3, _, _, _ => rfl
  · rw [ye_lam]
    exact ym_2 hg hi hA hRY (by show dk_kk 7; unfold dk_kk; decide) (by decide) a1 a2 K
theorem i_vc_app {k : Nat} {u : SX} {v : SY} (I : i_Rel k u v) (hk : k + 5 ≤ 2564) (v1 : Int32) (v2 : Int32) : wpX_app (fun r u' => wpY_app (fun r' v' => r' = r ∧ i_Rel (k + 5) u' v') v v1 v2) u v1 v2 := by
  have I' := i_up I
  obtain ⟨_, g, A, b1, b2, tk, bl, F, T, cap, O, H, hg, hi, hE, htk, hR, m, d, OY, hRY, hA⟩ := I
  have hAl : A.length ≤ 256 := (dk_inv_bd hg hi).1
  have hn : A.length < 2 ^ 31 := by omega
  have hG := hRY.1
  have hne : ga_ne g ≤ 16 := by have := hg.2.2.2.2.2.2.2; omega
  have bad : ∀ w, (py_R g A.length (b2, tk, bl) H m d [((8 : Int32), (0 : Int32))] w) → (-1 : Int32) = -1 ∧ i_Rel (k + 5) u w := fun w hw => ⟨rfl, rl_in hg hi hE htk hR ⟨m, d, _, hw, hA⟩⟩
  rw [xe_app]
  rcases pk_ix2 v1 hn with h | ⟨j1, l1, rfl⟩
  · refine xl_isNode0 hR.2.1.1 h (br_t rfl ?_)
    rw [ye_app]
    exact ym_bad hn hRY (by show dk_kk 8; unfold dk_kk; decide) (Or.inl ⟨(show 1 ≤ dk_ar 8 by decide), h⟩) bad
  refine xl_isNode1 hR.2.1.1 hn l1 (br_f (by decide) ?_)
  rcases pk_ix2 v2 hn with h | ⟨j2, l2, rfl⟩
  · refine xl_isNode0 hR.2.1.1 h (br_t rfl ?_)
    rw [ye_app]
    exact ym_bad hn hRY (by show dk_kk 8; unfold dk_kk; decide) (Or.inr (Or.inl ⟨(show 2 ≤ dk_ar 8 by decide), h⟩)) bad
  refine xl_isNode1 hR.2.1.1 hn l2 (br_f (by decide) ?_)
  have a1 := List.getElem?_eq_getElem l1
  have a2 := List.getElem?_eq_getElem l2
  refine mk_go (k := k) (b2 := b2) (H := H) (d := d) hg hi hE htk hR hA (t := ((8 : Int32), (0 : Int32))) (cs := [A[j1], A[j2]]) (dk_okk (by decide)) (by simp) (by show 2 = dk_ar 8; decide) ?_ fun r u' K => ?_
  · refine ⟨[A[j1], A[j2]], ?_, by show 2 = dk_ar 8; decide, ?_, ?_⟩
    · rw [if_neg (show ¬ dk_ar 8 = 0 by decide)]
    · intro j c hc
      match j, hc with
      | 0, hc => injection hc with e; subst e; exact ⟨(dk_inv_gd hi a1).1.1, j1, a1, rfl⟩
      | 1, hc => injection hc with e; subst e; exact ⟨(dk_inv_gd hi a2).1.1, j2, a2, rfl⟩
      | n + 2, hc => exact absurd hc (by simp)
    · intro j h1 h2 h3
      have h3 : 2 ≤ j := h3
      match j, h1, h2, h3 with
      | 2, _, _, _ => rfl
      | 3, _, _, _ => rfl
  · rw [ye_app]
    exact ym_2 hg hi hA hRY (by show dk_kk 8; unfold dk_kk; decide) (by decide) a1 a2 K
theorem i_vc_rec {k : Nat} {u : SX} {v : SY} (I : i_Rel k u v) (hk : k + 5 ≤ 2564) (v1 : Int32) (v2 : Int32) (v3 : Int32) (v4 : Int32) : wpX_rec (fun r u' => wpY_rec (fun r' v' => r' = r ∧ i_Rel (k + 5) u' v') v v1 v2 v3 v4) u v1 v2 v3 v4 := by
  have I' := i_up I
  obtain ⟨_, g, A, b1, b2, tk, bl, F, T, cap, O, H, hg, hi, hE, htk, hR, m, d, OY, hRY, hA⟩ := I
  have hAl : A.length ≤ 256 := (dk_inv_bd hg hi).1
  have hn : A.length < 2 ^ 31 := by omega
  have hG := hRY.1
  have hne : ga_ne g ≤ 16 := by have := hg.2.2.2.2.2.2.2; omega
  have bad : ∀ w, (py_R g A.length (b2, tk, bl) H m d [((9 : Int32), (0 : Int32))] w) → (-1 : Int32) = -1 ∧ i_Rel (k + 5) u w := fun w hw => ⟨rfl, rl_in hg hi hE htk hR ⟨m, d, _, hw, hA⟩⟩
  rw [xe_rec]
  rcases pk_ix2 v1 hn with h | ⟨j1, l1, rfl⟩
  · refine xl_isNode0 hR.2.1.1 h (br_t rfl ?_)
    rw [ye_rec]
    exact ym_bad hn hRY (by show dk_kk 9; unfold dk_kk; decide) (Or.inl ⟨(show 1 ≤ dk_ar 9 by decide), h⟩) bad
  refine xl_isNode1 hR.2.1.1 hn l1 (br_f (by decide) ?_)
  rcases pk_ix2 v2 hn with h | ⟨j2, l2, rfl⟩
  · refine xl_isNode0 hR.2.1.1 h (br_t rfl ?_)
    rw [ye_rec]
    exact ym_bad hn hRY (by show dk_kk 9; unfold dk_kk; decide) (Or.inr (Or.inl ⟨(show 2 ≤ dk_ar 9 by decide), h⟩)) bad
  refine xl_isNode1 hR.2.1.1 hn l2 (br_f (by decide) ?_)
  rcases pk_ix2 v3 hn with h | ⟨j3, l3, rfl⟩
  · refine xl_isNode0 hR.2.1.1 h (br_t rfl ?_)
    rw [ye_rec]
    exact ym_bad hn hRY (by show dk_kk 9; unfold dk_kk; decide) (Or.inr (Or.inr ⟨(show dk_ar 9 = 4 by decide), Or.inl h⟩)) bad
  refine xl_isNode1 hR.2.1.1 hn l3 (br_f (by decide) ?_)
  rcases pk_ix2 v4 hn with h | ⟨j4, l4, rfl⟩
  · refine xl_isNode0 hR.2.1.1 h (br_t rfl ?_)
    rw [ye_rec]
    exact ym_bad hn hRY (by show dk_kk 9; unfold dk_kk; decide) (Or.inr (Or.inr ⟨(show dk_ar 9 = 4 by decide), Or.inr h⟩)) bad
  refine xl_isNode1 hR.2.1.1 hn l4 (br_f (by decide) ?_)
  have a1 := List.getElem?_eq_getElem l1
  have a2 := List.getElem?_eq_getElem l2
  have a3 := List.getElem?_eq_getElem l3
  have a4 := List.getElem?_eq_getElem l4
  refine mk_go (k := k) (b2 := b2) (H := H) (d := d) hg hi hE htk hR hA (t := ((9 : Int32), (0 : Int32))) (cs := [A[j1], A[j2], A[j3], A[j4]]) (dk_okk (by decide)) (by simp) (by show 4 = dk_ar 9; decide) ?_ fun r u' K => ?_
  · refine ⟨[A[j1], A[j2], A[j3], A[j4]], ?_, by show 4 = dk_ar 9; decide, ?_, ?_⟩
    · rw [if_neg (show ¬ dk_ar 9 = 0 by decide)]
    · intro j c hc
      match j, hc with
      | 0, hc => injection hc with e; subst e; exact ⟨(dk_inv_gd hi a1).1.1, j1, a1, rfl⟩
      | 1, hc => injection hc with e; subst e; exact ⟨(dk_inv_gd hi a2).1.1, j2, a2, rfl⟩
      | 2, hc => injection hc with e; subst e; exact ⟨(dk_inv_gd hi a3).1.1, j3, a3, rfl⟩
      | 3, hc => injection hc with e; subst e; exact ⟨(dk_inv_gd hi a4).1.1, j4, a4, rfl⟩
      | n + 4, hc => exact absurd hc (by simp)
    · intro j h1 h2 h3
      have h3 : 4 ≤ j := h3
      omega
  · rw [ye_rec]
    exact ym_4 hg hi hA hRY (by show dk_kk 9; unfold dk_kk; decide) (by decide) a1 a2 a3 a4 K
end
section
/-! the whole calls -/
section
variable {g : dk_G} {A A' B : List (List dk_T)} {b1 b2 tk tk' : Nat} {bl : Int32} {F : dk_F} {T : List dk_T} {cap : Nat} {O : List dk_T} {H : dk_H} {u : SX} {v : SY}
def lc_X (g : dk_G) (A A' : List (List dk_T)) (tk tk' : Nat) (ob : Option Nat) (r : Int32) (W : (Int32 → SX → Prop) → SX → Prop) : Prop := ∀ (post : Int32 → SX → Prop) (u : SX) (bs : Nat) (bl : Int32) (F : dk_F) (T : List dk_T) (cap : Nat) (O : List dk_T), px_R g A (bs, tk, bl) F T cap O u → (∀ u' F' T' cap' O', px_R g A' (bs, tk', dk_bl ob bl) F' T' cap' O' u' → post r u') → W post u
def lc_Y (g : dk_G) (A A' : List (List dk_T)) (tk tk' : Nat) (ob : Option Nat) (r : Int32) (W : (Int32 → SY → Prop) → SY → Prop) : Prop := ∀ (post : Int32 → SY → Prop) (u : SY) (bs : Nat) (bl : Int32) (H : dk_H), yf_R g A bs tk bl H u → (∀ u' H', yf_R g A' bs tk' (dk_bl ob bl) H' u' → post r u') → W post u
def lc_r (A' : List (List dk_T)) (r : Int32) (ob : Option Nat) : Prop := (∃ ri : Nat, r = nI ri ∧ ri < A'.length ∧ ob = none) ∨ dk_fl r
theorem px_start (h : px_R g A (b1, tk, bl) F T cap O u) : px_R g A (A.length, 0, -13) F T cap O (xs_base_tickCount_blameNode (xg_count u) 0 (-13) u) := ⟨h.1, h.2.1, ⟨h.2.1.1, rfl, rfl⟩, h.2.2.2.1, h.2.2.2.2.1, h.2.2.2.2.2⟩
theorem yf_start (h : yf_R g A b2 tk bl H v) : yf_R g A A.length 0 (-13) H (ys_ticks_blame_mark 0 (-13) (yg_count v) v) := by
  obtain ⟨m, d, O, hR, hA⟩ := h
  exact ⟨m, d, O, ⟨hR.1, hR.2.1, ⟨hR.2.1, rfl, rfl⟩, hR.2.2.2⟩, hA⟩
theorem yf_bl {a : Int32} (h : yf_R g A b2 tk bl H v) : yf_R g A b2 tk a H (ys_blame a v) := by
  obtain ⟨m, d, O, hR, hA⟩ := h
  exact ⟨m, d, O, ⟨hR.1, hR.2.1, ⟨hR.2.2.1.1, hR.2.2.1.2.1, rfl⟩, hR.2.2.2⟩, hA⟩
theorem px_back (hi' : dk_inv g A') (hB : ∃ B, A' = A ++ B) (h : px_R g A' (A.length, tk, bl) F T cap O u) : px_R g A (A.length, tk, bl) F T cap O (xs_count (xg_base u) u) := by
  obtain ⟨B, rfl⟩ := hB
  have h2 := px_cut hi' (k := A.length) (by simp) h
  rw [List.take_left'  rfl] at h2
  rw [h.2.2.1.1]
  exact h2
theorem yf_back (hB : ∃ B, A' = A ++ B) (h : yf_R g A' A.length tk bl H v) : yf_R g A A.length tk bl H (ys_count (yg_mark v) v) := by
  obtain ⟨B, rfl⟩ := hB
  obtain ⟨m, d, O, hR, hA⟩ := h
  have h3 := py_A_take (k := A.length) hA
  rw [List.take_left' rfl] at h3
  refine ⟨m, d, O, ?_, h3⟩
  rw [hR.2.2.1.1]
  exact py_setc hR
theorem yf_out0 (h : yf_R g A b2 tk bl H v) : yf_R g A b2 tk bl H (ys_outLen 0 v) := by
  obtain ⟨m, d, O, hR, hA⟩ := h
  exact ⟨m, d, [], py_out0 hR, hA⟩
theorem yk_neg {post : Int32 → SY → Prop} {r : Int32} (hr : r < 0) (hr' : ¬ 0 ≤ r) (hB : ∃ B, A' = A ++ B) (h : yf_R g A' A.length tk bl H v) (K : ∀ v', yf_R g A A.length tk bl H v' → post r v') : wpY_keep post v r := by
  rw [ye_keep]
  refine br_t hr ?_
  rw [ye_keep_17]
  exact br_f hr' (K _ (yf_back hB (yf_out0 h)))
theorem lc_norm (hg : ga_ok g) (htk : tk ≤ ga_FL g) (hi : dk_inv g A) (hE : dk_ev g A) {i : Nat} {S : List dk_T} (hS : A[i]? = some S) : ∃ (r : Int32) (A' : List (List dk_T)) (tk' : Nat) (ob : Option Nat), lk_x g A A' tk' ∧ lc_r A' r ob ∧ lc_X g A A' tk tk' ob r (fun post u => xv_normClaim_33 post (nI i) u) ∧ lc_Y g A A' tk tk' ob r (fun post u => wpY_normNode post u (nI i)) ∧ lk_X g A A' tk tk' r (fun post u => wpX_normNode post u (nI i)) ∧ ((0 ≤ r ∧ ob = none) ∨ (¬ 0 ≤ r ∧ ob = some i)) := by
  obtain ⟨r, A', tk', hno, hX, hY⟩ := lk_normNode hg htk hi hE hS (dk_pl_node hS)
  have hAl : A'.length ≤ 256 := (dk_inv_bd hg hno.2.1).1
  have bad : dk_fl r → ∃ (r : Int32) (A' : List (List dk_T)) (tk' : Nat) (ob : Option Nat), lk_x g A A' tk' ∧ lc_r A' r ob ∧ lc_X g A A' tk tk' ob r (fun post u => xv_normClaim_33 post (nI i) u) ∧ lc_Y g A A' tk tk' ob r (fun post u => wpY_normNode post u (nI i)) ∧ lk_X g A A' tk tk' r (fun post u => wpX_normNode post u (nI i)) ∧ ((0 ≤ r ∧ ob = none) ∨ (¬ 0 ≤ r ∧ ob = some i)) := by
    intro hf
    have hn := dk_fl_neg hf
    refine ⟨r, A', tk', some i, ⟨hno.1, hno.2.1, hno.2.2.1⟩, Or.inr hf, ?_, ?_, hX, Or.inr ⟨hn.2.1, rfl⟩⟩
    · intro post u bs bl F T cap O h K
      show xv_normClaim_33 post (nI i) u
      rw [xe_normClaim_33]
      exact hX _ u bs bl F T cap O h fun u' T' c' O' h' => br_f hn.2.1 (K _ F T' c' O' (px_bl h'))
    · intro post u bs bl H h K
      show wpY_normNode post u (nI i)
      rw [ye_normNode, nI_120]
      exact yf_call hY h fun u' h' => br_f hn.2.1 (K _ H (yf_bl h'))
  rcases hno.2.2.2 with e | e | ⟨ri, e, hri⟩
  · exact bad (Or.inl e)
  · exact bad (Or.inr (Or.inl e))
  · have hp : 0 ≤ r := by rw [e]; exact nI_pos' (by omega)
    refine ⟨r, A', tk', none, ⟨hno.1, hno.2.1, hno.2.2.1⟩, Or.inl ⟨ri, e, hri, rfl⟩, ?_, ?_, hX, Or.inl ⟨hp, rfl⟩⟩
    · intro post u bs bl F T cap O h K
      show xv_normClaim_33 post (nI i) u
      rw [xe_normClaim_33]
      exact hX _ u bs bl F T cap O h fun u' T' c' O' h' => br_t hp (K _ F T' c' O' h')
    · intro post u bs bl H h K
      show wpY_normNode post u (nI i)
      rw [ye_normNode, nI_120]
      exact yf_call hY h fun u' h' => br_t hp (K _ H h')
theorem lc_claim (hg : ga_ok g) (htk : tk ≤ ga_FL g) (hi : dk_inv g A) (hE : dk_ev g A) {i : Nat} {S : List dk_T} (hS : A[i]? = some S) : ∃ (r : Int32) (A' : List (List dk_T)) (tk' : Nat) (ob : Option Nat), lk_x g A A' tk' ∧ lc_r A' r ob ∧ lc_X g A A' tk tk' ob r (fun post u => wpX_normClaim post u (nI i)) ∧ lc_Y g A A' tk tk' ob r (fun post u => wpY_claimed post u (nI i)) := by
  have hAl : A.length ≤ 256 := (dk_inv_bd hg hi).1
  have hil : i < A.length := (List.getElem?_eq_some_iff.mp hS).1
  by_cases h1 : nI i = 1
  · obtain ⟨r, A', tk', ob, hx, hr, hX, hY, _, _⟩ := lc_norm hg htk hi hE hS
    refine ⟨r, A', tk', ob, hx, hr, ?_, ?_⟩
    · intro post u bs bl F T cap O h K
      show wpX_normClaim post u (nI i)
      rw [xe_normClaim]
      exact br_t h1 (hX post u bs bl F T cap O h K)
    · intro post u bs bl H h K
      show wpY_claimed post u (nI i)
      rw [ye_claimed]
      refine br_t h1 ?_
      rw [ye_claimed_14]
      refine br_t (by decide) ?_
      rw [ye_claimed_25]
      exact br_t (by decide) (br_t (by decide) (hY post u bs bl H h K))
  · obtain ⟨r1, A1, tk1, ob1, hx1, hr1, hX1, hY1⟩ := lk_infer hg hi hE htk hS
    have hAl1 : A1.length ≤ 256 := (dk_inv_bd hg hx1.2.1).1
    rcases hr1 with ⟨ri, e, hri, rfl⟩ | ⟨hf, bi, rfl⟩
    · subst e
      have hp : 0 ≤ nI ri := nI_pos' (by omega)
      by_cases hu : ri ≤ 1
      · obtain ⟨r, A', tk', ob, hx, hr, hX, hY, _, _⟩ := lc_norm hg hx1.2.2 hx1.2.1 (lk_x_ev hx1 hE) (lk_x_get hx1 hS)
        refine ⟨r, A', tk', ob, lk_x_trans hx1 hx, hr, ?_, ?_⟩
        · intro post u bs bl F T cap O h K
          show wpX_normClaim post u (nI i)
          rw [xe_normClaim]
          refine br_f h1 (hX1 _ u bs bl F T cap O h fun u1 F1 T1 c1 O1 k1 => br_t hp ?_)
          exact xl_isUniverse (by omega) (fun _ => br_f (by decide) (hX post u1 bs bl F1 T1 c1 O1 k1 K)) fun z => absurd hu (by omega)
        · intro post u bs bl H h K
          show wpY_claimed post u (nI i)
          rw [ye_claimed]
          refine br_f h1 (hY1 _ u bs bl H h fun u1 H1 k1 => ?_)
          rw [ye_claimed_14]
          refine br_t (nI_le (b := 1) hu (by decide)) ?_
          rw [ye_claimed_25]
          exact br_t (nI_le (b := 1) hu (by decide)) (br_t hp (hY post u1 bs bl H1 k1 K))
      · refine ⟨-7, A1, tk1, some i, hx1, Or.inr (by unfold dk_fl; decide), ?_, ?_⟩
        · intro post u bs bl F T cap O h K
          show wpX_normClaim post u (nI i)
          rw [xe_normClaim]
          refine br_f h1 (hX1 _ u bs bl F T cap O h fun u1 F1 T1 c1 O1 k1 => br_t hp ?_)
          exact xl_isUniverse (by omega) (fun z => absurd z hu) fun _ => br_t rfl (K _ F1 T1 c1 O1 (px_bl k1))
        · intro post u bs bl H h K
          show wpY_claimed post u (nI i)
          rw [ye_claimed]
          refine br_f h1 (hY1 _ u bs bl H h fun u1 H1 k1 => ?_)
          rw [ye_claimed_14]
          refine br_f (nI_ge (a := 1) (by omega) (by omega)) ?_
          rw [ye_claimed_25]
          exact br_f (nI_ge (a := 1) (by omega) (by omega)) (K _ H1 (yf_bl k1))
    · have hn := dk_fl_neg hf
      refine ⟨r1, A1, tk1, some bi, hx1, Or.inr hf, ?_, ?_⟩
      · intro post u bs bl F T cap O h K
        show wpX_normClaim post u (nI i)
        rw [xe_normClaim]
        exact br_f h1 (hX1 _ u bs bl F T cap O h fun u1 F1 T1 c1 O1 k1 => br_f hn.2.1 (K _ F1 T1 c1 O1 k1))
      · intro post u bs bl H h K
        show wpY_claimed post u (nI i)
        rw [ye_claimed]
        have hl1 : r1 ≤ 1 := by rcases hf with h | h | h | h | h | h | h | h <;> subst h <;> decide
        refine br_f h1 (hY1 _ u bs bl H h fun u1 H1 k1 => ?_)
        rw [ye_claimed_14]
        refine br_t hl1 ?_
        rw [ye_claimed_25]
        exact br_t hl1 (br_f hn.2.1 (K _ H1 k1))
theorem lc_check (hg : ga_ok g) (htk : tk ≤ ga_FL g) (hi : dk_inv g A) (hE : dk_ev g A) {i j : Nat} {S R : List dk_T} (hS : A[i]? = some S) (hR : A[j]? = some R) : ∃ (r : Int32) (A' : List (List dk_T)) (tk' : Nat) (ob : Option Nat), lk_x g A A' tk' ∧ lc_r A' r ob ∧ lc_X g A A' tk tk' ob r (fun post u => wpX_checkAgainst post u (nI i) (nI j)) ∧ lc_Y g A A' tk tk' ob r (fun post u => wpY_judged post u (nI i) (nI j)) := by
  obtain ⟨r1, A1, tk1, ob1, hx1, hr1, hX1, hY1⟩ := lc_claim hg htk hi hE hR
  have hAl1 : A1.length ≤ 256 := (dk_inv_bd hg hx1.2.1).1
  rcases hr1 with ⟨ra, e, hra, rfl⟩ | hf
  · subst e
    have hp : 0 ≤ nI ra := nI_pos' (by omega)
    obtain ⟨r2, A2, tk2, ob2, hx2, hr2, hX2, hY2⟩ := lk_infer hg hx1.2.1 (lk_x_ev hx1 hE) hx1.2.2 (lk_x_get hx1 hS)
    have hAl2 : A2.length ≤ 256 := (dk_inv_bd hg hx2.2.1).1
    have hl2 := lk_x_len hx2
    rcases hr2 with ⟨rb, e, hrb, rfl⟩ | ⟨hf, bi, rfl⟩
    · subst e
      have hp2 : 0 ≤ nI rb := nI_pos' (by omega)
      by_cases hab : nI rb = nI ra
      · refine ⟨nI ra, A2, tk2, none, lk_x_trans hx1 hx2, Or.inl ⟨ra, rfl, by omega, rfl⟩, ?_, ?_⟩
        · intro post u bs bl F T cap O h K
          show wpX_checkAgainst post u (nI i) (nI j)
          rw [xe_checkAgainst]
          exact hX1 _ u bs bl F T cap O h fun u1 F1 T1 c1 O1 k1 => br_t hp (hX2 _ u1 bs bl F1 T1 c1 O1 k1 fun u2 F2 T2 c2 O2 k2 => br_t hp2 (br_t hab (K u2 F2 T2 c2 O2 k2)))
        · intro post u bs bl H h K
          show wpY_judged post u (nI i) (nI j)
          rw [ye_judged]
          refine hY1 _ u bs bl H h fun u1 H1 k1 => br_t hp (hY2 _ u1 bs bl H1 k1 fun u2 H2 k2 => ?_)
          rw [ye_judged_19]
          refine br_f (nI_pos (by omega)) (br_t hab ?_)
          rw [hab]
          exact K u2 H2 k2
      · refine ⟨-9, A2, tk2, some i, lk_x_trans hx1 hx2, Or.inr (by unfold dk_fl; decide), ?_, ?_⟩
        · intro post u bs bl F T cap O h K
          show wpX_checkAgainst post u (nI i) (nI j)
          rw [xe_checkAgainst]
          exact hX1 _ u bs bl F T cap O h fun u1 F1 T1 c1 O1 k1 => br_t hp (hX2 _ u1 bs bl F1 T1 c1 O1 k1 fun u2 F2 T2 c2 O2 k2 => br_t hp2 (br_f hab (K _ F2 T2 c2 O2 (px_bl k2))))
        · intro post u bs bl H h K
          show wpY_judged post u (nI i) (nI j)
          rw [ye_judged]
          refine hY1 _ u bs bl H h fun u1 H1 k1 => br_t hp (hY2 _ u1 bs bl H1 k1 fun u2 H2 k2 => ?_)
          rw [ye_judged_19]
          exact br_f (nI_pos (by omega)) (br_f hab (K _ H2 (yf_bl k2)))
    · have hn := dk_fl_neg hf
      refine ⟨r2, A2, tk2, some bi, lk_x_trans hx1 hx2, Or.inr hf, ?_, ?_⟩
      · intro post u bs bl F T cap O h K
        show wpX_checkAgainst post u (nI i) (nI j)
        rw [xe_checkAgainst]
        exact hX1 _ u bs bl F T cap O h fun u1 F1 T1 c1 O1 k1 => br_t hp (hX2 _ u1 bs bl F1 T1 c1 O1 k1 fun u2 F2 T2 c2 O2 k2 => br_f hn.2.1 (K u2 F2 T2 c2 O2 k2))
      · intro post u bs bl H h K
        show wpY_judged post u (nI i) (nI j)
        rw [ye_judged]
        refine hY1 _ u bs bl H h fun u1 H1 k1 => br_t hp (hY2 _ u1 bs bl H1 k1 fun u2 H2 k2 => ?_)
        rw [ye_judged_19]
        exact br_t hn.2.2 (K _ H2 k2)
  · have hn := dk_fl_neg hf
    refine ⟨r1, A1, tk1, ob1, hx1, Or.inr hf, ?_, ?_⟩
    · intro post u bs bl F T cap O h K
      show wpX_checkAgainst post u (nI i) (nI j)
      rw [xe_checkAgainst]
      exact hX1 _ u bs bl F T cap O h fun u1 F1 T1 c1 O1 k1 => br_f hn.2.1 (K u1 F1 T1 c1 O1 k1)
    · intro post u bs bl H h K
      show wpY_judged post u (nI i) (nI j)
      rw [ye_judged]
      refine hY1 _ u bs bl H h fun u1 H1 k1 => br_f hn.2.1 ?_
      rw [ye_judged_19]
      exact br_t hn.2.2 (K _ H1 k1)
/-- keep, from a longer arena -/
theorem lc_keep (hg : ga_ok g) (hi : dk_inv g A) (hE : dk_ev g A) (hx : lk_x g A A' tk') {r : Nat} (hr : r < A'.length) : ∃ (r' : Nat) (A2 : List (List dk_T)), dk_inv g A2 ∧ dk_ev g A2 ∧ A.length ≤ A2.length ∧ r' < A2.length ∧ A2.length ≤ 256 ∧ (∀ (post : Int32 → SX → Prop) (u : SX) (tk : Nat) (bl : Int32) (F : dk_F) (T : List dk_T) (cap : Nat) (O : List dk_T), px_R g A' (A.length, tk, bl) F T cap O u → (∀ u' T' cap' O', px_R g A2 (A.length, tk, bl) F T' cap' O' u' → post (nI r') u') → wpX_keep post u (nI r)) ∧ (∀ (post : Int32 → SY → Prop) (u : SY) (tk : Nat) (bl : Int32) (H : dk_H), yf_R g A' A.length tk bl H u → (∀ u', yf_R g A2 A.length tk bl H u' → post (nI r') u') → wpY_keep post u (nI r)) := by
  have h4 : 4 ≤ A.length := by
    have := (List.getElem?_eq_some_iff.mp hi.2.2.2.2.2.2.2).1
    omega
  obtain ⟨r', A2, ⟨B, hB⟩, hi2, hr', hX, hY⟩ := lk_keep hg hx.2.1 h4 (lk_x_len hx) (List.getElem?_eq_getElem hr)
  obtain ⟨B1, hB1⟩ := hx.1
  have e : A'.take A.length = A := by rw [hB1, List.take_left' rfl]
  rw [e] at hB
  exact ⟨r', A2, hi2, by rw [hB]; exact dk_ev_app hE, by rw [hB]; simp, hr', (dk_inv_bd hg hi2).1, hX, hY⟩
end
end
section
/-! the work calls -/
theorem i_vc_infer {k : Nat} {u : SX} {v : SY} (I : i_Rel k u v) (hk : k + 5 ≤ 2564) (v1 : Int32) : wpX_infer (fun r u' => wpY_infer (fun r' v' => r' = r ∧ i_Rel (k + 5) u' v') v v1) u v1 := by
  have I' := i_up I
  obtain ⟨_, g, A, b1, b2, tk, bl, F, T, cap, O, H, hg, hi, hE, htk, hR, hY0⟩ := I
  have hAl : A.length ≤ 256 := (dk_inv_bd hg hi).1
  have hn : A.length < 2 ^ 31 := by omega
  have hcY := (yf_cnt hY0).1
  have hG := (yf_cnt hY0).2.1
  have hne : ga_ne g ≤ 16 := by have := hg.2.2.2.2.2.2.2; omega
  rw [xe_infer]
  rcases pk_ix2 v1 hn with h | ⟨i, li, rfl⟩
  · refine xl_isNode0 hR.2.1.1 h (br_t rfl ?_)
    rw [ye_infer]
    exact yl_bad1 hcY h (br_f (by decide) ⟨rfl, I'⟩)
  refine xl_isNode1 hR.2.1.1 hn li (br_f (by decide) ?_)
  have hS := List.getElem?_eq_getElem li
  obtain ⟨r, A', tk', ob, hx, hr, hX, hY⟩ := lk_infer hg hi hE (Nat.zero_le _) hS
  have hAl' : A'.length ≤ 256 := (dk_inv_bd hg hx.2.1).1
  rw [xe_startWork]
  refine hX _ _ _ _ _ _ _ _ (px_start hR) fun u1 F1 T1 c1 O1 k1 => ?_
  rcases hr with ⟨ri, rfl, hri, rfl⟩ | ⟨hf, bi, rfl⟩
  · obtain ⟨r', A2, i2, e2, _, l2, l3, kX, kY⟩ := lc_keep hg hi hE hx hri
    refine br_t (nI_pos' (by omega)) (kX _ u1 _ _ _ _ _ _ k1 fun u2 T2 c2 O2 k2 => ?_)
    rw [ye_infer]
    refine yl_bad0 hcY hn li (br_t rfl ?_)
    rw [ye_start]
    exact hY _ _ _ _ _ (yf_start hY0) fun v1 H1 y1 => kY _ v1 _ _ _ y1 fun v2 y2 => ⟨rfl, rl_in hg i2 e2 hx.2.2 k2 y2⟩
  · have hq := dk_fl_neg hf
    refine br_f hq.2.1 ?_
    rw [ye_infer]
    refine yl_bad0 hcY hn li (br_t rfl ?_)
    rw [ye_start]
    exact hY _ _ _ _ _ (yf_start hY0) fun v1 H1 y1 => yk_neg hq.2.2 hq.2.1 hx.1 y1 fun v2 y2 => ⟨rfl, rl_in hg hi hE hx.2.2 (px_back hx.2.1 hx.1 k1) y2⟩
theorem i_vc_normal {k : Nat} {u : SX} {v : SY} (I : i_Rel k u v) (hk : k + 5 ≤ 2564) (v1 : Int32) : wpX_normal (fun r u' => wpY_normal (fun r' v' => r' = r ∧ i_Rel (k + 5) u' v') v v1) u v1 := by
  have I' := i_up I
  obtain ⟨_, g, A, b1, b2, tk, bl, F, T, cap, O, H, hg, hi, hE, htk, hR, hY0⟩ := I
  have hAl : A.length ≤ 256 := (dk_inv_bd hg hi).1
  have hn : A.length < 2 ^ 31 := by omega
  have hcY := (yf_cnt hY0).1
  have hG := (yf_cnt hY0).2.1
  have hne : ga_ne g ≤ 16 := by have := hg.2.2.2.2.2.2.2; omega
  rw [xe_normal]
  rcases pk_ix2 v1 hn with h | ⟨i, li, rfl⟩
  · refine xl_isNode0 hR.2.1.1 h (br_t rfl ?_)
    rw [ye_normal]
    exact yl_bad1 hcY h (br_f (by decide) ⟨rfl, I'⟩)
  refine xl_isNode1 hR.2.1.1 hn li (br_f (by decide) ?_)
  have hS := List.getElem?_eq_getElem li
  obtain ⟨r, A', tk', ob, hx, hr, _, hY, hX, hob⟩ := lc_norm hg (Nat.zero_le (ga_FL g)) hi hE hS
  have hAl' : A'.length ≤ 256 := (dk_inv_bd hg hx.2.1).1
  rw [xe_startWork]
  refine hX _ _ _ _ _ _ _ _ (px_start hR) fun u1 T1 c1 O1 k1 => ?_
  rcases hr with ⟨ri, rfl, hri, rfl⟩ | hf
  · obtain ⟨r', A2, i2, e2, _, l2, l3, kX, kY⟩ := lc_keep hg hi hE hx hri
    refine br_t (nI_pos' (by omega)) (kX _ u1 _ _ _ _ _ _ k1 fun u2 T2 c2 O2 k2 => ?_)
    rw [ye_normal]
    refine yl_bad0 hcY hn li (br_t rfl ?_)
    rw [ye_start]
    exact hY _ _ _ _ _ (yf_start hY0) fun v1 H1 y1 => kY _ v1 _ _ _ y1 fun v2 y2 => ⟨rfl, rl_in hg i2 e2 hx.2.2 k2 y2⟩
  · have hq := dk_fl_neg hf
    have ho : ob = some i := by
      rcases hob with z | z
      · exact absurd z.1 hq.2.1
      · exact z.2
    subst ho
    refine br_f hq.2.1 ?_
    rw [ye_normal]
    refine yl_bad0 hcY hn li (br_t rfl ?_)
    rw [ye_start]
    exact hY _ _ _ _ _ (yf_start hY0) fun v1 H1 y1 => yk_neg hq.2.2 hq.2.1 hx.1 y1 fun v2 y2 => ⟨rfl, rl_in hg hi hE hx.2.2 (px_back hx.2.1 hx.1 (px_bl (a := nI i) k1)) y2⟩
theorem i_vc_check {k : Nat} {u : SX} {v : SY} (I : i_Rel k u v) (hk : k + 5 ≤ 2564) (v1 : Int32) (v2 : Int32) : wpX_check (fun r u' => wpY_check (fun r' v' => r' = r ∧ i_Rel (k + 5) u' v') v v1 v2) u v1 v2 := by
  have I' := i_up I
  obtain ⟨_, g, A, b1, b2, tk, bl, F, T, cap, O, H, hg, hi, hE, htk, hR, hY0⟩ := I
  have hAl : A.length ≤ 256 := (dk_inv_bd hg hi).1
  have hn : A.length < 2 ^ 31 := by omega
  have hcY := (yf_cnt hY0).1
  have hG := (yf_cnt hY0).2.1
  have hne : ga_ne g ≤ 16 := by have := hg.2.2.2.2.2.2.2; omega
  rw [xe_check]
  rcases pk_ix2 v1 hn with h | ⟨i, li, rfl⟩
  · refine xl_isNode0 hR.2.1.1 h (br_t rfl ?_)
    rw [ye_check]
    exact yl_bad1 hcY h (br_f (by decide) ⟨rfl, I'⟩)
  refine xl_isNode1 hR.2.1.1 hn li (br_f (by decide) ?_)
  have hS := List.getElem?_eq_getElem li
  rcases pk_ix2 v2 hn with h | ⟨j, lj, rfl⟩
  · refine xl_isNode0 hR.2.1.1 h (br_t rfl ?_)
    rw [ye_check]
    exact yl_bad0 hcY hn li (br_t rfl (yl_bad1 hcY h (br_f (by decide) ⟨rfl, I'⟩)))
  refine xl_isNode1 hR.2.1.1 hn lj (br_f (by decide) ?_)
  have hS2 := List.getElem?_eq_getElem lj
  obtain ⟨r, A', tk', ob, hx, hr, hX, hY⟩ := lc_check hg (Nat.zero_le (ga_FL g)) hi hE hS hS2
  have hAl' : A'.length ≤ 256 := (dk_inv_bd hg hx.2.1).1
  rw [xe_startWork]
  refine hX _ _ _ _ _ _ _ _ (px_start hR) fun u1 F1 T1 c1 O1 k1 => ?_
  rcases hr with ⟨ri, rfl, hri, rfl⟩ | hf
  · have hp : 0 ≤ nI ri := nI_pos' (by omega)
    refine br_t hp ?_
    rw [ye_check]
    refine yl_bad0 hcY hn li (br_t rfl (yl_bad0 hcY hn lj (br_t rfl ?_)))
    rw [ye_start]
    exact hY _ _ _ _ _ (yf_start hY0) fun v1 H1 y1 => br_t hp ⟨rfl, rl_in hg hi hE hx.2.2 (px_back hx.2.1 hx.1 k1) (yf_back hx.1 y1)⟩
  · have hq := dk_fl_neg hf
    refine br_f hq.2.1 ?_
    rw [ye_check]
    refine yl_bad0 hcY hn li (br_t rfl (yl_bad0 hcY hn lj (br_t rfl ?_)))
    rw [ye_start]
    exact hY _ _ _ _ _ (yf_start hY0) fun v1 H1 y1 => br_f hq.2.1 ⟨rfl, rl_in hg hi hE hx.2.2 (px_back hx.2.1 hx.1 k1) (yf_back hx.1 y1)⟩
theorem i_vc_equal {k : Nat} {u : SX} {v : SY} (I : i_Rel k u v) (hk : k + 5 ≤ 2564) (v1 : Int32) (v2 : Int32) : wpX_equal (fun r u' => wpY_equal (fun r' v' => r' = r ∧ i_Rel (k + 5) u' v') v v1 v2) u v1 v2 := by
  have I' := i_up I
  obtain ⟨_, g, A, b1, b2, tk, bl, F, T, cap, O, H, hg, hi, hE, htk, hR, hY0⟩ := I
  have hAl : A.length ≤ 256 := (dk_inv_bd hg hi).1
  have hn : A.length < 2 ^ 31 := by omega
  have hcY := (yf_cnt hY0).1
  have hG := (yf_cnt hY0).2.1
  have hne : ga_ne g ≤ 16 := by have := hg.2.2.2.2.2.2.2; omega
  rw [xe_equal]
  rcases pk_ix2 v1 hn with h | ⟨i, li, rfl⟩
  · refine xl_isNode0 hR.2.1.1 h (br_t rfl ?_)
    rw [ye_equal]
    exact yl_bad1 hcY h (br_f (by decide) ⟨rfl, I'⟩)
  refine xl_isNode1 hR.2.1.1 hn li (br_f (by decide) ?_)
  have hS := List.getElem?_eq_getElem li
  rcases pk_ix2 v2 hn with h | ⟨j, lj, rfl⟩
  · refine xl_isNode0 hR.2.1.1 h (br_t rfl ?_)
    rw [ye_equal]
    exact yl_bad0 hcY hn li (br_t rfl (yl_bad1 hcY h (br_f (by decide) ⟨rfl, I'⟩)))
  refine xl_isNode1 hR.2.1.1 hn lj (br_f (by decide) ?_)
  have hS2 := List.getElem?_eq_getElem lj
  obtain ⟨r, A', tk', ob, hx, hr, _, hY, hX, hob⟩ := lc_norm hg (Nat.zero_le (ga_FL g)) hi hE hS
  have hAl' : A'.length ≤ 256 := (dk_inv_bd hg hx.2.1).1
  rw [xe_startWork]
  refine hX _ _ _ _ _ _ _ _ (px_start hR) fun u1 T1 c1 O1 k1 => ?_
  rcases hr with ⟨ri, rfl, hri, rfl⟩ | hf
  · have hp : 0 ≤ nI ri := nI_pos' (by omega)
    obtain ⟨r2, A2, tk2, ob2, hx2, hr2, _, hY2, hX2, hob2⟩ := lc_norm hg hx.2.2 hx.2.1 (lk_x_ev hx hE) (lk_x_get hx hS2)
    have hAl2 : A2.length ≤ 256 := (dk_inv_bd hg hx2.2.1).1
    have hx3 := lk_x_trans hx hx2
    refine br_t hp (hX2 _ _ _ _ _ _ _ _ k1 fun u2 T2 c2 O2 k2 => ?_)
    rcases hr2 with ⟨rb, rfl, hrb, rfl⟩ | hf
    · have hp2 : 0 ≤ nI rb := nI_pos' (by omega)
      refine br_t hp2 (br_c (fun z => ?_) fun z => ?_)
      · rw [ye_equal]
        refine yl_bad0 hcY hn li (br_t rfl (yl_bad0 hcY hn lj (br_t rfl ?_)))
        rw [ye_start]
        refine hY _ _ _ _ _ (yf_start hY0) fun v1 H1 y1 => br_t hp (hY2 _ _ _ _ _ y1 fun v2 H2 y2 => ?_)
        rw [ye_equal_41]
        exact br_t hp2 (br_t z ⟨rfl, rl_in hg hi hE hx3.2.2 (px_back hx3.2.1 hx3.1 k2) (yf_back hx3.1 y2)⟩)
      · rw [ye_equal]
        refine yl_bad0 hcY hn li (br_t rfl (yl_bad0 hcY hn lj (br_t rfl ?_)))
        rw [ye_start]
        refine hY _ _ _ _ _ (yf_start hY0) fun v1 H1 y1 => br_t hp (hY2 _ _ _ _ _ y1 fun v2 H2 y2 => ?_)
        rw [ye_equal_41]
        exact br_t hp2 (br_f z ⟨rfl, rl_in hg hi hE hx3.2.2 (px_back hx3.2.1 hx3.1 k2) (yf_back hx3.1 y2)⟩)
    · have hq := dk_fl_neg hf
      have ho : ob2 = some j := by
        rcases hob2 with z | z
        · exact absurd z.1 hq.2.1
        · exact z.2
      subst ho
      refine br_f hq.2.1 ?_
      rw [ye_equal]
      refine yl_bad0 hcY hn li (br_t rfl (yl_bad0 hcY hn lj (br_t rfl ?_)))
      rw [ye_start]
      refine hY _ _ _ _ _ (yf_start hY0) fun v1 H1 y1 => br_t hp (hY2 _ _ _ _ _ y1 fun v2 H2 y2 => ?_)
      rw [ye_equal_41]
      exact br_f hq.2.1 ⟨rfl, rl_in hg hi hE hx3.2.2 (px_back hx3.2.1 hx3.1 (px_bl (a := nI j) k2)) (yf_back hx3.1 y2)⟩
  · have hq := dk_fl_neg hf
    have ho : ob = some i := by
      rcases hob with z | z
      · exact absurd z.1 hq.2.1
      · exact z.2
    subst ho
    refine br_f hq.2.1 ?_
    rw [ye_equal]
    refine yl_bad0 hcY hn li (br_t rfl (yl_bad0 hcY hn lj (br_t rfl ?_)))
    rw [ye_start]
    refine hY _ _ _ _ _ (yf_start hY0) fun v1 H1 y1 => br_f hq.2.1 ?_
    rw [ye_equal_41]
    exact br_f hq.2.1 ⟨rfl, rl_in hg hi hE hx.2.2 (px_back hx.2.1 hx.1 (px_bl (a := nI i) k1)) (yf_back hx.1 y1)⟩
end
section
/-! the calls that add an entry -/
def ga_add (g : dk_G) (x y z : Int32) : dk_G := (ga_NL g, ga_WL g, ga_FL g, ga_EL g, ga_ne g + 1, upd (ga_eb g) (ga_ne g) x, upd (ga_ec g) (ga_ne g) y, upd (ga_et g) (ga_ne g) z)
section
variable {g : dk_G} {A A' B : List (List dk_T)} {b1 b2 tk tk' : Nat} {bl : Int32} {F : dk_F} {T : List dk_T} {cap : Nat} {O : List dk_T} {H : dk_H} {u : SX} {v : SY} {x y z : Int32}
theorem ga_add_ok (hg : ga_ok g) (h : ga_ne g < ga_EL g) : ga_ok (ga_add g x y z) := ⟨hg.1, hg.2.1, hg.2.2.1, hg.2.2.2.1, hg.2.2.2.2.1, hg.2.2.2.2.2.1, hg.2.2.2.2.2.2.1, hg.2.2.2.2.2.2.2.1, h⟩
theorem dk_inv_add (hi : dk_inv g A) : dk_inv (ga_add g x y z) A := by
  refine ⟨hi.1, hi.2.1, fun S hS => ?_, hi.2.2.2⟩
  obtain ⟨⟨h1, h2⟩, h3⟩ := hi.2.2.1 S hS
  refine ⟨⟨h1, fun t ht => ?_⟩, h3⟩
  obtain ⟨a, b, c⟩ := h2 t ht
  refine ⟨a, b, fun e => ?_⟩
  obtain ⟨j, hj, e2⟩ := c e
  exact ⟨j, Nat.lt_succ_of_lt hj, e2⟩
theorem dk_ev_add (hE : dk_ev g A) (hx : x = -13 ∨ ∃ j, j < A.length ∧ x = nI j) (hy : ∃ j, j < A.length ∧ y = nI j) (hz : ∃ j, j < A.length ∧ z = nI j) : dk_ev (ga_add g x y z) A := by
  intro k hk
  have hk : k < ga_ne g + 1 := hk
  by_cases e : k = ga_ne g
  · show ((upd (ga_eb g) (ga_ne g) x) k = -13 ∨ ∃ j, j < A.length ∧ (upd (ga_eb g) (ga_ne g) x) k = nI j) ∧ (∃ j, j < A.length ∧ (upd (ga_ec g) (ga_ne g) y) k = nI j) ∧ (∃ j, j < A.length ∧ (upd (ga_et g) (ga_ne g) z) k = nI j)
    rw [e, pk_us, pk_us, pk_us]
    exact ⟨hx, hy, hz⟩
  · show ((upd (ga_eb g) (ga_ne g) x) k = -13 ∨ ∃ j, j < A.length ∧ (upd (ga_eb g) (ga_ne g) x) k = nI j) ∧ (∃ j, j < A.length ∧ (upd (ga_ec g) (ga_ne g) y) k = nI j) ∧ (∃ j, j < A.length ∧ (upd (ga_et g) (ga_ne g) z) k = nI j)
    rw [pk_un e, pk_un e, pk_un e]
    exact hE k (by omega)
theorem px_add {a b c : Nat → Int32} {n : Int32} (h : px_R g A (b1, tk, bl) F T cap O u) (hn : n = nI (ga_ne g + 1)) (ha : a = upd (ga_eb g) (ga_ne g) x) (hb : b = upd (ga_ec g) (ga_ne g) y) (hc : c = upd (ga_et g) (ga_ne g) z) : px_R (ga_add g x y z) A (b1, tk, bl) F T cap O (xs_entryCount_entryBody_entryClaim_entryType n a b c u) :=
  ⟨⟨h.1.1, h.1.2.1, h.1.2.2.1, h.1.2.2.2.1, hn, ha, hb, hc⟩, h.2.1, h.2.2.1, h.2.2.2.1, h.2.2.2.2.1, h.2.2.2.2.2⟩
theorem yf_add {a b c : Nat → Int32} {n : Int32} (h : yf_R g A b2 tk bl H v) (hn : n = nI (ga_ne g + 1)) (ha : a = upd (ga_eb g) (ga_ne g) x) (hb : b = upd (ga_ec g) (ga_ne g) y) (hc : c = upd (ga_et g) (ga_ne g) z) : yf_R (ga_add g x y z) A b2 tk bl H (ys_defs_body_claim_type n a b c v) := by
  obtain ⟨m, d, O, hR, hA⟩ := h
  exact ⟨m, d, O, ⟨⟨hR.1.1, hR.1.2.1, hR.1.2.2.1, hR.1.2.2.2.1, hn, ha, hb, hc, hR.1.2.2.2.2.2.2.2.2⟩, hR.2⟩, hA⟩
/-- adding the entry, once the claim stands -/
theorem lc_add {k : Nat} {ri : Nat} (hg : ga_ok g) (hel : ga_ne g < ga_EL g) (hi : dk_inv g A) (hE : dk_ev g A) (hx : lk_x g A A' tk') (hri : ri < A'.length) (hx0 : x = -13 ∨ ∃ j, j < A.length ∧ x = nI j) (hy0 : ∃ j, j < A.length ∧ y = nI j) (k1 : px_R g A' (A.length, tk', bl) F T cap O u) {Q : Int32 → SX → Prop} (hQ : ∀ r u', (∀ v H, yf_R g A' A.length tk' bl H v → yv_entry_36 (fun r' v' => r' = r ∧ i_Rel (k + 5) u' v') x y (nI ri) v) → Q r u') : wpX_addEntry Q u x y (nI ri) := by
  have hne : ga_ne g < 16 := by have := hg.2.2.2.2.2.2.2; omega
  obtain ⟨r', A2, i2, e2, hl, l2, l3, kX, kY⟩ := lc_keep hg hi hE hx hri
  rw [xe_addEntry]
  refine kX _ u _ _ _ _ _ _ k1 fun u2 T2 c2 O2 k2 => ?_
  rw [k2.1.2.2.2.2.1, k2.1.2.2.2.2.2.1, k2.1.2.2.2.2.2.2.1, k2.1.2.2.2.2.2.2.2, nI_clamp (by omega)]
  refine ⟨vp_in_nI (by omega) (by omega), nm_e ⟨vp_in_nI (by omega) (by omega), nm_e ⟨vp_in_nI (by omega) (by omega), nm_e (nm_e ?_)⟩⟩⟩
  refine hQ _ _ fun v H hY => ?_
  rw [ye_entry_36]
  refine kY _ v _ _ _ hY fun v2 y2 => br_t (nI_pos' (by omega)) ?_
  have hG := (yf_cnt y2).2.1
  rw [hG.2.2.2.2.1, hG.2.2.2.2.2.1, hG.2.2.2.2.2.2.1, hG.2.2.2.2.2.2.2.1, nI_clamp (by omega)]
  refine ⟨vp_in_nI (by omega) (by omega), nm_e ⟨vp_in_nI (by omega) (by omega), nm_e ⟨vp_in_nI (by omega) (by omega), nm_e (nm_e ⟨?_, ?_⟩)⟩⟩⟩
  · rw [← nI_succ, nI_pred]
  · exact rl_in (ga_add_ok hg hel) (dk_inv_add i2) (dk_ev_add e2 (hx0.imp id fun ⟨j, a, b⟩ => ⟨j, by omega, b⟩) (hy0.imp fun j ⟨a, b⟩ => ⟨by omega, b⟩) ⟨r', l2, rfl⟩) hx.2.2 (px_add k2 (nI_succ _).symm rfl rfl rfl) (yf_add y2 (nI_succ _).symm rfl rfl rfl)
end
theorem i_vc_postulate {k : Nat} {u : SX} {v : SY} (I : i_Rel k u v) (hk : k + 5 ≤ 2564) (v1 : Int32) : wpX_postulate (fun r u' => wpY_postulate (fun r' v' => r' = r ∧ i_Rel (k + 5) u' v') v v1) u v1 := by
  have I' := i_up I
  obtain ⟨_, g, A, b1, b2, tk, bl, F, T, cap, O, H, hg, hi, hE, htk, hR, hY0⟩ := I
  have hAl : A.length ≤ 256 := (dk_inv_bd hg hi).1
  have hn : A.length < 2 ^ 31 := by omega
  have hcY := (yf_cnt hY0).1
  have hG := (yf_cnt hY0).2.1
  have hne : ga_ne g ≤ 16 := by have := hg.2.2.2.2.2.2.2; omega
  rw [xe_postulate]
  rcases pk_ix2 v1 hn with h | ⟨i, li, rfl⟩
  · refine xl_isNode0 hR.2.1.1 h (br_t rfl ?_)
    rw [ye_postulate]
    exact yl_bad1 hcY h (br_f (by decide) ⟨rfl, I'⟩)
  refine xl_isNode1 hR.2.1.1 hn li (br_f (by decide) ?_)
  have hS := List.getElem?_eq_getElem li
  rw [hR.1.2.2.2.2.1, hR.1.2.2.2.1]
  have hEL : ga_EL g ≤ 16 := hg.2.2.2.2.2.2.2.1
  have hnEL : ga_ne g ≤ ga_EL g := hg.2.2.2.2.2.2.2.2
  refine br_c (fun z => ?_) fun z => ?_
  rotate_left
  · rw [ye_postulate]
    refine yl_bad0 hcY hn li (br_t rfl ?_)
    rw [ye_entry, hG.2.2.2.2.1, hG.2.2.2.1]
    refine br_t ?_ ⟨rfl, I'⟩
    congr 1
    apply Decidable.byContradiction
    intro w
    exact z (nI_lt (by omega) (by omega))
  have hel : ga_ne g < ga_EL g := by
    apply Decidable.byContradiction
    intro w
    exact (nI_nlt (by omega) (by omega)) z
  have hEq : ¬ nI (ga_ne g) = nI (ga_EL g) := fun w => by
    have := (nI_eq (by omega) (by omega)).mp w
    omega
  obtain ⟨r, A', tk', ob, hx, hr, hX, hY⟩ := lc_claim hg (Nat.zero_le (ga_FL g)) hi hE hS
  have hAl' : A'.length ≤ 256 := (dk_inv_bd hg hx.2.1).1
  rw [xe_startWork]
  refine hX _ _ _ _ _ _ _ _ (px_start hR) fun u1 F1 T1 c1 O1 k1 => ?_
  rcases hr with ⟨ri, rfl, hri, rfl⟩ | hf
  · refine br_t (nI_pos' (by omega)) (lc_add (k := k) hg hel hi hE hx hri (Or.inl rfl) ⟨i, li, rfl⟩ k1 fun r u' K => ?_)
    rw [ye_postulate]
    refine yl_bad0 hcY hn li (br_t rfl ?_)
    rw [ye_entry, hG.2.2.2.2.1, hG.2.2.2.1]
    refine br_f hEq ?_
    rw [ye_start]
    exact br_f (by decide) (hY _ _ _ _ _ (yf_start hY0) fun v1 H1 y1 => K _ _ y1)
  · have hq := dk_fl_neg hf
    refine br_f hq.2.1 ?_
    rw [ye_postulate]
    refine yl_bad0 hcY hn li (br_t rfl ?_)
    rw [ye_entry, hG.2.2.2.2.1, hG.2.2.2.1]
    refine br_f hEq ?_
    rw [ye_start]
    refine br_f (by decide) (hY _ _ _ _ _ (yf_start hY0) fun v1 H1 y1 => ?_)
    rw [ye_entry_36]
    exact yk_neg hq.2.2 hq.2.1 hx.1 y1 fun v2 y2 => br_f hq.2.1 ⟨rfl, rl_in hg hi hE hx.2.2 (px_back hx.2.1 hx.1 k1) y2⟩
theorem i_vc_define {k : Nat} {u : SX} {v : SY} (I : i_Rel k u v) (hk : k + 5 ≤ 2564) (v1 : Int32) (v2 : Int32) : wpX_define (fun r u' => wpY_define (fun r' v' => r' = r ∧ i_Rel (k + 5) u' v') v v1 v2) u v1 v2 := by
  have I' := i_up I
  obtain ⟨_, g, A, b1, b2, tk, bl, F, T, cap, O, H, hg, hi, hE, htk, hR, hY0⟩ := I
  have hAl : A.length ≤ 256 := (dk_inv_bd hg hi).1
  have hn : A.length < 2 ^ 31 := by omega
  have hcY := (yf_cnt hY0).1
  have hG := (yf_cnt hY0).2.1
  have hne : ga_ne g ≤ 16 := by have := hg.2.2.2.2.2.2.2; omega
  rw [xe_define]
  rcases pk_ix2 v1 hn with h | ⟨i, li, rfl⟩
  · refine xl_isNode0 hR.2.1.1 h (br_t rfl ?_)
    rw [ye_define]
    exact yl_bad1 hcY h (br_f (by decide) ⟨rfl, I'⟩)
  refine xl_isNode1 hR.2.1.1 hn li (br_f (by decide) ?_)
  have hS := List.getElem?_eq_getElem li
  rcases pk_ix2 v2 hn with h | ⟨j, lj, rfl⟩
  · refine xl_isNode0 hR.2.1.1 h (br_t rfl ?_)
    rw [ye_define]
    exact yl_bad0 hcY hn li (br_t rfl (yl_bad1 hcY h (br_f (by decide) ⟨rfl, I'⟩)))
  refine xl_isNode1 hR.2.1.1 hn lj (br_f (by decide) ?_)
  have hS2 := List.getElem?_eq_getElem lj
  rw [hR.1.2.2.2.2.1, hR.1.2.2.2.1]
  have hEL : ga_EL g ≤ 16 := hg.2.2.2.2.2.2.2.1
  have hnEL : ga_ne g ≤ ga_EL g := hg.2.2.2.2.2.2.2.2
  refine br_c (fun z => ?_) fun z => ?_
  rotate_left
  · rw [ye_define]
    refine yl_bad0 hcY hn li (br_t rfl (yl_bad0 hcY hn lj (br_t rfl ?_)))
    rw [ye_entry, hG.2.2.2.2.1, hG.2.2.2.1]
    refine br_t ?_ ⟨rfl, I'⟩
    congr 1
    apply Decidable.byContradiction
    intro w
    exact z (nI_lt (by omega) (by omega))
  have hel : ga_ne g < ga_EL g := by
    apply Decidable.byContradiction
    intro w
    exact (nI_nlt (by omega) (by omega)) z
  have hEq : ¬ nI (ga_ne g) = nI (ga_EL g) := fun w => by
    have := (nI_eq (by omega) (by omega)).mp w
    omega
  obtain ⟨r, A', tk', ob, hx, hr, hX, hY⟩ := lc_check hg (Nat.zero_le (ga_FL g)) hi hE hS hS2
  have hAl' : A'.length ≤ 256 := (dk_inv_bd hg hx.2.1).1
  rw [xe_startWork]
  refine hX _ _ _ _ _ _ _ _ (px_start hR) fun u1 F1 T1 c1 O1 k1 => ?_
  rcases hr with ⟨ri, rfl, hri, rfl⟩ | hf
  · refine br_t (nI_pos' (by omega)) (lc_add (k := k) hg hel hi hE hx hri (Or.inr ⟨i, li, rfl⟩) ⟨j, lj, rfl⟩ k1 fun r u' K => ?_)
    rw [ye_define]
    refine yl_bad0 hcY hn li (br_t rfl (yl_bad0 hcY hn lj (br_t rfl ?_)))
    rw [ye_entry, hG.2.2.2.2.1, hG.2.2.2.1]
    refine br_f hEq ?_
    rw [ye_start]
    exact br_t (nI_pos' (by omega)) (hY _ _ _ _ _ (yf_start hY0) fun v1 H1 y1 => K _ _ y1)
  · have hq := dk_fl_neg hf
    refine br_f hq.2.1 ?_
    rw [ye_define]
    refine yl_bad0 hcY hn li (br_t rfl (yl_bad0 hcY hn lj (br_t rfl ?_)))
    rw [ye_entry, hG.2.2.2.2.1, hG.2.2.2.1]
    refine br_f hEq ?_
    rw [ye_start]
    refine br_t (nI_pos' (by omega)) (hY _ _ _ _ _ (yf_start hY0) fun v1 H1 y1 => ?_)
    rw [ye_entry_36]
    exact yk_neg hq.2.2 hq.2.1 hx.1 y1 fun v2 y2 => br_f hq.2.1 ⟨rfl, rl_in hg hi hE hx.2.2 (px_back hx.2.1 hx.1 k1) y2⟩
end
section
/-! reading calls with loops, and release -/
theorem i_vc_field {k : Nat} {u : SX} {v : SY} (I : i_Rel k u v) (hk : k + 5 ≤ 2564) (v1 : Int32) (v2 : Int32) : wpX_field (fun r => wpY_field (fun r' => r' = r ∧ i_Rel (k + 5) u v) v v1 v2) u v1 v2 := by
  have I' := i_up I
  obtain ⟨_, g, A, b1, b2, tk, bl, F, T, cap, O, H, hg, hi, hE, htk, hR, hY0⟩ := I
  have hAl : A.length ≤ 256 := (dk_inv_bd hg hi).1
  have hn : A.length < 2 ^ 31 := by omega
  have hcY := (yf_cnt hY0).1
  have hG := (yf_cnt hY0).2.1
  have hne : ga_ne g ≤ 16 := by have := hg.2.2.2.2.2.2.2; omega
  rw [xe_field]
  rcases pk_ix2 v1 hn with h | ⟨j, lj, rfl⟩
  · refine xl_isNode0 hR.2.1.1 h (br_t rfl ?_)
    rw [ye_field]
    exact yl_bad1 hcY h (br_f (by decide) ⟨rfl, I'⟩)
  refine xl_isNode1 hR.2.1.1 hn lj (br_f (by decide) ⟨vp_in_nI (by omega) (by omega), ?_⟩)
  obtain ⟨t, cs, hA, hcs, hl, hkk, n1, n2, n3, n4, s1, s2, s3, s4⟩ := rd_node hg hi hR hY0 lj
  rw [nI_clamp (by omega), n1]
  refine nm_e (xl_arity ?_)
  have h4 := dk_ar4 t.1
  have ypre : ∀ P : Int32 → Prop, ((v2 = 0 ∧ (t.1 = 1 ∨ t.1 = 5 ∨ t.1 = 10)) → yv_field_39 P (nI j) v) → (¬ (v2 = 0 ∧ (t.1 = 1 ∨ t.1 = 5 ∨ t.1 = 10)) → yv_field_48 P (nI j) v2 v) → wpY_field P v (nI j) v2 := by
    intro P k1 k2
    rw [ye_field]
    refine yl_bad0 hcY hn lj (br_t rfl ?_)
    rw [nI_120]
    refine yl_kind s2 s1.1.1 s1.1.2 (by omega) ?_
    refine br_c (fun z => br_c (fun a => k1 ⟨z, Or.inl a⟩) fun a => br_c (fun b => k1 ⟨z, Or.inr (Or.inl b)⟩) fun b => br_c (fun c => k1 ⟨z, Or.inr (Or.inr c)⟩) fun c => k2 fun w => ?_) fun z => k2 fun w => z w.1
    rcases w.2 with q | q | q
    · exact a q
    · exact b q
    · exact c q
  have y48 : ∀ P : Int32 → Prop, (v2 < 0 ∨ nI (dk_ar t.1) ≤ v2) → P (-2) → yv_field_48 P (nI j) v2 v := by
    intro P h K
    rw [ye_field_48, nI_120]
    exact br_c (fun _ => K) fun z => yl_arity s2 s1.1.1 s1.1.2 (by omega) (br_f (Int32.not_lt.mpr (h.resolve_left z)) K)
  have leaf : (t.1 = 1 ∨ t.1 = 5 ∨ t.1 = 10) → xv_field_40 (fun r => wpY_field (fun r' => r' = r ∧ i_Rel (k + 5) u v) v (nI j) v2) (nI j) v2 u := by
    intro hc
    have h0 : dk_ar t.1 = 0 := by rcases hc with e | e | e <;> rw [e] <;> decide
    rw [xe_field_40, xe_field_43]
    refine br_c (fun z => ?_) fun z => br_c (fun z2 => ?_) fun z2 => ?_
    · exact ypre _ (fun w => absurd z (by rw [w.1]; decide)) fun _ => y48 _ (Or.inl z) ⟨rfl, I'⟩
    · have e0 : v2 = 0 := by
        rcases pk_ix2 v2 (n := 1) (by decide) with w | ⟨i, hi1, e⟩
        · rcases w with w | w
          · exact absurd w z
          · exact absurd z2 (Int32.not_lt.mpr w)
        · rw [e, show i = 0 from by omega]; rfl
      subst e0
      have e4 : 4 * nI j + 0 = nI (4 * j) := by
        rw [show (4 : Int32) = nI 4 from rfl, pk_mul, show (0 : Int32) = nI 0 from rfl, nI_add]; rfl
      rw [e4, nI_clamp (by omega), n2 h0]
      refine ⟨vp_in_nI (by omega) (by omega), ypre _ (fun _ => ?_) fun w => absurd ⟨rfl, hc⟩ w⟩
      rw [ye_field_39, nI_120]
      exact yl_val s2 s1.1.1 s1.1.2 (by omega) ⟨rfl, I'⟩
    · refine ypre _ (fun w => absurd (show v2 < 1 from by rw [w.1]; decide) z2) fun _ => y48 _ (Or.inr ?_) ⟨rfl, I'⟩
      rw [h0]
      exact Int32.not_lt.mp z
  refine br_c (fun z => leaf (Or.inl z)) fun c1 => br_c (fun z => leaf (Or.inr (Or.inl z))) fun c2 => br_c (fun z => leaf (Or.inr (Or.inr z))) fun c3 => ?_
  have nl : ¬ (t.1 = 1 ∨ t.1 = 5 ∨ t.1 = 10) := fun w => by
    rcases w with q | q | q
    · exact c1 q
    · exact c2 q
    · exact c3 q
  rw [xe_field_43]
  rcases pk_ix2 v2 (n := dk_ar t.1) (by omega) with h | ⟨i, li, rfl⟩
  · have K := ypre (fun r' => r' = -2 ∧ i_Rel (k + 5) u v) (fun w => absurd w.2 nl) fun _ => y48 _ h ⟨rfl, I'⟩
    exact br_c (fun _ => K) fun z => br_f (Int32.not_lt.mpr (h.resolve_left z)) K
  have hci : cs[i]? = some cs[i] := List.getElem?_eq_getElem (by omega)
  obtain ⟨ic, hic, ep⟩ := n3 i _ hci
  have e4 : 4 * nI j + nI i = nI (4 * j + i) := by
    rw [show (4 : Int32) = nI 4 from rfl, pk_mul, nI_add]
  rw [e4, nI_clamp (by omega), ep]
  refine br_f (nI_pos (by omega)) (br_t (nI_lt li (by omega)) ⟨vp_in_nI (by omega) (by omega), ypre _ (fun w => absurd w.2 nl) fun _ => ?_⟩)
  rw [ye_field_48, nI_120]
  refine br_f (nI_pos (by omega)) (yl_arity s2 s1.1.1 s1.1.2 (by omega) (br_t (nI_lt li (by omega)) ?_))
  have hbd := dk_inv_bd hg hi
  have bic := dk_bd_pos hbd hic
  obtain ⟨m, d, OY, hRY, hAY⟩ := hY0
  have ecs : cs.flatten = (cs.take i).flatten ++ (cs[i] ++ (cs.drop (i + 1)).flatten) := by
    have e1 : cs = cs.take i ++ cs[i] :: cs.drop (i + 1) := by
      rw [List.getElem_cons_drop, List.take_append_drop]
    have e2 := congrArg List.flatten e1
    rw [List.flatten_append, List.flatten_cons] at e2
    exact e2
  have s1t := s1.2
  rw [ecs] at s1t
  have q1 := py_s_app.mp s1t
  have q2 := py_s_app.mp q1.2
  have hlen : (t :: cs.flatten).length = 1 + ((cs.take i).flatten.length + (cs[i].length + (cs.drop (i + 1)).flatten.length)) := by
    rw [List.length_cons, ecs, List.length_append, List.length_append]; omega
  have hft : dk_fo (cs.take i).flatten i := by
    have := dk_fo_flat (cs := cs.take i) (fun c hc => hcs c (List.mem_of_mem_take hc))
    rw [List.length_take, Nat.min_eq_left (by omega)] at this
    exact this
  refine yl_child s2 (by omega) hft q1.1 (by omega) ?_
  refine yl_find s2 hRY.2.1 hbd (py_A_low hRY hbd hAY) q2.1 (hcs _ (List.getElem_mem _)) (by omega) (by omega) rfl (fun i' h' => ?_) fun w => absurd (List.mem_of_getElem? hic) w
  rw [dk_idx hi.2.1 h' hic]
  exact ⟨rfl, I'⟩
def dk_vl : List dk_T → Nat → Int32
  | [], _ => -13
  | t :: l, c => if t.1 = 4 then dk_vl l (c + 1) else if t.1 = 3 then nI c else -13
theorem xl_value {post : Int32 → Prop} {g : dk_G} {A : List (List dk_T)} {b1 b2 tk : Nat} {bl : Int32} {F : dk_F} {T : List dk_T} {cap : Nat} {O : List dk_T} {H : dk_H} {u : SX} {v : SY} (hg : ga_ok g) (hi : dk_inv g A) (hR : px_R g A (b1, tk, bl) F T cap O u) (hY : yf_R g A b2 tk bl H v) : ∀ (N : Nat) (S : List dk_T) (i c n : Nat), S.length ≤ N → N < n → c + N ≤ 200 → A[i]? = some S → post (dk_vl S c) → xv_value_17 post n (nI i) (nI c) (nI c) u := by
  intro N
  induction N with
  | zero =>
    intro S i c n h1 h2 h3 hA K
    have := dk_fo_len (dk_bd_pos (dk_inv_bd hg hi) hA).2.1
    omega
  | succ N ih =>
    intro S i c n h1 h2 h3 hA K
    obtain ⟨n, rfl⟩ : ∃ c, n = c + 1 := ⟨n - 1, by omega⟩
    have hj : i < A.length := (List.getElem?_eq_some_iff.mp hA).1
    obtain ⟨t, cs, hA', hcs, hl, hkk, n1, n2, n3, n4, s1, s2, s3, s4⟩ := rd_node hg hi hR hY hj
    have eS : S = t :: cs.flatten := Option.some.inj (hA.symm.trans hA')
    subst eS
    rw [xe_value_17, nI_clamp (by omega), n1]
    refine br_f (nI_ge (b := 256) (by omega) (by decide)) ⟨vp_in_nI (by omega) (by omega), br_c (fun z => ?_) fun z => ?_⟩
    · have h1' : cs.length = 1 := by rw [hl, z]; decide
      obtain ⟨d, rfl⟩ : ∃ d, cs = [d] := by
        match cs, h1' with
        | [d], _ => exact ⟨d, rfl⟩
      obtain ⟨ic, hic, ep⟩ := n3 0 d rfl
      have e4 : 4 * nI i = nI (4 * i) := by rw [show (4 : Int32) = nI 4 from rfl, pk_mul]
      rw [e4, nI_clamp (by omega), show xg_part u (4 * i) = nI ic from ep]
      refine ⟨vp_in_nI (by omega) (by omega), nm_e (nm_r (nI_1 _) (nm_r (nI_1 _) ?_))⟩
      have K' : post (dk_vl ([d].flatten) (c + 1)) := by
        have e : dk_vl (t :: [d].flatten) c = dk_vl [d].flatten (c + 1) := if_pos z
        rw [← e]; exact K
      rw [show [d].flatten = d from by simp] at K'
      exact ih d ic (c + 1) n (by simp at h1; omega) (by omega) (by omega) hic K'
    · rw [xe_value_53, nI_clamp (by omega), n1]
      refine ⟨vp_in_nI (by omega) (by omega), br_c (fun w => ?_) fun w => ?_⟩
      · have e : dk_vl (t :: cs.flatten) c = nI c := by
          show (if _ then _ else _) = _
          rw [if_neg z, if_pos w]
        rw [← e]; exact K
      · have e : dk_vl (t :: cs.flatten) c = -13 := by
          show (if _ then _ else _) = _
          rw [if_neg z, if_neg w]
        rw [← e]; exact K
theorem yl_value {post : Int32 → Prop} {v : SY} {j : Nat} (hnm : yg_nmem v = 47344) (hj : j < 256) : ∀ (l : List dk_T) (c n k : Nat), 0 < k → dk_fo l k → l.length < n → py_s (yg_mem v) (120 * j + c) l → 120 * j + c + l.length ≤ 30720 → post (dk_vl l c) → yv_value_15 post (nI j) n (nI (120 * j + c)) v := by
  intro l
  induction l with
  | nil =>
    intro c n k hk hf hn hs hl K
    have : k = 0 := hf
    omega
  | cons t l ih =>
    intro c n k hk hf hn hs hl K
    obtain ⟨n, rfl⟩ : ∃ c, n = c + 1 := ⟨n - 1, by simp at hn; omega⟩
    simp only [List.length_cons] at hn hl
    rw [ye_value_15]
    refine br_f (nI_ge (b := 30960) (by omega) (by decide)) (yl_kind hnm hs.1.1 hs.1.2 (by omega) (br_c (fun z => nm_r (nI_1 _) ?_) fun z => ?_))
    · have e : dk_vl (t :: l) c = dk_vl l (c + 1) := if_pos z
      rw [e] at K
      have hf2 := hf.2
      rw [z, show dk_ar 4 = 1 from by decide] at hf2
      exact ih (c + 1) n _ (by omega) hf2 (by omega) hs.2 (by omega) K
    · rw [ye_value_37]
      refine yl_kind hnm hs.1.1 hs.1.2 (by omega) (br_c (fun w => ?_) fun w => ?_)
      · have e : dk_vl (t :: l) c = nI c := by
          show (if _ then _ else _) = _
          rw [if_neg z, if_pos w]
        rw [e] at K
        rw [nI_120, pk_sub (by omega), show 120 * j + c - 120 * j = c from by omega]
        exact K
      · have e : dk_vl (t :: l) c = -13 := by
          show (if _ then _ else _) = _
          rw [if_neg z, if_neg w]
        rw [e] at K
        exact K
theorem i_vc_value {k : Nat} {u : SX} {v : SY} (I : i_Rel k u v) (hk : k + 5 ≤ 2564) (v1 : Int32) : wpX_value (fun r => wpY_value (fun r' => r' = r ∧ i_Rel (k + 5) u v) v v1) u v1 := by
  have I' := i_up I
  obtain ⟨_, g, A, b1, b2, tk, bl, F, T, cap, O, H, hg, hi, hE, htk, hR, hY0⟩ := I
  have hAl : A.length ≤ 256 := (dk_inv_bd hg hi).1
  have hn : A.length < 2 ^ 31 := by omega
  have hcY := (yf_cnt hY0).1
  have hG := (yf_cnt hY0).2.1
  have hne : ga_ne g ≤ 16 := by have := hg.2.2.2.2.2.2.2; omega
  rw [xe_value]
  rcases pk_ix2 v1 hn with h | ⟨j, lj, rfl⟩
  · refine xl_isNode0 hR.2.1.1 h (br_t rfl ?_)
    rw [ye_value]
    exact yl_bad1 hcY h (br_f (by decide) ⟨rfl, I'⟩)
  refine xl_isNode1 hR.2.1.1 hn lj (br_f (by decide) ?_)
  have hS := List.getElem?_eq_getElem lj
  have hb := dk_bd_pos (dk_inv_bd hg hi) hS
  obtain ⟨t1, t2, t3, t4, t5, t6⟩ := yf_T hg hi hS hY0
  refine ⟨122, xl_value hg hi hR hY0 120 A[j] j 0 122 (by omega) (by omega) (by omega) hS ?_⟩
  rw [ye_value]
  refine yl_bad0 hcY hn lj (br_t rfl (nm_r (nI_120 j) ⟨122, ?_⟩))
  exact yl_value t1 t6 A[j] 0 122 1 (by omega) t5 (by omega) t2 (by omega) ⟨rfl, I'⟩
theorem i_vc_isFree {k : Nat} {u : SX} {v : SY} (I : i_Rel k u v) (hk : k + 5 ≤ 2564) (v1 : Int32) (v2 : Int32) : wpX_isFree (fun r u' => wpY_isFree (fun r' v' => r' = r ∧ i_Rel (k + 5) u' v') v v1 v2) u v1 v2 := by
  have I' := i_up I
  obtain ⟨_, g, A, b1, b2, tk, bl, F, T, cap, O, H, hg, hi, hE, htk, hR, hY0⟩ := I
  have hAl : A.length ≤ 256 := (dk_inv_bd hg hi).1
  have hn : A.length < 2 ^ 31 := by omega
  have hcY := (yf_cnt hY0).1
  have hG := (yf_cnt hY0).2.1
  have hne : ga_ne g ≤ 16 := by have := hg.2.2.2.2.2.2.2; omega
  rw [xe_isFree]
  rcases pk_ix2 v1 hn with h | ⟨j, lj, rfl⟩
  · refine xl_isNode0 hR.2.1.1 h (br_t rfl ?_)
    rw [ye_isFree]
    exact yl_bad1 hcY h (br_f (by decide) ⟨rfl, I'⟩)
  refine xl_isNode1 hR.2.1.1 hn lj (br_f (by decide) ?_)
  have hS := List.getElem?_eq_getElem lj
  obtain ⟨t1, t2, t3, t4, t5, t6⟩ := yf_T hg hi hS hY0
  refine br_c (fun z => ?_) fun z => ?_
  · refine xl_load false (fun S h => (hi.2.2.1 S h).1) hAl hS (by omega) hR fun u1 h1 => ?_
    have h1' : px_R g A (b1, tk, bl) F A[j] 256 A[j] u1 := h1
    rw [h1'.2.2.2.2.1.1]
    refine xl_occurs' (pre := []) (S := A[j]) (suf := []) h1'.2.2.2.2.1 (by simp) t5 t5 rfl (by simp) ⟨dk_b_n _, ?_⟩
    rw [ye_isFree]
    refine yl_bad0 hcY hn lj (br_t rfl (br_f (Int32.not_lt.mpr z) ?_))
    obtain ⟨m, d, OY, hRY, hAY⟩ := hY0
    refine yl_occurs hRY (hAY j _ hS) t5 (by omega) (nI_120 j) fun v' d' hv => ?_
    have fin : i_Rel (k + 5) u1 v' := rl_in hg hi hE htk h1' ⟨m, d', OY, hv, hAY⟩
    cases dk_oc A[j] v2 with
    | true => exact br_f (by decide) ⟨rfl, fin⟩
    | false => exact br_t rfl ⟨rfl, fin⟩
  · rw [ye_isFree]
    exact yl_bad0 hcY hn lj (br_t rfl (br_t (Int32.not_le.mp z) ⟨rfl, I'⟩))
/-! release -/
def dk_rl (g : dk_G) (x : Int32) (q : Nat) : Prop := ¬ x ≤ ga_eb g q ∧ ¬ x ≤ ga_ec g q ∧ ga_et g q < x
theorem xl_release {post : Int32 → SX → Prop} {g : dk_G} {u : SX} {x : Int32} (hG : px_G g u) (hne : ga_ne g ≤ 16) : ∀ (e q n : Nat), q + e = ga_ne g → e < n → ((∀ p, q ≤ p → p < ga_ne g → dk_rl g x p) → post 1 (xs_count_blameNode x (-13) u)) → ((∃ p, p < ga_ne g ∧ ¬ dk_rl g x p) → post (-12) u) → xv_release_18 post x n (nI q) u := by
  intro e
  induction e with
  | zero =>
    intro q n h1 h2 K1 K2
    obtain ⟨n, rfl⟩ : ∃ c, n = c + 1 := ⟨n - 1, by omega⟩
    rw [xe_release_18, hG.2.2.2.2.1]
    exact br_t (nI_le (by omega) (by omega)) (K1 fun p a b => by omega)
  | succ e ih =>
    intro q n h1 h2 K1 K2
    obtain ⟨n, rfl⟩ : ∃ c, n = c + 1 := ⟨n - 1, by omega⟩
    rw [xe_release_18, hG.2.2.2.2.1, hG.2.2.2.2.2.1, hG.2.2.2.2.2.2.1, hG.2.2.2.2.2.2.2, nI_clamp (by omega)]
    have vp : vp_in (nI q) 16 := vp_in_nI (by omega) (by omega)
    refine br_f (nI_ge (by omega) (by omega)) ⟨vp, br_c (fun z => K2 ⟨q, by omega, fun w => w.1 z⟩) fun z1 => ⟨vp, br_c (fun z => K2 ⟨q, by omega, fun w => w.2.1 z⟩) fun z2 => ⟨vp, br_c (fun z => nm_r (nI_1 _) ?_) fun z => K2 ⟨q, by omega, fun w => z w.2.2⟩⟩⟩⟩
    refine ih (q + 1) n (by omega) (by omega) (fun h => K1 fun p a b => ?_) K2
    by_cases w : p = q
    · rw [w]; exact ⟨z1, z2, z⟩
    · exact h p (by omega) b
theorem yl_release {post : Int32 → SY → Prop} {g : dk_G} {u : SY} {x : Int32} (hG : py_G g u) (hne : ga_ne g ≤ 16) : ∀ (e q n : Nat), q + e = ga_ne g → e < n → ((∀ p, q ≤ p → p < ga_ne g → dk_rl g x p) → post 1 (ys_count_blame x (-13) u)) → ((∃ p, p < ga_ne g ∧ ¬ dk_rl g x p) → post (-12) u) → yv_release_18 post x n (nI q) u := by
  intro e
  induction e with
  | zero =>
    intro q n h1 h2 K1 K2
    obtain ⟨n, rfl⟩ : ∃ c, n = c + 1 := ⟨n - 1, by omega⟩
    rw [ye_release_18, hG.2.2.2.2.1]
    exact br_t (nI_le (by omega) (by omega)) (K1 fun p a b => by omega)
  | succ e ih =>
    intro q n h1 h2 K1 K2
    obtain ⟨n, rfl⟩ : ∃ c, n = c + 1 := ⟨n - 1, by omega⟩
    rw [ye_release_18, hG.2.2.2.2.1, hG.2.2.2.2.2.1, hG.2.2.2.2.2.2.1, hG.2.2.2.2.2.2.2.1, nI_clamp (by omega)]
    have vp : vp_in (nI q) 16 := vp_in_nI (by omega) (by omega)
    refine br_f (nI_ge (by omega) (by omega)) ⟨vp, br_c (fun z => K2 ⟨q, by omega, fun w => w.1 z⟩) fun z1 => ⟨vp, br_c (fun z => K2 ⟨q, by omega, fun w => w.2.1 z⟩) fun z2 => ⟨vp, br_c (fun z => nm_r (nI_1 _) ?_) fun z => K2 ⟨q, by omega, fun w => z w.2.2⟩⟩⟩⟩
    refine ih (q + 1) n (by omega) (by omega) (fun h => K1 fun p a b => ?_) K2
    by_cases w : p = q
    · rw [w]; exact ⟨z1, z2, z⟩
    · exact h p (by omega) b
theorem i_vc_release {k : Nat} {u : SX} {v : SY} (I : i_Rel k u v) (hk : k + 5 ≤ 2564) (v1 : Int32) : wpX_release (fun r u' => wpY_release (fun r' v' => r' = r ∧ i_Rel (k + 5) u' v') v v1) u v1 := by
  have I' := i_up I
  obtain ⟨_, g, A, b1, b2, tk, bl, F, T, cap, O, H, hg, hi, hE, htk, hR, hY0⟩ := I
  have hAl : A.length ≤ 256 := (dk_inv_bd hg hi).1
  have hn : A.length < 2 ^ 31 := by omega
  have hcY := (yf_cnt hY0).1
  have hG := (yf_cnt hY0).2.1
  have hne : ga_ne g ≤ 16 := by have := hg.2.2.2.2.2.2.2; omega
  rw [xe_release, hR.2.1.1]
  refine br_c (fun z => ?_) fun z4 => br_c (fun z => ?_) fun z => ?_
  · rw [ye_release]; exact br_t z ⟨rfl, I'⟩
  · obtain ⟨c, hc4, hc, rfl⟩ : ∃ c : Nat, 4 ≤ c ∧ c ≤ A.length ∧ v1 = nI c := by
      rcases pk_ix2 v1 (n := A.length + 1) (by omega) with w | ⟨c, hc, e⟩
      · exfalso
        rcases w with w | w
        · exact z4 (Int32.lt_trans w (by decide))
        · exact nI_ge (Nat.lt_succ_self A.length) (by omega) (Int32.le_trans w z)
      · refine ⟨c, ?_, by omega, e⟩
        apply Decidable.byContradiction
        intro w
        exact z4 (by rw [e]; exact nI_lt (b := 4) (by omega) (by decide))
    have nb : ∀ {P : Prop}, (∀ p, 0 ≤ p → p < ga_ne g → dk_rl g (nI c) p) → (∃ p, p < ga_ne g ∧ ¬ dk_rl g (nI c) p) → P := fun h ⟨p, a, b⟩ => absurd (h p (Nat.zero_le _) a) b
    refine ⟨_, xl_release hR.1 hne (ga_ne g) 0 (ga_ne g + 1) (by omega) (by omega) (fun h => ?_) fun h => ?_⟩
    · rw [ye_release, hcY]
      refine br_f z4 (br_t z ⟨_, yl_release hG hne (ga_ne g) 0 (ga_ne g + 1) (by omega) (by omega) (fun _ => ⟨rfl, ?_⟩) fun w => nb h w⟩)
      obtain ⟨m, d, OY, hRY, hAY⟩ := hY0
      have lt : ∀ {q : Nat}, q < A.length → nI q < nI c → q < c := fun hq w => by
        apply Decidable.byContradiction
        intro y
        exact nI_nlt (by omega) (by omega) w
      have hl : (A.take c).length = c := by rw [List.length_take]; omega
      have hY1 : yf_R g (A.take c) b2 tk (-13) H (ys_count_blame (nI c) (-13) v) := by
        refine ⟨m, d, OY, ?_, py_A_take hAY⟩
        rw [hl]
        exact ⟨hRY.1, rfl, ⟨hRY.2.2.1.1, hRY.2.2.1.2.1, rfl⟩, hRY.2.2.2⟩
      refine rl_in hg (dk_inv_take hi hc4) ?_ htk (px_bl (a := -13) (px_cut hi hc hR)) hY1
      intro q hq
      obtain ⟨a1, a2, a3⟩ := hE q hq
      obtain ⟨c1, c2, c3⟩ := h q (Nat.zero_le _) hq
      rw [hl]
      refine ⟨?_, ?_, ?_⟩
      · rcases a1 with a1 | ⟨p, hp, e⟩
        · exact Or.inl a1
        · rw [e] at c1
          exact Or.inr ⟨p, lt hp (Int32.not_le.mp c1), e⟩
      · obtain ⟨p, hp, e⟩ := a2
        rw [e] at c2
        exact ⟨p, lt hp (Int32.not_le.mp c2), e⟩
      · obtain ⟨p, hp, e⟩ := a3
        rw [e] at c3
        exact ⟨p, lt hp c3, e⟩
    · rw [ye_release, hcY]
      exact br_f z4 (br_t z ⟨_, yl_release hG hne (ga_ne g) 0 (ga_ne g + 1) (by omega) (by omega) (fun w => nb w h) fun _ => ⟨rfl, I'⟩⟩)
  · rw [ye_release, hcY]; exact br_f z4 (br_f z ⟨rfl, I'⟩)
end
section
/-! counting redexes, and one step -/
def dk_ct (g : dk_G) : List dk_T → Nat → Nat
  | [], _ => 0
  | _ :: _, 0 => 0
  | t :: l, n + 1 => (if dk_rx g false (t :: l) then 1 else 0) + dk_ct g l n
theorem dk_ct0 {g : dk_G} (l : List dk_T) : dk_ct g l 0 = 0 := by cases l <;> rfl
theorem dk_ct_le {g : dk_G} : ∀ (l : List dk_T) (n : Nat), dk_ct g l n ≤ l.length := by
  intro l
  induction l with
  | nil => intro n; exact Nat.le_refl _
  | cons t l ih =>
    intro n
    cases n with
    | zero => rw [dk_ct0]; exact Nat.zero_le _
    | succ n =>
      have := ih n
      show (if dk_rx g false (t :: l) then 1 else 0) + dk_ct g l n ≤ l.length + 1
      split <;> omega
theorem dk_ct_none {g : dk_G} : ∀ (l : List dk_T) (k : Nat), dk_fr g false l k = none → dk_ct g l l.length ≤ k := by
  intro l
  induction l with
  | nil => intro k _; exact Nat.zero_le _
  | cons t l ih =>
    intro k h
    have e : dk_fr g false (t :: l) k = if dk_rx g false (t :: l) then (if k = 0 then some 0 else (dk_fr g false l (k - 1)).map (· + 1)) else (dk_fr g false l k).map (· + 1) := rfl
    rw [e] at h
    show (if dk_rx g false (t :: l) then 1 else 0) + dk_ct g l l.length ≤ k
    by_cases w : dk_rx g false (t :: l) = true
    · rw [if_pos w] at h ⊢
      by_cases k0 : k = 0
      · rw [if_pos k0] at h; exact absurd h (by simp)
      · rw [if_neg k0, Option.map_eq_none_iff] at h
        have := ih _ h
        omega
    · rw [if_neg w] at h ⊢
      rw [Option.map_eq_none_iff] at h
      have := ih _ h
      omega
theorem dk_ct_some {g : dk_G} : ∀ (l : List dk_T) (k q : Nat), dk_fr g false l k = some q → q < l.length ∧ k < dk_ct g l (q + 1) ∧ k < dk_ct g l l.length ∧ ∀ p, p ≤ q → dk_ct g l p ≤ k := by
  intro l
  induction l with
  | nil => intro k q h; exact absurd h (by simp [dk_fr])
  | cons t l ih =>
    intro k q h
    have e : dk_fr g false (t :: l) k = if dk_rx g false (t :: l) then (if k = 0 then some 0 else (dk_fr g false l (k - 1)).map (· + 1)) else (dk_fr g false l k).map (· + 1) := rfl
    rw [e] at h
    have es : ∀ n, dk_ct g (t :: l) (n + 1) = (if dk_rx g false (t :: l) then 1 else 0) + dk_ct g l n := fun _ => rfl
    rw [List.length_cons, es, es]
    by_cases w : dk_rx g false (t :: l) = true
    · rw [if_pos w] at h es ⊢
      by_cases k0 : k = 0
      · rw [if_pos k0] at h
        injection h with h
        subst h
        refine ⟨by omega, by omega, by omega, fun p hp => ?_⟩
        rw [show p = 0 from by omega, dk_ct0]; omega
      · rw [if_neg k0, Option.map_eq_some_iff] at h
        obtain ⟨q', h1, h2⟩ := h
        have h2 : q' + 1 = q := h2
        subst h2
        obtain ⟨a, b, c, d⟩ := ih _ _ h1
        refine ⟨by omega, by omega, by omega, fun p hp => ?_⟩
        cases p with
        | zero => rw [dk_ct0]; omega
        | succ p =>
          have := d p (by omega)
          rw [es]; omega
    · rw [if_neg w] at h es ⊢
      rw [Option.map_eq_some_iff] at h
      obtain ⟨q', h1, h2⟩ := h
      have h2 : q' + 1 = q := h2
      subst h2
      obtain ⟨a, b, c, d⟩ := ih _ _ h1
      refine ⟨by omega, by omega, by omega, fun p hp => ?_⟩
      cases p with
      | zero => rw [dk_ct0]; omega
      | succ p =>
        have := d p (by omega)
        rw [es]; omega
theorem dk_ru5 {g : dk_G} (l : List dk_T) : dk_ru g l ≤ 5 := by
  cases l with
  | nil => exact Nat.zero_le _
  | cons t l =>
    show (if _ then _ else _) ≤ 5
    repeat' split
    all_goals omega
theorem pk_of {x : Int32} (h : 0 ≤ x) : ∃ k : Nat, k < 2 ^ 31 ∧ x = nI k := by
  have h1 : (0 : Int) ≤ x.toInt := Int32.le_iff_toInt_le.mp h
  have h2 := Int32.toInt_lt x
  have h3 : x.toInt.toNat < 2 ^ 31 := by omega
  refine ⟨x.toInt.toNat, h3, ?_⟩
  apply Int32.toInt_inj.mp
  rw [nI_toInt h3]
  omega
theorem xl_redexes {post : Int32 → SX → Prop} {g : dk_G} {T : List dk_T} {u : SX} (hg : ga_ok g) (hG : px_G g u) (hC : px_C T u) (hT : dk_fo T 1) : ∀ (l pre : List dk_T) (n c : Nat), T = pre ++ l → l.length < n → c + l.length ≤ 256 → post (nI (c + dk_ct g l l.length)) u → xv_redexes_20 post n (nI c) (nI pre.length) u := by
  intro l
  induction l with
  | nil =>
    intro pre n c e h1 h2 K
    obtain ⟨n, rfl⟩ : ∃ c, n = c + 1 := ⟨n - 1, by simp at h1; omega⟩
    rw [xe_redexes_20, hC.1, e, List.append_nil]
    exact br_t (Int32.le_refl _) K
  | cons t l ih =>
    intro pre n c e h1 h2 K
    obtain ⟨n, rfl⟩ : ∃ c, n = c + 1 := ⟨n - 1, by simp at h1; omega⟩
    simp only [List.length_cons] at h1 h2
    have hl : T.length = pre.length + (l.length + 1) := by rw [e]; simp
    have hC2 := hC.2.1
    rw [xe_redexes_20, hC.1]
    refine br_f (nI_ge (by omega) (by omega)) (xl_isRedex (eta := false) hg hG hC hT e ?_)
    have es : dk_ct g (t :: l) (t :: l).length = (if dk_rx g false (t :: l) then 1 else 0) + dk_ct g l l.length := rfl
    rw [es] at K
    have ep : nI pre.length + 1 = nI (pre ++ [t]).length := by rw [← nI_succ]; simp
    cases hw : dk_rx g false (t :: l) with
    | false =>
      rw [hw, if_neg (by decide), Nat.zero_add] at K
      refine br_t rfl (nm_r ep ?_)
      exact ih (pre ++ [t]) n c (by rw [e]; simp) (by omega) (by omega) K
    | true =>
      rw [hw, if_pos rfl, ← Nat.add_assoc] at K
      refine br_f (by decide) (nm_r (nI_succ c).symm (nm_r ep ?_))
      exact ih (pre ++ [t]) n (c + 1) (by rw [e]; simp) (by omega) (by omega) K
section
variable {g : dk_G} {c : Nat} {M : dk_M} {H : dk_H} {m : Nat → Int64} {O S : List dk_T} {j : Nat}
theorem yl_before_5 {post : Int32 → SY → Prop} (hg : ga_ok g) (hj : j < 256) (hl : S.length ≤ 120) (hS : dk_fo S 1) (hs : py_s m (120 * j) S) : ∀ (N : Nat) (l a : List dk_T) (n k : Nat) (d : Nat → Int32) (v : SY), S = a ++ l → N ≤ l.length → N < n → k + N ≤ 256 → py_R g c M H m d O v → (∀ v' d', py_R g c M H m d' O v' → post (nI (k + dk_ct g l N)) v') → yv_before_5 post (nI j) (nI (a.length + N)) n (nI k) (nI a.length) v := by
  intro N
  induction N with
  | zero =>
    intro l a n k d v e h1 h2 h3 hR K
    obtain ⟨n, rfl⟩ : ∃ c, n = c + 1 := ⟨n - 1, by omega⟩
    rw [ye_before_5]
    have := K v d hR
    rw [dk_ct0] at this
    exact br_t (Int32.le_refl _) this
  | succ N ih =>
    intro l a n k d v e h1 h2 h3 hR K
    obtain ⟨n, rfl⟩ : ∃ c, n = c + 1 := ⟨n - 1, by omega⟩
    cases l with
    | nil => simp at h1
    | cons t l =>
      simp only [List.length_cons] at h1
      have hlen : S.length = a.length + (l.length + 1) := by rw [e]; simp
      obtain ⟨k1, k0, fk⟩ := dk_fo_suf (a := a) (b := t :: l) (n := 1) (by rw [← e]; exact hS) (by simp)
      have hs' := hs
      rw [e] at hs'
      have h5 := dk_ru5 (g := g) (t :: l)
      rw [ye_before_5, nI_120, nI_add]
      refine br_f (nI_ge (by omega) (by omega)) (yl_rule hg hR (py_s_app.mp hs').2 fk (by omega) rfl fun v1 d1 hR1 => ?_)
      have ep : nI a.length + 1 = nI (a ++ [t]).length := by rw [← nI_succ]; simp
      have ea : a.length + (N + 1) = (a ++ [t]).length + N := by simp; omega
      have es : dk_ct g (t :: l) (N + 1) = (if dk_rx g false (t :: l) then 1 else 0) + dk_ct g l N := rfl
      rw [es] at K
      have hrx : dk_rx g false (t :: l) = (decide (dk_ru g (t :: l) ≠ 0) && decide (dk_ru g (t :: l) ≠ 5)) := by unfold dk_rx; simp
      by_cases c0 : dk_ru g (t :: l) = 0
      · have hw : dk_rx g false (t :: l) = false := by rw [hrx, c0]; decide
        rw [hw, if_neg (by decide), Nat.zero_add] at K
        rw [c0]
        refine br_t (by decide) (nm_r ep ?_)
        rw [ea]
        exact ih l (a ++ [t]) n k d1 v1 (by rw [e]; simp) (by omega) (by omega) (by omega) hR1 K
      · refine br_f (nI_nle (by omega) (by omega)) ?_
        by_cases c5 : dk_ru g (t :: l) = 5
        · have hw : dk_rx g false (t :: l) = false := by rw [hrx, c5]; decide
          rw [hw, if_neg (by decide), Nat.zero_add] at K
          rw [c5]
          refine br_t (by decide) (nm_r ep ?_)
          rw [ea]
          exact ih l (a ++ [t]) n k d1 v1 (by rw [e]; simp) (by omega) (by omega) (by omega) hR1 K
        · have hw : dk_rx g false (t :: l) = true := by rw [hrx]; simp [c0, c5]
          rw [hw, if_pos rfl, ← Nat.add_assoc] at K
          refine br_f (nI_ge (b := 5) (by omega) (by decide)) (nm_r (nI_succ k).symm (nm_r ep ?_))
          rw [ea]
          exact ih l (a ++ [t]) n (k + 1) d1 v1 (by rw [e]; simp) (by omega) (by omega) (by omega) hR1 K
theorem yl_before {post : Int32 → SY → Prop} (hg : ga_ok g) (hj : j < 256) (hl : S.length ≤ 120) (hS : dk_fo S 1) (hs : py_s m (120 * j) S) {N : Nat} (hN : N ≤ S.length) {d : Nat → Int32} {v : SY} (hR : py_R g c M H m d O v) (K : ∀ v' d', py_R g c M H m d' O v' → post (nI (dk_ct g S N)) v') : wpY_before post v (nI j) (nI N) := by
  rw [ye_before]
  refine ⟨N + 1, ?_⟩
  have := yl_before_5 (post := post) hg hj hl hS hs N S [] (N + 1) 0 d v rfl hN (by omega) (by omega) hR (by rw [Nat.zero_add]; exact K)
  rw [List.length_nil, Nat.zero_add] at this
  exact this
theorem yl_redexes {post : Int32 → SY → Prop} {A : List (List dk_T)} (hg : ga_ok g) (hi : dk_inv g A) (hA : py_A A m) (hS : A[j]? = some S) {d : Nat → Int32} {v : SY} (hR : py_R g A.length M H m d O v) (K : ∀ v' d', py_R g A.length M H m d' O v' → post (nI (dk_ct g S S.length)) v') : wpY_redexes post v (nI j) := by
  have hAl : A.length ≤ 256 := (dk_inv_bd hg hi).1
  have lj : j < A.length := (List.getElem?_eq_some_iff.mp hS).1
  have hb := dk_bd_pos (dk_inv_bd hg hi) hS
  have hgd := dk_inv_gd hi hS
  have hWL : ga_WL g ≤ 120 := hg.2.2.2.1
  rw [ye_redexes]
  refine yl_bad0 hR.2.1 (by omega) lj (br_t rfl ?_)
  rw [ye_weight]
  refine yl_bad0 hR.2.1 (by omega) lj (br_t rfl ?_)
  rw [nI_120]
  refine yl_end (py_nm hR).1 (py_low hR (hA j _ hS) (by omega)) hgd.1.1 (by omega) ?_
  rw [pk_sub (by omega), show 120 * j + S.length - 120 * j = S.length from by omega]
  exact yl_before hg (by omega) (by omega) hgd.1.1 (hA j _ hS) (Nat.le_refl _) hR K
/-- the search for redex k -/
theorem yl_reduce_33 {post : Int32 → SY → Prop} (hg : ga_ok g) (hj : j < 256) (hl : S.length ≤ 120) (hS : dk_fo S 1) (hs : py_s m (120 * j) S) {k q : Nat} (hk : k < 2 ^ 31) (hq : q < S.length) (h1 : k < dk_ct g S (q + 1)) (h2 : ∀ p, p ≤ q → dk_ct g S p ≤ k) : ∀ (e x n : Nat) (d : Nat → Int32) (v : SY), x + e = q → e < n → py_R g c M H m d O v → (∀ v' d', py_R g c M H m d' O v' → yv_reduce_59 post (nI j) (nI q) v') → yv_reduce_33 post (nI j) (nI k) n (nI x) v := by
  intro e
  induction e with
  | zero =>
    intro x n d v e1 e2 hR K
    obtain ⟨n, rfl⟩ : ∃ c, n = c + 1 := ⟨n - 1, by omega⟩
    have ex : x = q := by omega
    subst ex
    rw [ye_reduce_33]
    refine br_c (fun _ => K v d hR) fun _ => ?_
    rw [← nI_succ]
    have := dk_ct_le (g := g) S (x + 1)
    exact yl_before hg hj hl hS hs (by omega) hR fun v' d' hR' => br_t (nI_lt h1 (by omega)) (K v' d' hR')
  | succ e ih =>
    intro x n d v e1 e2 hR K
    obtain ⟨n, rfl⟩ : ∃ c, n = c + 1 := ⟨n - 1, by omega⟩
    rw [ye_reduce_33]
    refine br_f (nI_ge (b := 119) (by omega) (by decide)) ?_
    rw [← nI_succ]
    exact yl_before hg hj hl hS hs (by omega) hR fun v' d' hR' => br_f (nI_nlt (h2 (x + 1) (by omega)) hk) (nm_e (ih (x + 1) n d' v' (by omega) (by omega) hR' K))
end
theorem i_vc_redexes {k : Nat} {u : SX} {v : SY} (I : i_Rel k u v) (hk : k + 5 ≤ 2564) (v1 : Int32) : wpX_redexes (fun r u' => wpY_redexes (fun r' v' => r' = r ∧ i_Rel (k + 5) u' v') v v1) u v1 := by
  have I' := i_up I
  obtain ⟨_, g, A, b1, b2, tk, bl, F, T, cap, O, H, hg, hi, hE, htk, hR, hY0⟩ := I
  have hAl : A.length ≤ 256 := (dk_inv_bd hg hi).1
  have hn : A.length < 2 ^ 31 := by omega
  have hcY := (yf_cnt hY0).1
  have hG := (yf_cnt hY0).2.1
  have hne : ga_ne g ≤ 16 := by have := hg.2.2.2.2.2.2.2; omega
  rw [xe_redexes]
  rcases pk_ix2 v1 hn with h | ⟨j, lj, rfl⟩
  · refine xl_isNode0 hR.2.1.1 h (br_t rfl ?_)
    rw [ye_redexes]
    exact yl_bad1 hcY h (br_f (by decide) ⟨rfl, I'⟩)
  refine xl_isNode1 hR.2.1.1 hn lj (br_f (by decide) ?_)
  have hS := List.getElem?_eq_getElem lj
  obtain ⟨t1, t2, t3, t4, t5, t6⟩ := yf_T hg hi hS hY0
  refine xl_load false (fun S h => (hi.2.2.1 S h).1) hAl hS (by omega) hR fun u1 h1 => ?_
  have h1' : px_R g A (b1, tk, bl) F A[j] 256 A[j] u1 := h1
  refine ⟨A[j].length + 1, xl_redexes hg h1'.1 h1'.2.2.2.2.1 t5 A[j] [] (A[j].length + 1) 0 rfl (by omega) (by omega) ?_⟩
  rw [Nat.zero_add]
  obtain ⟨m, d, OY, hRY, hAY⟩ := hY0
  exact yl_redexes hg hi hAY hS hRY fun v' d' hv => ⟨rfl, rl_in hg hi hE htk h1' ⟨m, d', OY, hv, hAY⟩⟩
theorem i_vc_reduce {k : Nat} {u : SX} {v : SY} (I : i_Rel k u v) (hk : k + 5 ≤ 2564) (v1 : Int32) (v2 : Int32) : wpX_reduce (fun r u' => wpY_reduce (fun r' v' => r' = r ∧ i_Rel (k + 5) u' v') v v1 v2) u v1 v2 := by
  have I' := i_up I
  obtain ⟨_, g, A, b1, b2, tk, bl, F, T, cap, O, H, hg, hi, hE, htk, hR, hY0⟩ := I
  have hAl : A.length ≤ 256 := (dk_inv_bd hg hi).1
  have hn : A.length < 2 ^ 31 := by omega
  have hcY := (yf_cnt hY0).1
  have hG := (yf_cnt hY0).2.1
  have hne : ga_ne g ≤ 16 := by have := hg.2.2.2.2.2.2.2; omega
  have hWL : ga_WL g ≤ 120 := hg.2.2.2.1
  have hbd := dk_inv_bd hg hi
  rw [xe_reduce]
  rcases pk_ix2 v1 hn with h | ⟨j, lj, rfl⟩
  · refine xl_isNode0 hR.2.1.1 h (br_t rfl ?_)
    rw [ye_reduce, ye_redexes]
    refine yl_bad1 hcY h (br_f (by decide) (br_t (by decide) ?_))
    rw [ye_reduce_22]
    exact br_f (by decide) ⟨rfl, I'⟩
  refine xl_isNode1 hR.2.1.1 hn lj (br_f (by decide) ?_)
  have hS := List.getElem?_eq_getElem lj
  obtain ⟨t1, t2, t3, t4, t5, t6⟩ := yf_T hg hi hS hY0
  obtain ⟨m, d, OY, hRY, hAY⟩ := hY0
  have hct := dk_ct_le (g := g) A[j] A[j].length
  have hT := (dk_inv_gd hi hS).1
  refine br_c (fun z => ?_) fun z => ?_
  rotate_left
  · rw [ye_reduce]
    refine yl_redexes hg hi hAY hS hRY fun v' d' hv => br_f (nI_pos (by omega)) (br_t (Int32.not_le.mp z) ?_)
    rw [ye_reduce_22]
    exact br_t (nI_pos' (by omega)) ⟨rfl, rl_in hg hi hE htk hR ⟨m, d', OY, hv, hAY⟩⟩
  obtain ⟨kk, hkk, rfl⟩ := pk_of z
  refine xl_load false (fun S h => (hi.2.2.1 S h).1) hAl hS (by omega) hR fun u1 h1 => ?_
  have h1' : px_R g A (b1, tk, bl) F A[j] 256 A[j] u1 := h1
  refine xl_findRedex (eta := false) hg h1'.1 h1'.2.2.2.2.1 t5 hkk (fun hfr => br_f (by decide) ?_) fun q hfr => ?_
  · rw [ye_reduce]
    refine yl_redexes hg hi hAY hS hRY fun v' d' hv => br_f (nI_pos (by omega)) (br_f (nI_pos hkk) (br_f (nI_nlt (dk_ct_none _ _ hfr) hkk) ?_))
    rw [ye_reduce_22]
    exact br_t (nI_pos' (by omega)) ⟨rfl, rl_in hg hi hE htk h1' ⟨m, d', OY, hv, hAY⟩⟩
  obtain ⟨q1, q2, q3, q4⟩ := dk_ct_some _ _ _ hfr
  obtain ⟨pre, b, e1, e2, e3, e4⟩ := dk_fr_some hfr
  obtain ⟨k0, hk0, fb⟩ := dk_fo_suf (a := pre) (b := b) (n := 1) (by rw [← e1]; exact hT.1) e3
  rw [show k0 = 1 + (k0 - 1) from by omega] at fb
  obtain ⟨S, suf, e5, fS, _⟩ := dk_fo_split fb
  have eT : A[j] = pre ++ S ++ suf := by rw [e1, e5]; simp
  have hrx : dk_ru g (S ++ suf) ≠ 0 := by
    rw [e5] at e4
    unfold dk_rx at e4
    simp at e4
    exact e4.1
  have hSgd : dk_gd (ga_ne g) S := ⟨fS, fun x hx => hT.2 x (by rw [eT]; simp [hx])⟩
  obtain ⟨S', hRd, hS'⟩ := dk_rd_ex false hSgd (fun B hB => (hi.2.2.1 B hB).1) hAl hE hne hrx
  have hT' : dk_gd (ga_ne g) (pre ++ S' ++ suf) := dk_gd_repl (by rw [← eT]; exact hT) fS hS'
  have hyA : ∀ (i : Nat) (B : List dk_T), A[i]? = some B → py_s m (120 * i) B ∧ dk_fo B 1 ∧ 120 * i + B.length ≤ 30960 := by
    intro i B hB
    have := dk_bd_pos hbd hB
    exact ⟨hAY i B hB, this.2.1, by omega⟩
  have yin : ∀ (post : Int32 → SY → Prop), (∀ v' d', py_R g A.length (A.length, tk, bl) H m d' (pre ++ S' ++ suf) v' → wpY_enter (fun r v' => ((0 ≤ r → post r v') ∧ (¬ 0 ≤ r → post r (ys_count (yg_mark v') v')))) v') → wpY_reduce post v (nI j) (nI kk) := by
    intro post K
    rw [ye_reduce]
    refine yl_redexes hg hi hAY hS hRY fun v1 d1 hv1 => br_f (nI_pos (by omega)) (br_f (nI_pos hkk) (br_t (nI_lt q3 (by omega)) ⟨q + 1, ?_⟩))
    refine yl_reduce_33 hg t6 t4 t5 (hAY j _ hS) hkk q1 q2 q4 q 0 (q + 1) d1 v1 (by omega) (by omega) hv1 fun v2 d2 hv2 => ?_
    rw [ye_reduce_59, nI_120, nI_add]
    have hv3 : py_R g A.length (A.length, tk, bl) H m d2 OY (ys_mark (yg_count v2) v2) := ⟨hv2.1, hv2.2.1, ⟨hv2.2.1, hv2.2.2.1.2.1, hv2.2.2.1.2.2⟩, hv2.2.2.2⟩
    exact yl_replace (e := false) hg hyA hv3 (hAY j _ hS) (by omega) eT t5 fS rfl hRd rfl (by rw [e2]) fun v4 d4 hv4 => K v4 d4 hv4
  rw [← e2]
  refine br_t (nI_pos' (by omega)) (xl_contract (e := false) hg (fun B hB => hi.2.2.1 B hB) hAl h1' eT fS hRd hT'.1 (fun hlen u2 h2 => br_f (by decide) ?_) fun hlen u2 h2 => br_t rfl ?_)
  · obtain ⟨r, A', ho, hr, hX, hYe⟩ := lk_enter hg hT' hlen hi
    have hAl' : A'.length ≤ 256 := (dk_inv_bd hg ho.2.1).1
    obtain ⟨⟨B, hB⟩, hi', _⟩ := ho
    refine hX _ u2 _ _ _ _ h2 fun u3 h3 => ?_
    rcases hr with ⟨i, rfl, hAi⟩ | ⟨rfl, _⟩
    · have hil : i < A'.length := (List.getElem?_eq_some_iff.mp hAi).1
      refine br_t (nI_pos' (by omega)) (yin _ fun v' d' hv => ?_)
      exact hYe _ v' _ H m d' hv hAY fun v'' m' y1 y2 _ => br_t (nI_pos' (by omega)) ⟨rfl, rl_in hg hi' (by rw [hB]; exact dk_ev_app hE) htk h3 ⟨m', d', _, y1, y2⟩⟩
    · refine br_f (by decide) (yin _ fun v' d' hv => ?_)
      refine hYe _ v' _ H m d' hv hAY fun v'' m' y1 y2 _ => br_f (by decide) ⟨rfl, ?_⟩
      have h4 := px_cut hi' (k := A.length) (by rw [hB]; simp) h3
      have eA : A'.take A.length = A := by rw [hB, List.take_left' rfl]
      rw [eA] at h4
      rw [h2.2.1.1]
      exact rl_in hg hi hE htk h4 (yf_back ⟨B, hB⟩ ⟨m', d', _, y1, y2⟩)
  · refine yin _ fun v' d' hv => ?_
    rw [ye_enter, hv.2.2.2.2.2.2.1, hv.1.2.1]
    refine br_f (nI_ge (by omega) (by omega)) (br_f (by decide) ⟨rfl, ?_⟩)
    exact rl_in hg hi hE htk h2 (yf_back ⟨[], by simp⟩ ⟨m, d', _, hv, hAY⟩)
end
section
/-! the start -/
theorem cl_ex (x : Int32) {lo hi : Nat} (h : lo ≤ hi) (hh : hi < 2 ^ 31) : ∃ n : Nat, lo ≤ n ∧ n ≤ hi ∧ (∀ (post : Int32 → Prop) (u : SX), post (nI n) → wpX_clamp post u x (nI lo) (nI hi)) ∧ (∀ (post : Int32 → Prop) (u : SY), post (nI n) → wpY_clamp post u x (nI lo) (nI hi)) := by
  by_cases h1 : nI lo ≤ x
  · by_cases h2 : x ≤ nI hi
    · obtain ⟨k, hk, rfl⟩ := pk_of (Int32.le_trans (nI_pos' (n := lo) (by omega)) h1)
      refine ⟨k, ?_, ?_, fun post u K => ?_, fun post u K => ?_⟩
      · apply Decidable.byContradiction
        intro w
        exact nI_ge (by omega) (by omega) h1
      · apply Decidable.byContradiction
        intro w
        exact nI_ge (by omega) hk h2
      · rw [xe_clamp]; exact br_t h1 (br_t h2 K)
      · rw [ye_clamp]; exact br_t h1 (br_t h2 K)
    · refine ⟨hi, h, Nat.le_refl _, fun post u K => ?_, fun post u K => ?_⟩
      · rw [xe_clamp]; exact br_t h1 (br_f h2 K)
      · rw [ye_clamp]; exact br_t h1 (br_f h2 K)
  · refine ⟨lo, Nat.le_refl _, h, fun post u K => ?_, fun post u K => ?_⟩
    · rw [xe_clamp]; exact br_f h1 K
    · rw [ye_clamp]; exact br_f h1 K
theorem xl_leaf {post : Int32 → SX → Prop} {g : dk_G} {A : List (List dk_T)} {M : dk_M} {F : dk_F} {T : List dk_T} {cap : Nat} {O : List dk_T} {u : SX} {k a : Int32} (hg : ga_ok g) (hl : A.length < 16) (hnd : A.Nodup) (hk : dk_ar k = 0) (hS : [(k, a)] ∉ A) (h : px_R g A M F T cap O u) (K : ∀ u', px_R g (A ++ [[(k, a)]]) M F T cap O u' → post (nI A.length) u') : wpX_intern post u k a 0 0 0 := by
  have h16 : 16 ≤ ga_NL g := hg.1
  have hW : 8 ≤ ga_WL g := hg.2.2.1
  refine xl_intern (S := [(k, a)]) hg (by omega) hnd h ⟨[], ?_, by rw [hk]; rfl, by simp, ?_⟩ (by show 1 < 2 ^ 31; omega) (fun z => ?_) (fun _ i hi => absurd (List.mem_of_getElem? hi) hS) (fun _ _ z => by omega) fun _ _ _ u' _ h' => K u' h'
  · rw [if_pos hk]; rfl
  · intro j h1 h2 _
    match j, h1, h2 with
    | 1, _, _ => rfl
    | 2, _, _ => rfl
    | 3, _, _ => rfl
  · have z : ga_WL g < 1 := z
    omega
def dk_A0 : List (List dk_T) := [[(1, 0)], [(1, 1)], [(2, 0)], [(3, 0)]]
theorem dk_inv0 {g : dk_G} (hg : ga_ok g) : dk_inv g dk_A0 := by
  have h16 : 16 ≤ ga_NL g := hg.1
  have hW : 8 ≤ ga_WL g := hg.2.2.1
  have one : ∀ S ∈ dk_A0, ∃ t : dk_T, S = [t] ∧ dk_ar t.1 = 0 ∧ dk_kk t.1 ∧ t.1 ≠ 10 := by
    intro S hS
    rcases List.mem_cons.mp hS with e | hS
    · exact ⟨(1, 0), e, by decide, Or.inl rfl, by decide⟩
    rcases List.mem_cons.mp hS with e | hS
    · exact ⟨(1, 1), e, by decide, Or.inl rfl, by decide⟩
    rcases List.mem_cons.mp hS with e | hS
    · exact ⟨(2, 0), e, by decide, Or.inr (Or.inl rfl), by decide⟩
    rcases List.mem_cons.mp hS with e | hS
    · exact ⟨(3, 0), e, by decide, Or.inr (Or.inr (Or.inl rfl)), by decide⟩
    · exact absurd hS (by simp)
  refine ⟨by show 4 ≤ ga_NL g; omega, by decide, fun S hS => ?_, fun i S R hi hs hne => ?_, rfl, rfl, rfl, rfl⟩
  · obtain ⟨t, rfl, h0, hk, h10⟩ := one S hS
    refine ⟨⟨⟨by omega, by show 1 - 1 + dk_ar t.1 = 0; omega⟩, fun q hq => ?_⟩, by show 1 ≤ ga_WL g; omega⟩
    rw [List.mem_singleton.mp hq]
    exact ⟨hk, fun z => by omega, fun z => absurd z h10⟩
  · obtain ⟨t, rfl, h0, hk, h10⟩ := one S (List.mem_of_getElem? hi)
    rcases dk_sub_cons (t := t) (cs := []) (by simp) (by rw [h0]; rfl) hs with e | ⟨c, hc, _⟩
    · exact absurd e hne
    · exact absurd hc (by simp)
theorem py_A0 : py_A dk_A0 (vp_updL (vp_updL (vp_updL (vp_updL (fun _ => 0) 0 1) 120 17) 240 2) 360 3) := by
  intro i S h
  match i, h with
  | 0, h =>
    have e : [((1 : Int32), (0 : Int32))] = S := Option.some.inj h
    subst e
    refine ⟨⟨?_, Or.inl rfl⟩, trivial⟩
    rw [pk_uLn (by omega), pk_uLn (by omega), pk_uLn (by omega), pk_uLs]; decide
  | 1, h =>
    have e : [((1 : Int32), (1 : Int32))] = S := Option.some.inj h
    subst e
    refine ⟨⟨?_, Or.inl rfl⟩, trivial⟩
    rw [pk_uLn (by omega), pk_uLn (by omega), pk_uLs]; decide
  | 2, h =>
    have e : [((2 : Int32), (0 : Int32))] = S := Option.some.inj h
    subst e
    refine ⟨⟨?_, Or.inr (Or.inl rfl)⟩, trivial⟩
    rw [pk_uLn (by omega), pk_uLs]; decide
  | 3, h =>
    have e : [((3 : Int32), (0 : Int32))] = S := Option.some.inj h
    subst e
    refine ⟨⟨?_, Or.inr (Or.inr (Or.inl rfl))⟩, trivial⟩
    rw [pk_uLs]; decide
  | n + 4, h => exact absurd h (by simp [dk_A0])
theorem i_vc0 (k0 : Int32) (k1 : Int32) (k2 : Int32) (k3 : Int32) : wpX_init (fun u => wpY_init (fun v => i_Rel 4 u v) k0 k1 k2 k3) k0 k1 k2 k3 := by
  obtain ⟨n0, a0, b0, x0, y0⟩ := cl_ex k0 (lo := 16) (hi := 256) (by omega) (by decide)
  obtain ⟨n1, a1, b1, x1, y1⟩ := cl_ex k1 (lo := 8) (hi := 120) (by omega) (by decide)
  obtain ⟨n2, a2, b2, x2, y2⟩ := cl_ex k2 (lo := 8) (hi := 200) (by omega) (by decide)
  obtain ⟨n3, a3, b3, x3, y3⟩ := cl_ex k3 (lo := 1) (hi := 16) (by omega) (by decide)
  have hg : ga_ok (n0, n1, n2, n3, 0, (fun _ => 0), (fun _ => 0), (fun _ => 0)) := ⟨a0, b0, a1, b1, a2, b2, a3, b3, Nat.zero_le _⟩
  rw [xe_init]
  refine x0 _ _ (x1 _ _ (x2 _ _ (x3 _ _ ?_)))
  have h0 : px_R (n0, n1, n2, n3, 0, (fun _ => 0), (fun _ => 0), (fun _ => 0)) [] (0, 0, -13) (0, 0, 0, (fun _ => 0), (fun _ => 0), (fun _ => 0), (fun _ => 0)) [] 0 [] ((-100), nI n0, nI n1, nI n2, nI n3, 0, 0, 0, 0, (-13), 0, 0, 0, 0, 0, 0, 0, (fun _ => 0), (fun _ => 0), (fun _ => 0), (fun _ => 0), (fun _ => 0), (fun _ => 0), (fun _ => 0), (fun _ => 0), (fun _ => 0), (fun _ => 0), (fun _ => 0), (fun _ => 0), (fun _ => 0), (fun _ => 0), (fun _ => 0), (fun _ => 0), (fun _ => 0), (fun _ => 0), (fun _ => 0)) :=
    ⟨⟨rfl, rfl, rfl, rfl, nI_0.symm, rfl, rfl, rfl⟩, ⟨nI_0.symm, fun i S h => absurd h (by simp)⟩, ⟨nI_0.symm, nI_0.symm, rfl⟩, ⟨rfl, rfl, rfl, rfl, rfl, rfl, rfl⟩, ⟨nI_0.symm, by simp, trivial, Or.inl rfl⟩, ⟨by omega, nI_0.symm, nI_0.symm, rfl, trivial⟩⟩
  refine xl_leaf hg (by simp) (by simp) (by decide) (by simp) h0 fun u1 h1 => ?_
  refine xl_leaf hg (by simp) (by decide) (by decide) (by decide) h1 fun u2 h2 => ?_
  refine xl_leaf hg (by simp) (by decide) (by decide) (by decide) h2 fun u3 h3 => ?_
  refine xl_leaf hg (by simp) (by decide) (by decide) (by decide) h3 fun u4 h4 => ?_
  have h4' : px_R (n0, n1, n2, n3, 0, (fun _ => 0), (fun _ => 0), (fun _ => 0)) dk_A0 (0, 0, -13) (0, 0, 0, (fun _ => 0), (fun _ => 0), (fun _ => 0), (fun _ => 0)) [] 0 [] u4 := h4
  have h5 : px_R (n0, n1, n2, n3, 0, (fun _ => 0), (fun _ => 0), (fun _ => 0)) dk_A0 (4, 0, -13) (0, 0, 0, (fun _ => 0), (fun _ => 0), (fun _ => 0), (fun _ => 0)) [] 0 [] (xs_base (xg_count u4) u4) := ⟨h4'.1, h4'.2.1, ⟨h4'.2.1.1, h4'.2.2.1.2.1, h4'.2.2.1.2.2⟩, h4'.2.2.2.1, h4'.2.2.2.2.1, h4'.2.2.2.2.2⟩
  rw [ye_init, show (47344 : Int32).toNatClampNeg = 47344 from by decide, show (0 : Int32).toNatClampNeg = 0 from by decide, show (120 : Int32).toNatClampNeg = 120 from by decide, show (240 : Int32).toNatClampNeg = 240 from by decide, show (360 : Int32).toNatClampNeg = 360 from by decide]
  refine ⟨by decide, ?_⟩
  intro nm hnm
  subst hnm
  refine ⟨by omega, by decide, ?_⟩
  intro nd hnd
  subst hnd
  refine ⟨by omega, y0 _ _ (y1 _ _ (y2 _ _ (y3 _ _ ?_)))⟩
  refine ⟨vp_in_nI (n := 0) (by omega) (by omega), nm_e ⟨vp_in_nI (n := 120) (by omega) (by omega), nm_e ⟨vp_in_nI (n := 240) (by omega) (by omega), nm_e ⟨vp_in_nI (n := 360) (by omega) (by omega), nm_e ?_⟩⟩⟩⟩
  refine rl_in hg (dk_inv0 hg) (fun k hk => absurd hk (Nat.not_lt_zero _)) (Nat.zero_le _) h5 ⟨_, (fun _ => 0), [], ?_, py_A0⟩ (b2 := 0) (H := ((fun _ => 0), (fun _ => 0)))
  exact ⟨⟨rfl, rfl, rfl, rfl, nI_0.symm, rfl, rfl, rfl, rfl, rfl⟩, rfl, ⟨nI_0.symm, nI_0.symm, rfl⟩, ⟨rfl, rfl⟩, fun _ _ => rfl, rfl, ⟨nI_0.symm, trivial⟩⟩
end
