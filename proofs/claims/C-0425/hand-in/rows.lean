section
theorem pk_us {f : Nat → Int32} {k : Nat} {x : Int32} : upd f k x k = x := if_pos rfl
theorem pk_un {f : Nat → Int32} {k j : Nat} {x : Int32} (h : j ≠ k) : upd f k x j = f j := if_neg h
theorem pk_sub {a b : Nat} (h : b ≤ a) : nI a - nI b = nI (a - b) := by
  obtain ⟨c, rfl⟩ : ∃ c, a = c + b := ⟨a - b, by omega⟩
  rw [← nI_add, Int32.add_sub_cancel, Nat.add_sub_cancel]
theorem pk_m1 (n : Nat) : nI (n + 1) + (-1) = nI n := by
  rw [← nI_1, Int32.add_assoc, show (1 : Int32) + (-1) = 0 from rfl, Int32.add_zero]
theorem pk_mul (a b : Nat) : nI a * nI b = nI (a * b) := (Int32.ofNat_mul a b).symm
theorem pk_sub_toInt {a b : Nat} (ha : a < 2 ^ 30) (hb : b < 2 ^ 30) : (nI a - nI b).toInt = (a : Int) - b := by
  rw [Int32.toInt_sub, nI_toInt (by omega), nI_toInt (by omega)]
  exact Int.bmod_eq_of_le (by omega) (by omega)
theorem pk_sneg {a b : Nat} (hb : b < 2 ^ 30) (h : a < b) : nI a - nI b < 0 := by
  rw [Int32.lt_iff_toInt_lt, pk_sub_toInt (by omega) hb, show (0 : Int32).toInt = 0 from by decide]
  omega
theorem pk_ix (x : Int32) {n : Nat} (hn : n < 2 ^ 31) : x < 0 ∨ nI n ≤ x ∨ ∃ j : Nat, j < n ∧ x = nI j := by
  by_cases h : x < 0
  · exact Or.inl h
  · obtain ⟨j, hj, rfl⟩ := nI_of h
    by_cases h2 : j < n
    · exact Or.inr (Or.inr ⟨j, h2, rfl⟩)
    · exact Or.inr (Or.inl (nI_le (by omega) hj))
theorem pk_le {x y : Int32} {A B : Prop} (a b : Nat) (f : a ≤ b → A) (g : b < a → B) (hx : x = nI a := by rfl) (hy : y = nI b := by rfl) (ha : a < 2 ^ 31 := by omega) (hb : b < 2 ^ 31 := by omega) : (x ≤ y → A) ∧ (¬ x ≤ y → B) := by
  subst hx hy
  rw [nI_leI ha hb]
  exact ⟨f, fun z => g (by omega)⟩
theorem pk_lt {x y : Int32} {A B : Prop} (a b : Nat) (f : a < b → A) (g : b ≤ a → B) (hx : x = nI a := by rfl) (hy : y = nI b := by rfl) (ha : a < 2 ^ 31 := by omega) (hb : b < 2 ^ 31 := by omega) : (x < y → A) ∧ (¬ x < y → B) := by
  subst hx hy
  rw [nI_ltI ha hb]
  exact ⟨f, fun z => g (by omega)⟩
theorem pk_eq {x y : Int32} {A B : Prop} (a b : Nat) (f : a = b → A) (g : a ≠ b → B) (hx : x = nI a := by rfl) (hy : y = nI b := by rfl) (ha : a < 2 ^ 31 := by omega) (hb : b < 2 ^ 31 := by omega) : (x = y → A) ∧ (¬ x = y → B) := by
  subst hx hy
  rw [nI_eq ha hb]
  exact ⟨f, g⟩
theorem pk_in {x : Int32} (n N : Nat) (h : n < N) (hx : x = nI n := by rfl) (hN : N < 2 ^ 31 := by omega) : vp_in x N := by
  subst hx
  exact vp_in_nI h hN
theorem pk_cl {x : Int32} (n : Nat) (hx : x = nI n := by rfl) (h : n < 2 ^ 31 := by omega) : x.toNatClampNeg = n := by
  subst hx
  exact nI_clamp h
theorem pk_tn {n : Nat} (h : n < 2 ^ 32) : (nI n).toBitVec.toNat = n := Nat.mod_eq_of_lt h
theorem pk_and (x : Int32) {m : Int32} (k : Nat) (hm : m.toBitVec.toNat = 2 ^ k - 1) : x &&& m = nI (x.toBitVec.toNat % 2 ^ k) := by
  apply Int32.toBitVec_inj.mp
  apply BitVec.eq_of_toNat_eq
  rw [Int32.toBitVec_and, BitVec.toNat_and, hm, Nat.and_two_pow_sub_one_eq_mod]
  show _ = (BitVec.ofNat 32 _).toNat
  rw [BitVec.toNat_ofNat]
  exact (Nat.mod_eq_of_lt (Nat.lt_of_le_of_lt (Nat.mod_le _ _) x.toBitVec.isLt)).symm
theorem pk_andN {n : Nat} (h : n < 2 ^ 32) {m : Int32} (k : Nat) (hm : m.toBitVec.toNat = 2 ^ k - 1) : nI n &&& m = nI (n % 2 ^ k) := by
  rw [pk_and _ k hm, pk_tn h]
theorem pk_andE (x : Int32) {m : Int32} (k : Nat) (hm : m.toBitVec.toNat = 2 ^ k - 1) : ∃ j : Nat, j < 2 ^ k ∧ x &&& m = nI j := ⟨_, Nat.mod_lt _ (Nat.two_pow_pos k), pk_and x k hm⟩
theorem pk_andIn (x : Int32) {m : Int32} (k : Nat) (hm : m.toBitVec.toNat = 2 ^ k - 1) (hk : k ≤ 30) : vp_in (x &&& m) (2 ^ k) := by
  obtain ⟨j, hj, e⟩ := pk_andE x k hm
  rw [e]
  exact vp_in_nI hj (Nat.lt_of_le_of_lt (Nat.pow_le_pow_right (by decide) hk) (by decide))
theorem pk_charN {q : Nat} (hq : q < 65536) : narrow .char (.int (nI q)) = .int (nI q) ∧ fits .char (.int (nI q)) = true := by
  constructor
  · have e : (nI q).toUInt32.toUInt16.toUInt32.toInt32 = nI q := by
      apply Int32.toBitVec_inj.mp
      apply BitVec.eq_of_toNat_eq
      show (nI q).toUInt32.toUInt16.toUInt32.toNat = q % 2 ^ 32
      rw [UInt16.toNat_toUInt32, UInt32.toNat_toUInt16, show (nI q).toUInt32.toNat = q % 2 ^ 32 from rfl]
      omega
    exact congrArg Value.int e
  · have a : (0 : Int32) ≤ nI q := nI_pos' (by omega)
    have b : nI q ≤ 65535 := nI_le (b := 65535) (by omega) (by decide)
    show (decide ((0 : Int32) ≤ nI q) && decide (nI q ≤ 65535)) = true
    rw [decide_eq_true a, decide_eq_true b]
    rfl
theorem pk_char (x : Int32) : (x.toUInt32 % 65536).toInt32 = nI (x.toBitVec.toNat % 65536) := by
  apply Int32.toBitVec_inj.mp
  apply BitVec.eq_of_toNat_eq
  rw [pk_tn (by omega)]
  show (x.toUInt32 % 65536).toNat = _
  rw [UInt32.toNat_mod]
  rfl
theorem pk_nc (x : Int32) : narrow .char (.int (x.toUInt32 % 65536).toInt32) = .int (x.toUInt32 % 65536).toInt32 := by
  rw [pk_char]
  exact (pk_charN (Nat.mod_lt _ (by decide))).1
theorem pk_fc (x : Int32) : fits .char (.int (x.toUInt32 % 65536).toInt32) = true := by
  rw [pk_char]
  exact (pk_charN (Nat.mod_lt _ (by decide))).2
theorem pk_vb (z : Int32) : vp_nar .byte z.toInt8.toInt32 = z.toInt8.toInt32 := by rw [vp_nar_byte]; simp
theorem pk_vs (z : Int32) : vp_nar .short z.toInt16.toInt32 = z.toInt16.toInt32 := by rw [vp_nar_short]; simp
theorem pk_vc (z : Int32) : vp_nar .char (z.toUInt32 % 65536).toInt32 = (z.toUInt32 % 65536).toInt32 := Value.int.inj (pk_nc z)
theorem pk_least (P : Nat → Prop) (h : ∃ k, P k) : ∃ k, P k ∧ ∀ j, j < k → ¬ P j := by
  obtain ⟨k, hk⟩ := h
  induction k using Nat.strongRecOn with
  | ind k ih =>
    by_cases e : ∃ j, j < k ∧ P j
    · obtain ⟨j, hj, pj⟩ := e
      exact ih j hj pj
    · exact ⟨k, hk, fun j hj pj => e ⟨j, hj, pj⟩⟩
end
section
/-! the shift-reduce machine over any kind of values -/
def qm_rk (w : Int32) : Nat := if w = 3 then 1 else if w = 4 then 1 else if w = 5 then 2 else if w = 6 then 2 else if w = 7 then 2 else 0
def qm_oc (c : Int32) : Int32 := if c = 43 then 3 else if c = 45 then 4 else if c = 42 then 5 else if c = 60 then 6 else if c = 38 then 7 else 0
def qm_red {α : Type} (ng : α → α) (bn : Int32 → α → α → α) (w : Int32) : List α → List α
  | [] => []
  | [a] => if w = 8 then [ng a] else [a]
  | a :: b :: t => if w = 8 then ng a :: b :: t else bn w b a :: t
def qm_to {α : Type} (ng : α → α) (bn : Int32 → α → α → α) (l : Nat) (vs : List α) : List Int32 → List α × List Int32
  | [] => (vs, [])
  | w :: ws => if l ≤ qm_rk w then qm_to ng bn l (qm_red ng bn w vs) ws else (vs, w :: ws)
def qm_fac {α : Type} (ng : α → α) (bn : Int32 → α → α → α) (vs : List α) : List Int32 → List α × List Int32
  | [] => (vs, [])
  | w :: ws => if w = 8 then qm_fac ng bn (qm_red ng bn 8 vs) ws else (vs, w :: ws)
def qm_st {α : Type} (ng : α → α) (bn : Int32 → α → α → α) (s : Bool × List α × List Int32) (c : Int32) (x : α) : Bool × List α × List Int32 :=
  if c = 118 then (false, qm_fac ng bn (x :: s.2.1) s.2.2)
  else if c = 40 then (true, s.2.1, 9 :: s.2.2)
  else if c = 41 then (false, qm_fac ng bn (qm_to ng bn 1 s.2.1 s.2.2).1 (qm_to ng bn 1 s.2.1 s.2.2).2.tail)
  else if s.1 = true then (true, s.2.1, 8 :: s.2.2)
  else (true, (qm_to ng bn (qm_rk (qm_oc c)) s.2.1 s.2.2).1, qm_oc c :: (qm_to ng bn (qm_rk (qm_oc c)) s.2.1 s.2.2).2)
def qm_run {α : Type} (ng : α → α) (bn : Int32 → α → α → α) (K : Nat → Int32) (P : Nat → α) : Nat → Bool × List α × List Int32
  | 0 => (true, [], [])
  | i + 1 => qm_st ng bn (qm_run ng bn K P i) (K i) (P i)
def qm_fin {α : Type} (ng : α → α) (bn : Int32 → α → α → α) (s : Bool × List α × List Int32) : List α := (qm_to ng bn 1 s.2.1 s.2.2).1

theorem qm_run_congr {α : Type} {ng : α → α} {bn : Int32 → α → α → α} {K K' : Nat → Int32} {P P' : Nat → α} : ∀ i, (∀ j, j < i → K j = K' j ∧ P j = P' j) → qm_run ng bn K P i = qm_run ng bn K' P' i := by
  intro i
  induction i with
  | zero => intro _; rfl
  | succ i ih =>
    intro h
    show qm_st ng bn (qm_run ng bn K P i) (K i) (P i) = qm_st ng bn (qm_run ng bn K' P' i) (K' i) (P' i)
    rw [ih (fun j hj => h j (by omega)), (h i (by omega)).1, (h i (by omega)).2]

/-! two machines side by side -/
def qm_LR {α β : Type} (R : α → β → Prop) : List α → List β → Prop
  | [], [] => True
  | a :: l, b :: m => R a b ∧ qm_LR R l m
  | _, _ => False

section
variable {α β : Type} {R : α → β → Prop} {ng : α → α} {bn : Int32 → α → α → α} {ng' : β → β} {bn' : Int32 → β → β → β}

theorem qm_red_R (hn : ∀ a b, R a b → R (ng a) (ng' b)) (hb : ∀ w a b a' b', 1 ≤ qm_rk w → R a b → R a' b' → R (bn w a a') (bn' w b b')) {w : Int32} (hw : w = 8 ∨ 1 ≤ qm_rk w) : ∀ {vs : List α} {us : List β}, qm_LR R vs us → qm_LR R (qm_red ng bn w vs) (qm_red ng' bn' w us)
  | [], [], _ => trivial
  | [], _ :: _, h => h.elim
  | _ :: _, [], h => h.elim
  | [a], [b], h => by
    show qm_LR R (if w = 8 then [ng a] else [a]) (if w = 8 then [ng' b] else [b])
    by_cases h8 : w = 8
    · rw [if_pos h8, if_pos h8]; exact ⟨hn _ _ h.1, trivial⟩
    · rw [if_neg h8, if_neg h8]; exact h
  | [a], b :: b' :: m, h => h.2.elim
  | a :: a' :: l, [b], h => h.2.elim
  | a :: a' :: l, b :: b' :: m, h => by
    show qm_LR R (if w = 8 then ng a :: a' :: l else bn w a' a :: l) (if w = 8 then ng' b :: b' :: m else bn' w b' b :: m)
    by_cases h8 : w = 8
    · rw [if_pos h8, if_pos h8]; exact ⟨hn _ _ h.1, h.2⟩
    · rw [if_neg h8, if_neg h8]; exact ⟨hb _ _ _ _ _ (hw.resolve_left h8) h.2.1 h.1, h.2.2⟩

theorem qm_to_R (hn : ∀ a b, R a b → R (ng a) (ng' b)) (hb : ∀ w a b a' b', 1 ≤ qm_rk w → R a b → R a' b' → R (bn w a a') (bn' w b b')) {l : Nat} (hl : 1 ≤ l) : ∀ (ws : List Int32) {vs : List α} {us : List β}, qm_LR R vs us → qm_LR R (qm_to ng bn l vs ws).1 (qm_to ng' bn' l us ws).1 ∧ (qm_to ng bn l vs ws).2 = (qm_to ng' bn' l us ws).2
  | [], _, _, h => ⟨h, rfl⟩
  | w :: ws, vs, us, h => by
    show qm_LR R (if l ≤ qm_rk w then qm_to ng bn l (qm_red ng bn w vs) ws else (vs, w :: ws)).1 (if l ≤ qm_rk w then qm_to ng' bn' l (qm_red ng' bn' w us) ws else (us, w :: ws)).1 ∧ (if l ≤ qm_rk w then qm_to ng bn l (qm_red ng bn w vs) ws else (vs, w :: ws)).2 = (if l ≤ qm_rk w then qm_to ng' bn' l (qm_red ng' bn' w us) ws else (us, w :: ws)).2
    by_cases hw : l ≤ qm_rk w
    · rw [if_pos hw, if_pos hw]; exact qm_to_R hn hb hl ws (qm_red_R hn hb (Or.inr (by omega)) h)
    · rw [if_neg hw, if_neg hw]; exact ⟨h, rfl⟩

theorem qm_fac_R (hn : ∀ a b, R a b → R (ng a) (ng' b)) (hb : ∀ w a b a' b', 1 ≤ qm_rk w → R a b → R a' b' → R (bn w a a') (bn' w b b')) : ∀ (ws : List Int32) {vs : List α} {us : List β}, qm_LR R vs us → qm_LR R (qm_fac ng bn vs ws).1 (qm_fac ng' bn' us ws).1 ∧ (qm_fac ng bn vs ws).2 = (qm_fac ng' bn' us ws).2
  | [], _, _, h => ⟨h, rfl⟩
  | w :: ws, vs, us, h => by
    show qm_LR R (if w = 8 then qm_fac ng bn (qm_red ng bn 8 vs) ws else (vs, w :: ws)).1 (if w = 8 then qm_fac ng' bn' (qm_red ng' bn' 8 us) ws else (us, w :: ws)).1 ∧ (if w = 8 then qm_fac ng bn (qm_red ng bn 8 vs) ws else (vs, w :: ws)).2 = (if w = 8 then qm_fac ng' bn' (qm_red ng' bn' 8 us) ws else (us, w :: ws)).2
    by_cases hw : w = 8
    · rw [if_pos hw, if_pos hw]; exact qm_fac_R hn hb ws (qm_red_R hn hb (Or.inl rfl) h)
    · rw [if_neg hw, if_neg hw]; exact ⟨h, rfl⟩

def qm_SR (R : α → β → Prop) (s : Bool × List α × List Int32) (t : Bool × List β × List Int32) : Prop := s.1 = t.1 ∧ qm_LR R s.2.1 t.2.1 ∧ s.2.2 = t.2.2

theorem qm_st_R (hn : ∀ a b, R a b → R (ng a) (ng' b)) (hb : ∀ w a b a' b', 1 ≤ qm_rk w → R a b → R a' b' → R (bn w a a') (bn' w b b')) {s : Bool × List α × List Int32} {t : Bool × List β × List Int32} (h : qm_SR R s t) {c : Int32} (hc : c = 118 ∨ c = 40 ∨ c = 41 ∨ 1 ≤ qm_rk (qm_oc c)) {x : α} {y : β} (hx : c = 118 → R x y) : qm_SR R (qm_st ng bn s c x) (qm_st ng' bn' t c y) := by
  obtain ⟨e, vs, ws⟩ := s
  obtain ⟨e', us, ws'⟩ := t
  obtain ⟨h1, h2, h3⟩ := h
  simp only at h1 h2 h3
  subst h1
  subst h3
  unfold qm_st
  simp only
  by_cases h118 : c = 118
  · rw [if_pos h118, if_pos h118]
    have := qm_fac_R (R := R) hn hb ws (vs := x :: vs) (us := y :: us) ⟨hx h118, h2⟩
    exact ⟨rfl, this.1, this.2⟩
  · rw [if_neg h118, if_neg h118]
    by_cases h40 : c = 40
    · rw [if_pos h40, if_pos h40]; exact ⟨rfl, h2, rfl⟩
    · rw [if_neg h40, if_neg h40]
      by_cases h41 : c = 41
      · rw [if_pos h41, if_pos h41]
        have a := qm_to_R (R := R) hn hb (Nat.le_refl 1) ws h2
        have b := qm_fac_R (R := R) hn hb (qm_to ng bn 1 vs ws).2.tail a.1
        rw [← a.2]
        exact ⟨rfl, b.1, b.2⟩
      · rw [if_neg h41, if_neg h41]
        have hr : 1 ≤ qm_rk (qm_oc c) := by
          rcases hc with z | z | z | z
          · exact absurd z h118
          · exact absurd z h40
          · exact absurd z h41
          · exact z
        by_cases he : e = true
        · rw [if_pos he, if_pos he]; exact ⟨rfl, h2, rfl⟩
        · rw [if_neg he, if_neg he]
          have a := qm_to_R (R := R) hn hb hr ws h2
          exact ⟨rfl, a.1, congrArg (qm_oc c :: ·) a.2⟩

theorem qm_run_R (hn : ∀ a b, R a b → R (ng a) (ng' b)) (hb : ∀ w a b a' b', 1 ≤ qm_rk w → R a b → R a' b' → R (bn w a a') (bn' w b b')) {K : Nat → Int32} {P : Nat → α} {P' : Nat → β} : ∀ m, (∀ i, i < m → K i = 118 ∨ K i = 40 ∨ K i = 41 ∨ 1 ≤ qm_rk (qm_oc (K i))) → (∀ i, i < m → K i = 118 → R (P i) (P' i)) → qm_SR R (qm_run ng bn K P m) (qm_run ng' bn' K P' m) := by
  intro m
  induction m with
  | zero => intro _ _; exact ⟨rfl, trivial, rfl⟩
  | succ m ih =>
    intro h1 h2
    exact qm_st_R hn hb (ih (fun i hi => h1 i (by omega)) (fun i hi => h2 i (by omega))) (h1 m (by omega)) (h2 m (by omega))

theorem qm_fin_R (hn : ∀ a b, R a b → R (ng a) (ng' b)) (hb : ∀ w a b a' b', 1 ≤ qm_rk w → R a b → R a' b' → R (bn w a a') (bn' w b b')) {s : Bool × List α × List Int32} {t : Bool × List β × List Int32} (h : qm_SR R s t) : qm_LR R (qm_fin ng bn s) (qm_fin ng' bn' t) := by
  have a := qm_to_R (R := R) hn hb (Nat.le_refl 1) s.2.2 h.2.1
  unfold qm_fin
  rw [← h.2.2]
  exact a.1
end
end
section
/-! trees as their nodes in the order of making: (kind, argument, level); the code of a level; the queue -/
abbrev qm_V : Type := List (Int32 × Int32 × Nat)
def qm_sh (l : qm_V) : qm_V := l.map (fun t => (t.1, t.2.1, t.2.2 + 1))
def qm_ng (l : qm_V) : qm_V := qm_sh l ++ [(8, 0, 0)]
def qm_bn (k : Int32) (a b : qm_V) : qm_V := qm_sh a ++ (qm_sh b ++ [(k, 0, 0)])
def qm_lf (p : Int32 × Int32) : qm_V := [(p.1, p.2, 0)]
def qm_cd (l : qm_V) (d : Nat) : List (Int32 × Int32) := (l.filter (fun t => decide (t.2.2 = d))).map (fun t => (t.1, t.2.1))
def qm_cds (l : qm_V) : Nat → List (Int32 × Int32)
  | 0 => qm_cd l 0
  | d + 1 => qm_cd l (d + 1) ++ qm_cds l d
def qm_b (k p q : Int32) : Int32 := if k = 3 then p + q else if k = 4 then p - q else if k = 5 then p * q else if k = 6 then (if q ≤ p then 0 else 1) else p &&& q
def qm_ev (va : Nat → Int32) (p : Int32 × Int32) : Int32 := if p.1 = 1 then p.2 else va p.2.toNatClampNeg
def qm_op (va : Nat → Int32) (o : Int32 × Int32) (Q : List Int32) : Option (List Int32) :=
  if o.1 = 1 ∨ o.1 = 2 then some (Q ++ [qm_ev va o])
  else if o.1 = 8 then match Q with
    | [] => none
    | p :: Q' => some (Q' ++ [-p])
  else match Q with
    | p :: q :: Q' => some (Q' ++ [qm_b o.1 p q])
    | _ => none
def qm_ex (va : Nat → Int32) : List (Int32 × Int32) → List Int32 → Option (List Int32)
  | [], Q => some Q
  | o :: C, Q => (qm_op va o Q).bind (qm_ex va C)

theorem qm_ex_app (va : Nat → Int32) (C D : List (Int32 × Int32)) : ∀ Q, qm_ex va (C ++ D) Q = (qm_ex va C Q).bind (qm_ex va D) := by
  induction C with
  | nil => intro Q; rfl
  | cons o C ih =>
    intro Q
    show (qm_op va o Q).bind (qm_ex va (C ++ D)) = ((qm_op va o Q).bind (qm_ex va C)).bind (qm_ex va D)
    cases h : qm_op va o Q with
    | none => rfl
    | some Q' => exact ih Q'

theorem qm_cd_app (a b : qm_V) (d : Nat) : qm_cd (a ++ b) d = qm_cd a d ++ qm_cd b d := by
  unfold qm_cd; rw [List.filter_append, List.map_append]
theorem qm_cd_sh0 (a : qm_V) : qm_cd (qm_sh a) 0 = [] := by
  induction a with
  | nil => rfl
  | cons t a ih =>
    have e : qm_sh (t :: a) = [(t.1, t.2.1, t.2.2 + 1)] ++ qm_sh a := rfl
    rw [e, qm_cd_app, ih]
    simp [qm_cd]
theorem qm_cd_shs (a : qm_V) (d : Nat) : qm_cd (qm_sh a) (d + 1) = qm_cd a d := by
  induction a with
  | nil => rfl
  | cons t a ih =>
    have e : qm_sh (t :: a) = [(t.1, t.2.1, t.2.2 + 1)] ++ qm_sh a := rfl
    have e2 : t :: a = [t] ++ a := rfl
    rw [e, qm_cd_app, ih, e2, qm_cd_app]
    congr 1
    by_cases h : t.2.2 = d
    · simp [qm_cd, h]
    · simp [qm_cd, h]
theorem qm_cd_1 (k x : Int32) (n : Nat) : qm_cd [(k, x, n)] n = [(k, x)] := by simp [qm_cd]
theorem qm_cd_n (k x : Int32) {n d : Nat} (h : n ≠ d) : qm_cd [(k, x, n)] d = [] := by simp [qm_cd, h]

/-- the tree l has the value e -/
def qm_gd (va : Nat → Int32) (l : qm_V) (e : Int32) : Prop := ∃ vals : Nat → List Int32, vals 0 = [e] ∧ (∀ d Q, qm_ex va (qm_cd l d) (vals (d + 1) ++ Q) = some (Q ++ vals d)) ∧ (∀ d, (∀ t, t ∈ l → t.2.2 < d) → vals d = [])

theorem qm_gd_lf {va : Nat → Int32} {p : Int32 × Int32} (h : p.1 = 1 ∨ p.1 = 2) : qm_gd va (qm_lf p) (qm_ev va p) := by
  refine ⟨fun d => if d = 0 then [qm_ev va p] else [], rfl, ?_, ?_⟩
  · intro d Q
    by_cases hd : d = 0
    · subst hd
      dsimp only
      rw [if_neg (by omega), if_pos rfl]
      unfold qm_lf
      rw [qm_cd_1]
      show (qm_op va (p.1, p.2) ([] ++ Q)).bind (qm_ex va []) = _
      unfold qm_op
      rw [if_pos h]
      rfl
    · dsimp only
      rw [if_neg (by omega), if_neg hd]
      unfold qm_lf
      rw [qm_cd_n _ _ (by omega)]
      show some ([] ++ Q) = _
      simp
  · intro d hd
    have := hd (p.1, p.2, 0) (by simp [qm_lf])
    exact if_neg (by simp only at this; omega)

theorem qm_gd_ng {va : Nat → Int32} {l : qm_V} {e : Int32} (h : qm_gd va l e) : qm_gd va (qm_ng l) (-e) := by
  obtain ⟨vals, h0, h1, h2⟩ := h
  refine ⟨fun d => match d with | 0 => [-e] | d + 1 => vals d, rfl, ?_, ?_⟩
  · intro d Q
    cases d with
    | zero =>
      show qm_ex va (qm_cd (qm_sh l ++ [(8, 0, 0)]) 0) (vals 0 ++ Q) = some (Q ++ [-e])
      rw [qm_cd_app, qm_cd_sh0, qm_cd_1, h0]
      rfl
    | succ d =>
      show qm_ex va (qm_cd (qm_sh l ++ [(8, 0, 0)]) (d + 1)) (vals (d + 1) ++ Q) = some (Q ++ vals d)
      rw [qm_cd_app, qm_cd_shs, qm_cd_n _ _ (by omega), List.append_nil]
      exact h1 d Q
  · intro d hd
    cases d with
    | zero => exact absurd (hd (8, 0, 0) (by simp [qm_ng])) (by simp)
    | succ d =>
      refine h2 d (fun t ht => ?_)
      have := hd (t.1, t.2.1, t.2.2 + 1) (List.mem_append_left _ (List.mem_map_of_mem ht))
      simp only at this
      omega

theorem qm_gd_bn {va : Nat → Int32} {k : Int32} {l m : qm_V} {e f : Int32} (hk : 1 ≤ qm_rk k) (h : qm_gd va l e) (g : qm_gd va m f) : qm_gd va (qm_bn k l m) (qm_b k e f) := by
  obtain ⟨vals, h0, h1, h2⟩ := h
  obtain ⟨wals, g0, g1, g2⟩ := g
  have k1 : ¬ (k = 1 ∨ k = 2) := by
    intro z
    rcases z with z | z <;> rw [z] at hk <;> exact absurd hk (by decide)
  have k8 : ¬ k = 8 := by
    intro z; rw [z] at hk; exact absurd hk (by decide)
  refine ⟨fun d => match d with | 0 => [qm_b k e f] | d + 1 => vals d ++ wals d, rfl, ?_, ?_⟩
  · intro d Q
    cases d with
    | zero =>
      show qm_ex va (qm_cd (qm_sh l ++ (qm_sh m ++ [(k, 0, 0)])) 0) ((vals 0 ++ wals 0) ++ Q) = some (Q ++ [qm_b k e f])
      rw [qm_cd_app, qm_cd_sh0, qm_cd_app, qm_cd_sh0, qm_cd_1, h0, g0]
      show (qm_op va (k, 0) (e :: f :: Q)).bind (qm_ex va []) = _
      unfold qm_op
      rw [if_neg k1, if_neg k8]
      rfl
    | succ d =>
      show qm_ex va (qm_cd (qm_sh l ++ (qm_sh m ++ [(k, 0, 0)])) (d + 1)) ((vals (d + 1) ++ wals (d + 1)) ++ Q) = some (Q ++ (vals d ++ wals d))
      rw [qm_cd_app, qm_cd_shs, qm_cd_app, qm_cd_shs, qm_cd_n _ _ (by omega), List.append_nil, List.append_assoc, qm_ex_app, h1]
      show qm_ex va (qm_cd m d) (wals (d + 1) ++ Q ++ vals d) = _
      rw [List.append_assoc, g1, List.append_assoc]
  · intro d hd
    cases d with
    | zero => exact absurd (hd (k, 0, 0) (by simp [qm_bn])) (by simp)
    | succ d =>
      have a : vals d = [] := by
        refine h2 d (fun t ht => ?_)
        have := hd (t.1, t.2.1, t.2.2 + 1) (List.mem_append_left _ (List.mem_map_of_mem ht))
        simp only at this
        omega
      have b : wals d = [] := by
        refine g2 d (fun t ht => ?_)
        have := hd (t.1, t.2.1, t.2.2 + 1) (List.mem_append_right _ (List.mem_append_left _ (List.mem_map_of_mem ht)))
        simp only at this
        omega
      show vals d ++ wals d = []
      rw [a, b]; rfl

theorem qm_gd_all {va : Nat → Int32} {l : qm_V} {e : Int32} (h : qm_gd va l e) {D : Nat} (hD : ∀ t, t ∈ l → t.2.2 < D + 1) : qm_ex va (qm_cds l D) [] = some [e] := by
  obtain ⟨vals, h0, h1, h2⟩ := h
  have key : ∀ d, qm_ex va (qm_cds l d) (vals (d + 1)) = some [e] := by
    intro d
    induction d with
    | zero =>
      have := h1 0 []
      rw [List.append_nil] at this
      show qm_ex va (qm_cd l 0) (vals 1) = some [e]
      rw [this, h0]; rfl
    | succ d ih =>
      have := h1 (d + 1) []
      rw [List.append_nil] at this
      show qm_ex va (qm_cd l (d + 1) ++ qm_cds l d) (vals (d + 1 + 1)) = some [e]
      rw [qm_ex_app, this]
      exact ih
  have := key D
  rw [h2 (D + 1) hD] at this
  exact this

/-- no operation lengthens the queue by more than one -/
theorem qm_op_len {va : Nat → Int32} {o : Int32 × Int32} {Q Q' : List Int32} (h : qm_op va o Q = some Q') : Q'.length ≤ Q.length + 1 := by
  unfold qm_op at h
  split at h
  · cases h; simp
  · split at h
    · split at h
      · cases h
      · cases h; simp
    · split at h
      · cases h; simp
      · cases h

/-! code in the arrays -/
def qm_cm (op arg : Nat → Int32) : Nat → List (Int32 × Int32) → Prop
  | _, [] => True
  | c, o :: C => op c = o.1 ∧ (o.1 = 1 ∨ o.1 = 2 → arg c = o.2) ∧ qm_cm op arg (c + 1) C
theorem qm_cm_app {op arg : Nat → Int32} {D : List (Int32 × Int32)} : ∀ {C : List (Int32 × Int32)} {c : Nat}, qm_cm op arg c C → qm_cm op arg (c + C.length) D → qm_cm op arg c (C ++ D)
  | [], c, _, h => by simpa using h
  | o :: C, c, h, g => ⟨h.1, h.2.1, qm_cm_app h.2.2 (by
      have e : c + (o :: C).length = c + 1 + C.length := by simp only [List.length_cons]; omega
      rw [e] at g; exact g)⟩
theorem qm_cm_keep {op arg op' arg' : Nat → Int32} : ∀ {C : List (Int32 × Int32)} {c : Nat}, qm_cm op arg c C → (∀ j, c ≤ j → j < c + C.length → op' j = op j ∧ (op j = 1 ∨ op j = 2 → arg' j = arg j)) → qm_cm op' arg' c C
  | [], _, _, _ => trivial
  | o :: C, c, h, g => by
      have g0 := g c (Nat.le_refl c) (by simp only [List.length_cons]; omega)
      refine ⟨by rw [g0.1]; exact h.1, fun z => ?_, qm_cm_keep h.2.2 (fun j a b => g j (by omega) (by simp only [List.length_cons]; omega))⟩
      rw [g0.2 (by rw [h.1]; exact z)]
      exact h.2.1 z
end
section
/-! the machine over ints; replacing some members by their value keeps what it answers -/
def qm_R (K P : Nat → Int32) (i : Nat) : Bool × List Int32 × List Int32 := qm_run (fun x => -x) qm_b K P i
def qm_F (s : Bool × List Int32 × List Int32) : List Int32 := qm_fin (fun x => -x) qm_b s
def qm_S (s : Bool × List Int32 × List Int32) (c x : Int32) : Bool × List Int32 × List Int32 := qm_st (fun x => -x) qm_b s c x
def qm_T (l : Nat) (vs ws : List Int32) : List Int32 × List Int32 := qm_to (fun x => -x) qm_b l vs ws
def qm_C (vs ws : List Int32) : List Int32 × List Int32 := qm_fac (fun x => -x) qm_b vs ws
def qm_io (c : Int32) : Prop := 1 ≤ qm_rk (qm_oc c)
theorem qm_R_s (K P : Nat → Int32) (i : Nat) : qm_R K P (i + 1) = qm_S (qm_R K P i) (K i) (P i) := rfl
theorem qm_S_v (s : Bool × List Int32 × List Int32) (x : Int32) : qm_S s 118 x = (false, qm_C (x :: s.2.1) s.2.2) := rfl
theorem qm_S_o (s : Bool × List Int32 × List Int32) (x : Int32) : qm_S s 40 x = (true, s.2.1, 9 :: s.2.2) := rfl
theorem qm_S_c (s : Bool × List Int32 × List Int32) (x : Int32) : qm_S s 41 x = (false, qm_C (qm_T 1 s.2.1 s.2.2).1 (qm_T 1 s.2.1 s.2.2).2.tail) := rfl
theorem qm_S_n {s : Bool × List Int32 × List Int32} {c : Int32} (x : Int32) (h1 : c ≠ 118) (h2 : c ≠ 40) (h3 : c ≠ 41) (h : s.1 = true) : qm_S s c x = (true, s.2.1, 8 :: s.2.2) := by
  unfold qm_S qm_st; rw [if_neg h1, if_neg h2, if_neg h3, if_pos h]
theorem qm_S_b {s : Bool × List Int32 × List Int32} {c : Int32} (x : Int32) (h1 : c ≠ 118) (h2 : c ≠ 40) (h3 : c ≠ 41) (h : s.1 = false) : qm_S s c x = (true, (qm_T (qm_rk (qm_oc c)) s.2.1 s.2.2).1, qm_oc c :: (qm_T (qm_rk (qm_oc c)) s.2.1 s.2.2).2) := by
  unfold qm_S qm_st; rw [if_neg h1, if_neg h2, if_neg h3, if_neg (by rw [h]; decide)]; rfl
theorem qm_io_n {c : Int32} (h : qm_io c) : c ≠ 118 ∧ c ≠ 40 ∧ c ≠ 41 := by
  unfold qm_io at h
  refine ⟨?_, ?_, ?_⟩ <;> intro z <;> rw [z] at h <;> exact absurd h (by decide)
theorem qm_C_nil (vs : List Int32) : qm_C vs [] = (vs, []) := rfl
theorem qm_C_8 (x : Int32) (vs ws : List Int32) : qm_C (x :: vs) (8 :: ws) = qm_C (-x :: vs) ws := by
  cases vs <;> rfl
theorem qm_C_n {w : Int32} (vs ws : List Int32) (h : w ≠ 8) : qm_C vs (w :: ws) = (vs, w :: ws) := by
  unfold qm_C qm_fac; rw [if_neg h]
theorem qm_T_n {w : Int32} {l : Nat} (vs ws : List Int32) (h : qm_rk w < l) : qm_T l vs (w :: ws) = (vs, w :: ws) := by
  unfold qm_T qm_to; rw [if_neg (by omega)]
theorem qm_T_nil (l : Nat) (vs : List Int32) : qm_T l vs [] = (vs, []) := rfl
theorem qm_T_b {w : Int32} {l : Nat} (x y : Int32) (vs ws : List Int32) (h : l ≤ qm_rk w) (h8 : w ≠ 8) : qm_T l (y :: x :: vs) (w :: ws) = qm_T l (qm_b w x y :: vs) ws := by
  unfold qm_T; rw [qm_to, if_pos h, qm_red, if_neg h8]

/-- which of the two kinds of members is due, by the member before -/
theorem qm_R_e (K P : Nat → Int32) (i : Nat) : (qm_R K P (i + 1)).1 = true ↔ K i ≠ 118 ∧ K i ≠ 41 := by
  rw [qm_R_s]
  unfold qm_S qm_st
  by_cases h1 : K i = 118
  · rw [if_pos h1]; constructor
    · intro z; exact absurd z (by simp)
    · intro z; exact absurd h1 z.1
  · rw [if_neg h1]
    by_cases h2 : K i = 40
    · rw [if_pos h2]; exact ⟨fun _ => ⟨h1, by rw [h2]; decide⟩, fun _ => rfl⟩
    · rw [if_neg h2]
      by_cases h3 : K i = 41
      · rw [if_pos h3]; constructor
        · intro z; exact absurd z (by simp)
        · intro z; exact absurd h3 z.2
      · rw [if_neg h3]
        by_cases h4 : (qm_R K P i).1 = true
        · rw [if_pos h4]; exact ⟨fun _ => ⟨h1, h3⟩, fun _ => rfl⟩
        · rw [if_neg h4]; exact ⟨fun _ => ⟨h1, h3⟩, fun _ => rfl⟩
theorem qm_R_f {K P : Nat → Int32} {i : Nat} (h : K i = 118) : (qm_R K P (i + 1)).1 = false := by
  have := qm_R_e K P i
  cases z : (qm_R K P (i + 1)).1 with
  | false => rfl
  | true => exact absurd h (this.mp z).1

/-- K', P' are K, P (n members) with the w members from a on replaced by the one value v -/
def qm_rp (K P K' P' : Nat → Int32) (a w n : Nat) (v : Int32) : Prop := (∀ j, j < a → K' j = K j ∧ P' j = P j) ∧ K' a = 118 ∧ P' a = v ∧ (∀ j, a + w ≤ j → j < n → K' (j + 1 - w) = K j ∧ P' (j + 1 - w) = P j)

theorem qm_tail {K P K' P' : Nat → Int32} {a b : Nat} (h0 : qm_R K' P' a = qm_R K P b) : ∀ m, (∀ j, j < m → K' (a + j) = K (b + j) ∧ P' (a + j) = P (b + j)) → qm_R K' P' (a + m) = qm_R K P (b + m) := by
  intro m
  induction m with
  | zero => intro _; exact h0
  | succ m ih =>
    intro h
    rw [← Nat.add_assoc, ← Nat.add_assoc, qm_R_s, qm_R_s, ih (fun j hj => h j (by omega)), (h m (by omega)).1, (h m (by omega)).2]

theorem qm_rp_pre {K P K' P' : Nat → Int32} {a w n : Nat} {v : Int32} (h : qm_rp K P K' P' a w n v) : qm_R K' P' a = qm_R K P a := qm_run_congr a (fun j hj => h.1 j hj)

theorem qm_rp_post {K P K' P' : Nat → Int32} {a w n : Nat} {v : Int32} (h : qm_rp K P K' P' a w n v) (hw : 1 ≤ w) (hn : a + w ≤ n) (h0 : qm_R K' P' (a + 1) = qm_R K P (a + w)) : qm_R K' P' (n + 1 - w) = qm_R K P n := by
  have := qm_tail h0 (n - (a + w)) (fun j hj => by
    have := h.2.2.2 (a + w + j) (by omega) (by omega)
    rw [show a + w + j + 1 - w = a + 1 + j from by omega] at this
    exact this)
  rw [show a + 1 + (n - (a + w)) = n + 1 - w from by omega, show a + w + (n - (a + w)) = n from by omega] at this
  exact this

theorem qm_rw_neg {K P K' P' : Nat → Int32} {a n : Nat} {v : Int32} (h : qm_rp K P K' P' a 2 n v) (hn : a + 2 ≤ n) (hv : v = -P (a + 1)) (k0 : K a = 45) (k1 : K (a + 1) = 118) (he : (qm_R K P a).1 = true) : qm_R K' P' (n + 1 - 2) = qm_R K P n := by
  refine qm_rp_post h (by omega) hn ?_
  rw [qm_R_s, qm_rp_pre h, h.2.1, h.2.2.1, show a + 2 = a + 1 + 1 from rfl, qm_R_s K P (a + 1), qm_R_s K P a, k0, k1, qm_S_n (c := 45) _ (by decide) (by decide) (by decide) he, qm_S_v, qm_S_v]
  show _ = (false, qm_C (P (a + 1) :: (qm_R K P a).2.1) (8 :: (qm_R K P a).2.2))
  rw [qm_C_8, hv]

theorem qm_rw_br {K P K' P' : Nat → Int32} {a n : Nat} {v : Int32} (h : qm_rp K P K' P' a 3 n v) (hn : a + 3 ≤ n) (hv : v = P (a + 1)) (k0 : K a = 40) (k1 : K (a + 1) = 118) (k2 : K (a + 2) = 41) : qm_R K' P' (n + 1 - 3) = qm_R K P n := by
  refine qm_rp_post h (by omega) hn ?_
  rw [qm_R_s, qm_rp_pre h, h.2.1, h.2.2.1, show a + 3 = a + 1 + 1 + 1 from rfl, qm_R_s K P (a + 1 + 1), qm_R_s K P (a + 1), qm_R_s K P a, k0, k1, show K (a + 1 + 1) = 41 from k2, qm_S_o, qm_S_v, qm_S_v, qm_S_c]
  show _ = (false, qm_C (qm_T 1 (qm_C (P (a + 1) :: (qm_R K P a).2.1) (9 :: (qm_R K P a).2.2)).1 (qm_C (P (a + 1) :: (qm_R K P a).2.1) (9 :: (qm_R K P a).2.2)).2).1 (qm_T 1 (qm_C (P (a + 1) :: (qm_R K P a).2.1) (9 :: (qm_R K P a).2.2)).1 (qm_C (P (a + 1) :: (qm_R K P a).2.1) (9 :: (qm_R K P a).2.2)).2).2.tail)
  rw [qm_C_n _ _ (by decide), qm_T_n _ _ (by decide), hv]
  rfl

/-- what stands on top of the waiting operators is none, or neither a negation nor of rank r or more -/
def qm_low (r : Nat) (ws : List Int32) : Prop := ws = [] ∨ ∃ w t, ws = w :: t ∧ w ≠ 8 ∧ qm_rk w < r

theorem qm_low_C {r : Nat} {ws : List Int32} (h : qm_low r ws) (vs : List Int32) : qm_C vs ws = (vs, ws) := by
  rcases h with rfl | ⟨w, t, rfl, h8, _⟩
  · rfl
  · exact qm_C_n _ _ h8
theorem qm_low_T {r : Nat} {ws : List Int32} (h : qm_low r ws) (vs : List Int32) : qm_T r vs ws = (vs, ws) := by
  rcases h with rfl | ⟨w, t, rfl, _, hr⟩
  · rfl
  · exact qm_T_n _ _ hr

/-- behind the right operand of c the machine stands as behind the value, but for the reduction that whatever follows carries out -/
theorem qm_rw_bin {K P K' P' : Nat → Int32} {a n : Nat} {v : Int32} (h : qm_rp K P K' P' a 3 n v) (hn : a + 3 ≤ n) (k0 : K a = 118) (k1 : qm_io (K (a + 1))) (k2 : K (a + 2) = 118) (hv : v = qm_b (qm_oc (K (a + 1))) (P a) (P (a + 2))) (hl : qm_low (qm_rk (qm_oc (K (a + 1)))) (qm_R K P a).2.2)
    (hx : n = a + 3 ∨ (a + 3 < n ∧ (K (a + 3) = 41 ∨ (qm_io (K (a + 3)) ∧ qm_rk (qm_oc (K (a + 3))) ≤ qm_rk (qm_oc (K (a + 1))))))) : qm_F (qm_R K' P' (n + 1 - 3)) = qm_F (qm_R K P n) := by
  obtain ⟨n118, n40, n41⟩ := qm_io_n k1
  have k8 : qm_oc (K (a + 1)) ≠ 8 := by
    intro z; unfold qm_io at k1; rw [z] at k1; exact absurd k1 (by decide)
  have A : qm_R K P (a + 3) = (false, P (a + 2) :: P a :: (qm_R K P a).2.1, qm_oc (K (a + 1)) :: (qm_R K P a).2.2) := by
    have A1 : qm_R K P (a + 1) = (false, P a :: (qm_R K P a).2.1, (qm_R K P a).2.2) := by
      rw [qm_R_s K P a, k0, qm_S_v, qm_low_C hl]
    have A2 : qm_R K P (a + 1 + 1) = (true, P a :: (qm_R K P a).2.1, qm_oc (K (a + 1)) :: (qm_R K P a).2.2) := by
      rw [qm_R_s K P (a + 1), A1, qm_S_b _ n118 n40 n41 rfl]
      dsimp only
      rw [qm_low_T hl]
    rw [show a + 3 = a + 1 + 1 + 1 from rfl, qm_R_s K P (a + 1 + 1), A2, show K (a + 1 + 1) = 118 from k2, qm_S_v]
    dsimp only
    rw [qm_C_n _ _ k8]
  have B : qm_R K' P' (a + 1) = (false, v :: (qm_R K P a).2.1, (qm_R K P a).2.2) := by
    rw [qm_R_s, qm_rp_pre h, h.2.1, h.2.2.1, qm_S_v, qm_low_C hl]
  have E : ∀ l, l ≤ qm_rk (qm_oc (K (a + 1))) → qm_T l (P (a + 2) :: P a :: (qm_R K P a).2.1) (qm_oc (K (a + 1)) :: (qm_R K P a).2.2) = qm_T l (v :: (qm_R K P a).2.1) (qm_R K P a).2.2 := by
    intro l hl'
    rw [qm_T_b _ _ _ _ hl' k8, hv]
  rcases hx with hx | ⟨hx, hx2⟩
  · subst hx
    rw [show a + 3 + 1 - 3 = a + 1 from by omega, A, B]
    show (qm_T 1 _ _).1 = (qm_T 1 _ _).1
    rw [E 1 k1]
  · have e1 := h.2.2.2 (a + 3) (by omega) hx
    rw [show a + 3 + 1 - 3 = a + 1 from by omega] at e1
    have h0 : qm_R K' P' (a + 1 + 1) = qm_R K P (a + 3 + 1) := by
      rw [qm_R_s K' P' (a + 1), qm_R_s K P (a + 3), e1.1, e1.2, A, B]
      rcases hx2 with z | ⟨z, z2⟩
      · rw [z, qm_S_c, qm_S_c]
        show (false, qm_C (qm_T 1 _ _).1 (qm_T 1 _ _).2.tail) = (false, qm_C (qm_T 1 _ _).1 (qm_T 1 _ _).2.tail)
        rw [E 1 k1]
      · obtain ⟨m118, m40, m41⟩ := qm_io_n z
        rw [qm_S_b _ m118 m40 m41 rfl, qm_S_b _ m118 m40 m41 rfl]
        show (true, (qm_T _ _ _).1, _ :: (qm_T _ _ _).2) = (true, (qm_T _ _ _).1, _ :: (qm_T _ _ _).2)
        rw [E _ z2]
    have := qm_tail h0 (n - (a + 4)) (fun j hj => by
      have := h.2.2.2 (a + 4 + j) (by omega) (by omega)
      rw [show a + 4 + j + 1 - 3 = a + 1 + 1 + j from by omega] at this
      exact this)
    rw [show a + 1 + 1 + (n - (a + 4)) = n + 1 - 3 from by omega, show a + 3 + 1 + (n - (a + 4)) = n from by omega] at this
    rw [this]

/-! members without brackets -/
/-- the sum from lo on begins anew here: at the start or behind an opening bracket -/
theorem qm_low_start {K P : Nat → Int32} {lo : Nat} (h : lo = 0 ∨ K (lo - 1) = 40) {r : Nat} (hr : 1 ≤ r) : qm_low r (qm_R K P lo).2.2 := by
  by_cases z : lo = 0
  · subst z; exact Or.inl rfl
  · have h := h.resolve_left z
    obtain ⟨i, rfl⟩ : ∃ i, lo = i + 1 := ⟨lo - 1, by omega⟩
    rw [Nat.add_sub_cancel] at h
    rw [qm_R_s, h, qm_S_o]
    exact Or.inr ⟨9, _, rfl, by decide, hr⟩
theorem qm_start_e {K P : Nat → Int32} {lo : Nat} (h : lo = 0 ∨ K (lo - 1) = 40) : (qm_R K P lo).1 = true := by
  by_cases z : lo = 0
  · subst z; rfl
  · have h := h.resolve_left z
    obtain ⟨i, rfl⟩ : ∃ i, lo = i + 1 := ⟨lo - 1, by omega⟩
    rw [Nat.add_sub_cancel] at h
    rw [qm_R_s, h, qm_S_o]
/-- behind an operator of rank 1 -/
theorem qm_low_op {K P : Nat → Int32} {i : Nat} (h0 : K i = 118) (h1 : qm_rk (qm_oc (K (i + 1))) = 1) : qm_low 2 (qm_R K P (i + 2)).2.2 := by
  obtain ⟨n118, n40, n41⟩ := qm_io_n (c := K (i + 1)) (by unfold qm_io; omega)
  rw [show i + 2 = i + 1 + 1 from rfl, qm_R_s K P (i + 1), qm_S_b _ n118 n40 n41 (qm_R_f h0)]
  refine Or.inr ⟨_, _, rfl, ?_, by omega⟩
  intro z; rw [z] at h1; exact absurd h1 (by decide)
end
section
/-! the reference works out a sum: replace, flat -/
section
variable {f_size f_end f_good : Int32} {a_source a_text a_vars a_begins a_times : Nat → Int32}
def qm_ck (K : Nat → Int32) (n : Nat) : Prop := ∀ j, j < n → vp_nar .char (K j) = K j
theorem qm_nar118 : vp_nar .char 118 = 118 := by rw [vp_nar_char]; decide

theorem qy_rep_l {post : SY → Prop} {K P : Nat → Int32} {a w n : Nat} {v : Int32} (hw : 2 ≤ w) (h80 : n ≤ 80) (hc : qm_ck K n)
    (hp : ∀ K' P', qm_rp K P K' P' a w n v → qm_ck K' (n + 1 - w) → post (f_size, f_end, f_good, nI (n + 1 - w), a_source, a_text, a_vars, K', P', a_begins, a_times)) :
    ∀ fuel x Kc Pc, n - x < fuel → a + w ≤ x → x ≤ n → (∀ j, j < a → Kc j = K j ∧ Pc j = P j) → Kc a = 118 → Pc a = v → (∀ j, a + w ≤ j → j < x → Kc (j + 1 - w) = K j ∧ Pc (j + 1 - w) = P j) → (∀ j, x ≤ j → j < n → Kc j = K j ∧ Pc j = P j) →
    wY_replace_20 post (nI w) f_size f_end f_good (nI n) fuel (nI x) a_source a_text a_vars Kc Pc a_begins a_times := by
  intro fuel
  induction fuel with
  | zero => intro x Kc Pc h; omega
  | succ fuel ih =>
    intro x Kc Pc hf h1 h2 i1 i2 i3 i4 i5
    by_cases hx : x = n
    · subst hx
      refine br_t (nI_le (Nat.le_refl _) (by omega)) (nm_r (e' := nI (x + 1 - w)) ?_ ?_)
      · rw [pk_sub (by omega), nI_1]; exact congrArg nI (by omega)
      · refine hp Kc Pc ⟨i1, i2, i3, i4⟩ ?_
        intro j hj
        by_cases ha : j < a
        · rw [(i1 j ha).1]; exact hc j (by omega)
        · by_cases hb : j = a
          · rw [hb, i2]; exact qm_nar118
          · have := (i4 (j + w - 1) (by omega) (by omega)).1
            rw [show j + w - 1 + 1 - w = j from by omega] at this
            rw [this]; exact hc _ (by omega)
    · have e : nI x - nI w + 1 = nI (x + 1 - w) := by rw [pk_sub (by omega), nI_1]; exact congrArg nI (by omega)
      refine br_f (nI_ge (by omega) (by omega)) ?_
      rw [e, nI_clamp (show x < 2 ^ 31 by omega), nI_clamp (show x + 1 - w < 2 ^ 31 by omega)]
      have v1 : vp_in (nI x) 80 := vp_in_nI (by omega) (by omega)
      have v2 : vp_in (nI (x + 1 - w)) 80 := vp_in_nI (by omega) (by omega)
      refine ⟨v1, v2, nm_e ⟨v1, v2, nm_e (nm_r (nI_1 x) ?_)⟩⟩
      refine ih (x + 1) _ _ (by omega) (by omega) (by omega) ?_ ?_ ?_ ?_ ?_
      · intro j hj
        rw [pk_un (by omega), pk_un (by omega)]; exact i1 j hj
      · rw [pk_un (by omega)]; exact i2
      · rw [pk_un (by omega)]; exact i3
      · intro j hj hj2
        by_cases z : j = x
        · subst z
          rw [pk_us, pk_us, (i5 j (by omega) (by omega)).1, (i5 j (by omega) (by omega)).2]
          exact ⟨hc j (by omega), rfl⟩
        · rw [pk_un (by omega), pk_un (by omega)]; exact i4 j hj (by omega)
      · intro j hj hj2
        rw [pk_un (by omega), pk_un (by omega)]; exact i5 j (by omega) hj2

theorem qy_replace {post : SY → Prop} {K P : Nat → Int32} {a w n : Nat} {v : Int32} (hw : 2 ≤ w) (hn : a + w ≤ n) (h80 : n ≤ 80) (hc : qm_ck K n)
    (hp : ∀ K' P', qm_rp K P K' P' a w n v → qm_ck K' (n + 1 - w) → post (f_size, f_end, f_good, nI (n + 1 - w), a_source, a_text, a_vars, K', P', a_begins, a_times)) :
    wpY_replace post (f_size, f_end, f_good, nI n, a_source, a_text, a_vars, K, P, a_begins, a_times) (nI a) (nI w) v := by
  unfold wpY_replace
  dsimp only
  rw [nI_clamp (show a < 2 ^ 31 by omega), qm_nar118]
  have v1 : vp_in (nI a) 80 := vp_in_nI (by omega) (by omega)
  refine ⟨v1, nm_e ⟨v1, nm_e (nm_r (nI_add a w) ⟨n + 1, ?_⟩)⟩⟩
  refine qy_rep_l hw h80 hc hp (n + 1) (a + w) _ _ (by omega) (by omega) hn ?_ ?_ ?_ ?_ ?_
  · intro j hj; rw [pk_un (by omega), pk_un (by omega)]; exact ⟨rfl, rfl⟩
  · exact pk_us
  · exact pk_us
  · intro j h1 h2; omega
  · intro j h1 h2; rw [pk_un (by omega), pk_un (by omega)]; exact ⟨rfl, rfl⟩

/-- K, P (n members) are K0, P0 (n0 members) with what stood from lo to hi - 1 worked out as far as what stands from lo to last - 1 -/
def qm_fi (K0 P0 : Nat → Int32) (lo hi n0 : Nat) (K P : Nat → Int32) (n last : Nat) : Prop :=
  n ≤ 80 ∧ n + hi = n0 + last ∧ last ≤ n ∧ (∀ j, j < lo → K j = K0 j ∧ P j = P0 j) ∧ (∀ m, hi + m < n0 → K (last + m) = K0 (hi + m) ∧ P (last + m) = P0 (hi + m)) ∧ qm_F (qm_R K P n) = qm_F (qm_R K0 P0 n0) ∧ qm_ck K n
theorem qm_fi_rp {K0 P0 K P K' P' : Nat → Int32} {lo hi n0 n last a w : Nat} {v : Int32} (h : qm_fi K0 P0 lo hi n0 K P n last) (r : qm_rp K P K' P' a w n v) (h1 : lo ≤ a) (h2 : a + w ≤ last) (h3 : 1 ≤ w) (hv : qm_F (qm_R K' P' (n + 1 - w)) = qm_F (qm_R K P n)) (hk : qm_ck K' (n + 1 - w)) : qm_fi K0 P0 lo hi n0 K' P' (n + 1 - w) (last + 1 - w) := by
  obtain ⟨a1, a2, a3, a4, a5, a6, a7⟩ := h
  refine ⟨by omega, by omega, by omega, ?_, ?_, hv.trans a6, hk⟩
  · intro j hj
    rw [(r.1 j (by omega)).1, (r.1 j (by omega)).2]; exact a4 j hj
  · intro m hm
    have := r.2.2.2 (last + m) (by omega) (by omega)
    rw [show last + m + 1 - w = last + 1 - w + m from by omega] at this
    rw [this.1, this.2]; exact a5 m hm

/-- value, operator, value, ..: r operators -/
def qm_al (K : Nat → Int32) (lo r : Nat) : Prop := (∀ m, m ≤ r → K (lo + 2 * m) = 118) ∧ (∀ m, m < r → qm_io (K (lo + 2 * m + 1)))
theorem qm_al_rp {K P K' P' : Nat → Int32} {lo r n m : Nat} {v : Int32} (h : qm_al K lo r) (hm : m < r) (hn : lo + 2 * r + 1 ≤ n) (p : qm_rp K P K' P' (lo + 2 * m) 3 n v) : qm_al K' lo (r - 1) ∧ (∀ i, i < m → K' (lo + 2 * i + 1) = K (lo + 2 * i + 1)) ∧ (∀ i, m ≤ i → i < r - 1 → K' (lo + 2 * i + 1) = K (lo + 2 * (i + 1) + 1)) := by
  have A : ∀ i, i < m → K' (lo + 2 * i + 1) = K (lo + 2 * i + 1) := fun i hi => (p.1 _ (by omega)).1
  have B : ∀ i, m ≤ i → i < r - 1 → K' (lo + 2 * i + 1) = K (lo + 2 * (i + 1) + 1) := by
    intro i h1 h2
    have := (p.2.2.2 (lo + 2 * (i + 1) + 1) (by omega) (by omega)).1
    rw [show lo + 2 * (i + 1) + 1 + 1 - 3 = lo + 2 * i + 1 from by omega] at this
    exact this
  refine ⟨⟨?_, ?_⟩, A, B⟩
  · intro i hi
    by_cases z : i < m
    · rw [(p.1 _ (by omega)).1]; exact h.1 i (by omega)
    · by_cases z2 : i = m
      · rw [z2]; exact p.2.1
      · have := (p.2.2.2 (lo + 2 * (i + 1)) (by omega) (by omega)).1
        rw [show lo + 2 * (i + 1) + 1 - 3 = lo + 2 * i from by omega] at this
        rw [this]; exact h.1 (i + 1) (by omega)
  · intro i hi
    by_cases z : i < m
    · rw [A i z]; exact h.2 i (by omega)
    · rw [B i (by omega) hi]; exact h.2 (i + 1) (by omega)

theorem qm_op1 {c : Int32} (h : qm_rk (qm_oc c) = 1) : (c = 43 ∧ qm_oc c = 3) ∨ (c ≠ 43 ∧ qm_oc c = 4) := by
  by_cases h1 : c = 43
  · exact Or.inl ⟨h1, by rw [h1]; decide⟩
  · refine Or.inr ⟨h1, ?_⟩
    unfold qm_oc at h ⊢
    rw [if_neg h1] at h ⊢
    by_cases h2 : c = 45
    · rw [if_pos h2]
    · rw [if_neg h2] at h
      exfalso
      by_cases h3 : c = 42
      · rw [if_pos h3] at h; exact absurd h (by decide)
      · rw [if_neg h3] at h
        by_cases h4 : c = 60
        · rw [if_pos h4] at h; exact absurd h (by decide)
        · rw [if_neg h4] at h
          by_cases h5 : c = 38
          · rw [if_pos h5] at h; exact absurd h (by decide)
          · rw [if_neg h5] at h; exact absurd h (by decide)
theorem qm_op2 {c : Int32} (h : qm_io c) : (qm_rk (qm_oc c) = 1 ∧ c ≠ 42 ∧ c ≠ 60 ∧ c ≠ 38) ∨ (qm_rk (qm_oc c) = 2 ∧ ((c = 42 ∧ qm_oc c = 5) ∨ (c = 60 ∧ qm_oc c = 6) ∨ (c = 38 ∧ qm_oc c = 7))) := by
  unfold qm_io at h
  by_cases h3 : c = 42
  · subst h3; exact Or.inr ⟨by decide, Or.inl ⟨rfl, by decide⟩⟩
  · by_cases h4 : c = 60
    · subst h4; exact Or.inr ⟨by decide, Or.inr (Or.inl ⟨rfl, by decide⟩)⟩
    · by_cases h5 : c = 38
      · subst h5; exact Or.inr ⟨by decide, Or.inr (Or.inr ⟨rfl, by decide⟩)⟩
      · refine Or.inl ⟨?_, h3, h4, h5⟩
        unfold qm_oc at h ⊢
        rw [if_neg h3, if_neg h4, if_neg h5] at h ⊢
        by_cases h1 : c = 43
        · rw [if_pos h1]; decide
        · rw [if_neg h1] at h ⊢
          by_cases h2 : c = 45
          · rw [if_pos h2]; decide
          · rw [if_neg h2] at h; exact absurd h (by decide)
theorem qm_rk2 (w : Int32) : qm_rk w ≤ 2 := by unfold qm_rk; (repeat' split) <;> omega

/-- the third pass: sums from the left -/
theorem qy_flat3 {post : SY → Prop} {K0 P0 : Nat → Int32} {lo hi n0 : Nat} (hs : lo = 0 ∨ K0 (lo - 1) = 40) (he : hi = n0 ∨ (hi < n0 ∧ K0 hi = 41)) (hi80 : hi ≤ 80)
    (hp : ∀ K P n, qm_fi K0 P0 lo hi n0 K P n (lo + 1) → K lo = 118 → post (f_size, f_end, f_good, nI n, a_source, a_text, a_vars, K, P, a_begins, a_times)) :
    ∀ fuel k r n K P, hi - k < fuel → k ≤ hi → lo + 2 * r + 1 ≤ hi → r ≤ hi - k → qm_fi K0 P0 lo hi n0 K P n (lo + 2 * r + 1) → qm_al K lo r → (∀ m, m < r → qm_rk (qm_oc (K (lo + 2 * m + 1))) = 1) →
    wY_flat_244 post (nI lo) (nI hi) fuel (nI (lo + 2 * r + 1)) (nI k) f_size f_end f_good (nI n) a_source a_text a_vars K P a_begins a_times := by
  intro fuel
  induction fuel with
  | zero => intro k r n K P h; omega
  | succ fuel ih =>
    intro k r n K P hf hk hrh hrk I A O
    have I' := I
    obtain ⟨a1, a2, a3, a4, a5, a6, a7⟩ := I'
    by_cases hkk : k = hi
    · subst hkk
      obtain rfl : r = 0 := by omega
      exact br_t (nI_le (Nat.le_refl _) (by omega)) (hp K P n I (A.1 0 (Nat.le_refl 0)))
    · refine br_f (nI_ge (by omega) (by omega)) ?_
      by_cases hr : r = 0
      · subst hr
        refine br_t (by rw [nI_1]; exact nI_le (by omega) (by omega)) (nm_r (nI_1 k) ?_)
        exact ih (k + 1) 0 n K P (by omega) (by omega) hrh (by omega) I A O
      · refine br_f (by rw [nI_1]; exact nI_ge (by omega) (by omega)) ?_
        rw [nI_1, show nI lo + 2 = nI (lo + 2) from nI_add lo 2, nI_clamp (show lo < 2 ^ 31 by omega), nI_clamp (show lo + 1 < 2 ^ 31 by omega), nI_clamp (show lo + 2 < 2 ^ 31 by omega)]
        have ho := O 0 (by omega)
        have hlow : qm_low 1 (qm_R K P lo).2.2 := qm_low_start (by
          rcases hs with z | z
          · exact Or.inl z
          · by_cases z0 : lo = 0
            · exact Or.inl z0
            · exact Or.inr (by rw [(a4 (lo - 1) (by omega)).1]; exact z)) (Nat.le_refl 1)
        have go : ∀ v, v = qm_b (qm_oc (K (lo + 1))) (P lo) (P (lo + 2)) → wY_flat_304 post (wY_flat_244 post (nI lo) (nI hi) fuel) (nI lo) (nI hi) (nI (lo + 2 * r + 1)) (nI k) v 3 (nI lo) f_size f_end f_good (nI n) a_source a_text a_vars K P a_begins a_times := by
          intro v hv
          unfold wY_flat_304
          refine qy_replace (w := 3) (by omega) (by omega) a1 a7 (fun K' P' p ck => ?_)
          dsimp only
          refine nm_r (e' := nI (lo + 2 * (r - 1) + 1)) ?_ (nm_r (nI_1 k) ?_)
          · rw [show (2 : Int32) = nI 2 from rfl, pk_sub (by omega)]; exact congrArg nI (by omega)
          · have ap := qm_al_rp (m := 0) A (by omega) a3 p
            have V : qm_F (qm_R K' P' (n + 1 - 3)) = qm_F (qm_R K P n) := by
              refine qm_rw_bin p (by omega) (A.1 0 (by omega)) (A.2 0 (by omega)) (A.1 1 (by omega)) hv (by rw [show lo + 1 = lo + 2 * 0 + 1 from rfl, ho]; exact hlow) ?_
              by_cases z : r = 1
              · subst z
                by_cases z2 : n = lo + 3
                · exact Or.inl z2
                · have e0 : hi < n0 := by omega
                  refine Or.inr ⟨by omega, Or.inl ?_⟩
                  have := (a5 0 (by omega)).1
                  rw [show lo + 3 = lo + 2 * 1 + 1 + 0 from by omega, this]
                  rcases he with z3 | z3
                  · omega
                  · exact z3.2
              · refine Or.inr ⟨by omega, Or.inr ⟨A.2 1 (by omega), ?_⟩⟩
                rw [show lo + 3 = lo + 2 * 1 + 1 from rfl, O 1 (by omega), show lo + 1 = lo + 2 * 0 + 1 from rfl, ho]
                exact Nat.le_refl 1
            have I2 := qm_fi_rp I p (Nat.le_refl lo) (by omega) (by omega) V ck
            rw [show lo + 2 * r + 1 + 1 - 3 = lo + 2 * (r - 1) + 1 from by omega] at I2
            refine ih (k + 1) (r - 1) (n + 1 - 3) K' P' (by omega) (by omega) (by omega) (by omega) I2 ap.1 ?_
            intro m hm
            rw [ap.2.2 m (by omega) hm]; exact O (m + 1) (by omega)
        refine ⟨vp_in_nI (by omega) (by omega), nm_e ⟨vp_in_nI (by omega) (by omega), nm_e ⟨vp_in_nI (by omega) (by omega), ?_⟩⟩⟩
        rcases qm_op1 ho with ⟨z, z2⟩ | ⟨z, z2⟩
        · exact br_t z (go _ (by rw [show lo + 1 = lo + 2 * 0 + 1 from rfl, z2]; rfl))
        · exact br_f z (go _ (by rw [show lo + 1 = lo + 2 * 0 + 1 from rfl, z2]; rfl))
end
end
section
section
variable {f_size f_end f_good : Int32} {a_source a_text a_vars a_begins a_times : Nat → Int32}
theorem qm_b6 (x y : Int32) : qm_b 6 x y = if y ≤ x then 0 else 1 := rfl
/-- the second pass: products, comparisons, ands from the left -/
theorem qy_flat2 {post : SY → Prop} {K0 P0 : Nat → Int32} {lo hi n0 : Nat} (hs : lo = 0 ∨ K0 (lo - 1) = 40) (he : hi = n0 ∨ (hi < n0 ∧ K0 hi = 41)) (hi80 : hi ≤ 80)
    (hp : ∀ K P n, qm_fi K0 P0 lo hi n0 K P n (lo + 1) → K lo = 118 → post (f_size, f_end, f_good, nI n, a_source, a_text, a_vars, K, P, a_begins, a_times)) :
    ∀ fuel k m r n K P, hi - k < fuel → k ≤ hi → lo + 2 * r + 1 ≤ hi → m ≤ r → r ≤ hi - k + m → qm_fi K0 P0 lo hi n0 K P n (lo + 2 * r + 1) → qm_al K lo r → (∀ i, i < m → qm_rk (qm_oc (K (lo + 2 * i + 1))) = 1) →
    wY_flat_91 post (nI lo) (nI hi) fuel (nI (lo + 2 * r + 1)) (nI (lo + 2 * m + 1)) (nI k) f_size f_end f_good (nI n) a_source a_text a_vars K P a_begins a_times := by
  intro fuel
  induction fuel with
  | zero => intro k m r n K P h; omega
  | succ fuel ih =>
    intro k m r n K P hf hk hrh hmr hrk I A O
    have I' := I
    obtain ⟨a1, a2, a3, a4, a5, a6, a7⟩ := I'
    by_cases hkk : k = hi
    · subst hkk
      obtain rfl : r = m := by omega
      exact br_t (nI_le (Nat.le_refl _) (by omega)) ⟨k - lo + 1, qy_flat3 hs he hi80 hp _ lo r n K P (by omega) (by omega) hrh (by omega) I A O⟩
    · refine br_f (nI_ge (by omega) (by omega)) ?_
      by_cases hr : r = m
      · subst hr
        refine br_t (nI_le (Nat.le_refl _) (by omega)) (nm_r (nI_1 k) ?_)
        exact ih (k + 1) r r n K P (by omega) (by omega) hrh (by omega) (by omega) I A O
      · refine br_f (nI_ge (by omega) (by omega)) ?_
        rw [show nI (lo + 2 * m + 1) - 1 = nI (lo + 2 * m) from nI_pred _, nI_1, nI_clamp (show lo + 2 * m < 2 ^ 31 by omega), nI_clamp (show lo + 2 * m + 1 < 2 ^ 31 by omega), nI_clamp (show lo + 2 * m + 1 + 1 < 2 ^ 31 by omega)]
        have hio := A.2 m (by omega)
        have v1 : vp_in (nI (lo + 2 * m + 1)) 80 := vp_in_nI (by omega) (by omega)
        have hlow : qm_low 2 (qm_R K P (lo + 2 * m)).2.2 := by
          by_cases z : m = 0
          · subst z
            refine qm_low_start ?_ (by omega)
            rcases hs with z | z
            · exact Or.inl z
            · by_cases z0 : lo = 0
              · exact Or.inl z0
              · exact Or.inr (by rw [show lo + 2 * 0 - 1 = lo - 1 from by omega, (a4 (lo - 1) (by omega)).1]; exact z)
          · have := qm_low_op (K := K) (P := P) (i := lo + 2 * (m - 1)) (A.1 (m - 1) (by omega)) (O (m - 1) (by omega))
            rw [show lo + 2 * (m - 1) + 2 = lo + 2 * m from by omega] at this
            exact this
        have go : qm_rk (qm_oc (K (lo + 2 * m + 1))) = 2 → ∀ v, v = qm_b (qm_oc (K (lo + 2 * m + 1))) (P (lo + 2 * m)) (P (lo + 2 * m + 1 + 1)) → wY_flat_219 post (wY_flat_91 post (nI lo) (nI hi) fuel) (nI lo) (nI hi) (nI (lo + 2 * r + 1)) (nI (lo + 2 * m + 1)) (nI k) v 3 (nI (lo + 2 * m + 1) - 1) f_size f_end f_good (nI n) a_source a_text a_vars K P a_begins a_times := by
          intro h2 v hv
          unfold wY_flat_219
          rw [show nI (lo + 2 * m + 1) - 1 = nI (lo + 2 * m) from nI_pred _]
          refine qy_replace (w := 3) (by omega) (by omega) a1 a7 (fun K' P' p ck => ?_)
          dsimp only
          refine nm_r (e' := nI (lo + 2 * (r - 1) + 1)) ?_ (nm_r (nI_1 k) ?_)
          · rw [show (2 : Int32) = nI 2 from rfl, pk_sub (by omega)]; exact congrArg nI (by omega)
          · have ap := qm_al_rp (m := m) A (by omega) a3 p
            have V : qm_F (qm_R K' P' (n + 1 - 3)) = qm_F (qm_R K P n) := by
              refine qm_rw_bin p (by omega) (A.1 m (by omega)) hio (A.1 (m + 1) (by omega)) hv (by rw [h2]; exact hlow) ?_
              by_cases z : r = m + 1
              · subst z
                by_cases z2 : n = lo + 2 * m + 3
                · exact Or.inl z2
                · have e0 : hi < n0 := by omega
                  refine Or.inr ⟨by omega, Or.inl ?_⟩
                  have := (a5 0 (by omega)).1
                  rw [show lo + 2 * m + 3 = lo + 2 * (m + 1) + 1 + 0 from by omega, this]
                  rcases he with z3 | z3
                  · omega
                  · exact z3.2
              · refine Or.inr ⟨by omega, Or.inr ⟨?_, ?_⟩⟩
                · have := A.2 (m + 1) (by omega)
                  rw [show lo + 2 * (m + 1) + 1 = lo + 2 * m + 3 from by omega] at this
                  exact this
                · rw [h2]; exact qm_rk2 _
            have I2 := qm_fi_rp I p (by omega) (by omega) (by omega) V ck
            rw [show lo + 2 * r + 1 + 1 - 3 = lo + 2 * (r - 1) + 1 from by omega] at I2
            refine ih (k + 1) m (r - 1) (n + 1 - 3) K' P' (by omega) (by omega) (by omega) (by omega) (by omega) I2 ap.1 ?_
            intro i hi'
            rw [ap.2.1 i hi']; exact O i hi'
        refine ⟨vp_in_nI (by omega) (by omega), nm_e ⟨vp_in_nI (by omega) (by omega), nm_e ⟨v1, ?_⟩⟩⟩
        rcases qm_op2 hio with ⟨h1, n42, n60, n38⟩ | ⟨h2, z | z | z⟩
        · refine br_f n42 ⟨v1, br_f n60 ⟨v1, br_f n38 (nm_r (e' := nI (lo + 2 * (m + 1) + 1)) ?_ (nm_r (nI_1 k) ?_))⟩⟩
          · exact (nI_add _ 2).trans (congrArg nI (by omega))
          · refine ih (k + 1) (m + 1) r n K P (by omega) (by omega) hrh (by omega) (by omega) I A ?_
            intro i hi'
            by_cases z : i = m
            · rw [z]; exact h1
            · exact O i (by omega)
        · refine br_t z.1 ?_
          unfold wY_flat_161
          rw [nI_clamp (show lo + 2 * m + 1 < 2 ^ 31 by omega)]
          exact ⟨v1, br_t z.1 (go h2 _ (by rw [z.2]; rfl))⟩
        · refine br_f (by rw [z.1]; decide) ⟨v1, br_t z.1 ?_⟩
          unfold wY_flat_161
          rw [nI_clamp (show lo + 2 * m + 1 < 2 ^ 31 by omega)]
          refine ⟨v1, br_f (by rw [z.1]; decide) ⟨v1, br_f (by rw [z.1]; decide) (br_c (fun y => ?_) (fun y => ?_))⟩⟩
          · exact go h2 _ (by rw [z.2, qm_b6, if_pos y])
          · exact go h2 _ (by rw [z.2, qm_b6, if_neg y])
        · refine br_f (by rw [z.1]; decide) ⟨v1, br_f (by rw [z.1]; decide) ⟨v1, br_t z.1 ?_⟩⟩
          unfold wY_flat_161
          rw [nI_clamp (show lo + 2 * m + 1 < 2 ^ 31 by omega)]
          exact ⟨v1, br_f (by rw [z.1]; decide) ⟨v1, br_t z.1 (go h2 _ (by rw [z.2]; rfl))⟩⟩

/-- members without brackets: what may stand at each place -/
def qm_rg (K : Nat → Int32) (lo last : Nat) : Prop := lo < last ∧ K (last - 1) = 118 ∧ ∀ j, lo ≤ j → j < last → ((j = lo ∨ K (j - 1) ≠ 118) → K j = 118 ∨ K j = 45) ∧ (j ≠ lo → K (j - 1) = 118 → qm_io (K j))
theorem qm_rg_al {K : Nat → Int32} {lo last : Nat} (h : qm_rg K lo last) (hc : ∀ j, lo ≤ j → j < last → (j = lo ∨ K (j - 1) ≠ 118) → K j = 118) : ∃ r, last = lo + 2 * r + 1 ∧ qm_al K lo r := by
  have key : ∀ m, (lo + 2 * m < last → K (lo + 2 * m) = 118) ∧ (lo + 2 * m + 1 < last → qm_io (K (lo + 2 * m + 1))) := by
    intro m
    induction m with
    | zero =>
      have a := hc lo (Nat.le_refl lo) h.1 (Or.inl rfl)
      refine ⟨fun _ => a, fun z => ?_⟩
      exact (h.2.2 (lo + 1) (by omega) z).2 (by omega) (by rw [Nat.add_sub_cancel]; exact a)
    | succ m ih =>
      have a : lo + 2 * (m + 1) < last → K (lo + 2 * (m + 1)) = 118 := by
        intro z
        refine hc _ (by omega) z (Or.inr ?_)
        rw [show lo + 2 * (m + 1) - 1 = lo + 2 * m + 1 from by omega]
        exact (qm_io_n (ih.2 (by omega))).1
      refine ⟨a, fun z => ?_⟩
      exact (h.2.2 _ (by omega) z).2 (by omega) (by rw [Nat.add_sub_cancel]; exact a (by omega))
  have par : ∃ r, last = lo + 2 * r + 1 := by
    by_cases z : (last - lo) % 2 = 1
    · exact ⟨(last - lo) / 2, by have := h.1; omega⟩
    · exfalso
      have h1 := h.1
      have := (key ((last - lo) / 2 - 1)).2 (by omega)
      rw [show lo + 2 * ((last - lo) / 2 - 1) + 1 = last - 1 from by omega, h.2.1] at this
      exact (qm_io_n this).1 rfl
  obtain ⟨r, hr⟩ := par
  refine ⟨r, hr, fun m hm => (key m).1 (by omega), fun m hm => (key m).2 (by omega)⟩

theorem qm_m1 {k : Nat} (h : k < 2 ^ 31) : nI k + (-1) < nI k := by
  cases k with
  | zero => decide
  | succ k => rw [pk_m1]; exact nI_lt (by omega) h

/-- the first pass: negations from the right; x = i - 1 -/
theorem qy_flat1 {post : SY → Prop} {K0 P0 : Nat → Int32} {lo hi n0 : Nat} (hs : lo = 0 ∨ K0 (lo - 1) = 40) (he : hi = n0 ∨ (hi < n0 ∧ K0 hi = 41)) (hi80 : hi ≤ 80)
    (hp : ∀ K P n, qm_fi K0 P0 lo hi n0 K P n (lo + 1) → K lo = 118 → post (f_size, f_end, f_good, nI n, a_source, a_text, a_vars, K, P, a_begins, a_times)) :
    ∀ fuel i last n K P, i < fuel → lo ≤ i → i < last → last ≤ hi → qm_fi K0 P0 lo hi n0 K P n last → qm_rg K lo last → (∀ j, i ≤ j → j < last → (j = lo ∨ K (j - 1) ≠ 118) → K j = 118) →
    wY_flat_7 post (nI lo) (nI hi) fuel (nI last) (nI i + (-1)) f_size f_end f_good (nI n) a_source a_text a_vars K P a_begins a_times := by
  intro fuel
  induction fuel with
  | zero => intro i last n K P h; omega
  | succ fuel ih =>
    intro i last n K P hf hi1 hil hlh I G C
    have I' := I
    obtain ⟨a1, a2, a3, a4, a5, a6, a7⟩ := I'
    by_cases hii : i = lo
    · subst hii
      refine br_t (qm_m1 (by omega)) (nm_r (nI_1 i) ⟨hi - i + 1, ?_⟩)
      obtain ⟨r, hr, A⟩ := qm_rg_al G (fun j h1 h2 h3 => C j h1 h2 h3)
      subst hr
      exact qy_flat2 hs he hi80 hp _ i 0 r n K P (by omega) (by omega) hlh (by omega) (by omega) I A (fun m hm => absurd hm (by omega))
    · obtain ⟨q, rfl⟩ : ∃ q, i = q + 1 := ⟨i - 1, by omega⟩
      rw [pk_m1]
      refine br_f (nI_nlt (by omega) (by omega)) ?_
      rw [nI_clamp (show q < 2 ^ 31 by omega)]
      have v1 : vp_in (nI q) 80 := vp_in_nI (by omega) (by omega)
      have Gq := G.2.2 q (by omega) (by omega)
      -- no negation here
      have no : ¬ (K q = 45 ∧ (q = lo ∨ K (q - 1) ≠ 118)) → wY_flat_49 post (wY_flat_7 post (nI lo) (nI hi) fuel) (nI lo) (nI hi) (nI last) (nI q) f_size f_end f_good (nI n) a_source a_text a_vars K P a_begins a_times := by
        intro hn
        unfold wY_flat_49 wY_flat_50
        refine br_t rfl (nm_e ?_)
        refine ih q last n K P (by omega) (by omega) (by omega) hlh I G ?_
        intro j h1 h2 h3
        by_cases z : j = q
        · subst z
          rcases Gq.1 h3 with z | z
          · exact z
          · exact absurd ⟨z, h3⟩ hn
        · exact C j (by omega) h2 h3
      -- a negation
      have yes : K q = 45 → (q = lo ∨ K (q - 1) ≠ 118) → wY_flat_45 post (wY_flat_7 post (nI lo) (nI hi) fuel) (nI lo) (nI hi) (nI last) (nI q) f_size f_end f_good (nI n) a_source a_text a_vars K P a_begins a_times := by
        intro k45 hpre
        have k1 : K (q + 1) = 118 := C (q + 1) (Nat.le_refl _) (by omega) (Or.inr (by rw [Nat.add_sub_cancel, k45]; decide))
        unfold wY_flat_45 wY_flat_50
        refine br_f (by decide) ?_
        rw [nI_1, nI_clamp (show q + 1 < 2 ^ 31 by omega)]
        refine ⟨vp_in_nI (by omega) (by omega), ?_⟩
        refine qy_replace (w := 2) (by omega) (by omega) a1 a7 (fun K' P' p ck => ?_)
        dsimp only
        refine nm_r (e' := nI (last - 1)) ?_ (nm_e ?_)
        · obtain ⟨l, rfl⟩ : ∃ l, last = l + 1 := ⟨last - 1, by omega⟩
          rw [pk_m1]; rfl
        · have hee : (qm_R K P q).1 = true := by
            by_cases z : q = lo
            · subst z
              refine qm_start_e ?_
              rcases hs with z | z
              · exact Or.inl z
              · by_cases z0 : q = 0
                · exact Or.inl z0
                · exact Or.inr (by rw [(a4 (q - 1) (by omega)).1]; exact z)
            · obtain ⟨t, rfl⟩ : ∃ t, q = t + 1 := ⟨q - 1, by omega⟩
              rw [qm_R_e]
              have z1 := hpre.resolve_left z
              rw [Nat.add_sub_cancel] at z1
              refine ⟨z1, ?_⟩
              intro z41
              have Gt := G.2.2 t (by omega) (by omega)
              by_cases z2 : t = lo ∨ K (t - 1) ≠ 118
              · rcases Gt.1 z2 with z3 | z3
                · exact z1 z3
                · rw [z41] at z3; exact absurd z3 (by decide)
              · have z4 : t ≠ lo := fun z => z2 (Or.inl z)
                have z5 : K (t - 1) = 118 := by
                  by_cases z6 : K (t - 1) = 118
                  · exact z6
                  · exact absurd (Or.inr z6) z2
                have := Gt.2 z4 z5
                rw [z41] at this
                exact absurd this (by unfold qm_io; decide)
          have V := congrArg qm_F (qm_rw_neg p (by omega) rfl k45 k1 hee)
          have I2 := qm_fi_rp I p (by omega) (by omega) (by omega) V ck
          rw [show last + 1 - 2 = last - 1 from by omega] at I2
          have sh : ∀ j, q < j → j < last - 1 → K' j = K (j + 1) := by
            intro j h1 h2
            have := (p.2.2.2 (j + 1) (by omega) (by omega)).1
            rw [show j + 1 + 1 - 2 = j from by omega] at this
            exact this
          refine ih q (last - 1) (n + 1 - 2) K' P' (by omega) (by omega) (by omega) (by omega) I2 ⟨by omega, ?_, ?_⟩ ?_
          · by_cases z : last - 1 - 1 = q
            · rw [z]; exact p.2.1
            · rw [sh _ (by omega) (by omega), show last - 1 - 1 + 1 = last - 1 from by omega]; exact G.2.1
          · intro j h1 h2
            by_cases z : j < q
            · have e1 := (p.1 j z).1
              have Gj := G.2.2 j h1 (by omega)
              by_cases z0 : j = lo
              · exact ⟨fun _ => by rw [e1]; exact Gj.1 (Or.inl z0), fun z1 => absurd z0 z1⟩
              · rw [e1, (p.1 (j - 1) (by omega)).1]; exact Gj
            · by_cases z1 : j = q
              · subst z1
                refine ⟨fun _ => Or.inl p.2.1, fun z2 z3 => ?_⟩
                rw [(p.1 (j - 1) (by omega)).1] at z3
                exact absurd z3 (hpre.resolve_left z2)
              · rw [sh j (by omega) h2]
                have Gj := G.2.2 (j + 1) (by omega) (by omega)
                rw [Nat.add_sub_cancel] at Gj
                by_cases z2 : j = q + 1
                · subst z2
                  rw [Nat.add_sub_cancel, p.2.1]
                  refine ⟨fun z3 => ?_, fun _ _ => Gj.2 (by omega) k1⟩
                  rcases z3 with z3 | z3
                  · omega
                  · exact absurd rfl z3
                · rw [sh (j - 1) (by omega) (by omega), show j - 1 + 1 = j from by omega]
                  refine ⟨fun z3 => ?_, fun _ z4 => Gj.2 (by omega) z4⟩
                  rcases z3 with z3 | z3
                  · omega
                  · exact Gj.1 (Or.inr z3)
          · intro j h1 h2 h3
            by_cases z1 : j = q
            · rw [z1]; exact p.2.1
            · rw [sh j (by omega) h2]
              by_cases z2 : j = q + 1
              · subst z2
                rw [Nat.add_sub_cancel, p.2.1] at h3
                rcases h3 with h3 | h3
                · omega
                · exact absurd rfl h3
              · refine C (j + 1) (by omega) (by omega) (Or.inr ?_)
                rcases h3 with h3 | h3
                · omega
                · rw [sh (j - 1) (by omega) (by omega), show j - 1 + 1 = j from by omega] at h3
                  exact h3
      refine ⟨v1, br_c (fun k45 => ?_) (fun k45 => no (fun z => k45 z.1))⟩
      by_cases z : q = lo
      · exact br_t (congrArg nI z) (yes k45 (Or.inl z))
      · refine br_f (fun z1 => z ((nI_eq (by omega) (by omega)).mp z1)) ?_
        rw [show nI q - 1 = nI (q - 1) from by rw [show nI q = nI (q - 1 + 1) from congrArg nI (by omega), nI_pred], nI_clamp (show q - 1 < 2 ^ 31 by omega)]
        refine ⟨vp_in_nI (by omega) (by omega), br_c (fun z1 => no (fun z2 => ?_)) (fun z1 => yes k45 (Or.inr z1))⟩
        rcases z2.2 with z3 | z3
        · exact z z3
        · exact z3 z1

theorem qy_flat {post : SY → Prop} {K P : Nat → Int32} {lo hi n : Nat} (hs : lo = 0 ∨ K (lo - 1) = 40) (he : hi = n ∨ (hi < n ∧ K hi = 41)) (h80 : n ≤ 80) (hc : qm_ck K n) (hg : qm_rg K lo hi)
    (hp : ∀ K' P' n', qm_fi K P lo hi n K' P' n' (lo + 1) → K' lo = 118 → post (f_size, f_end, f_good, nI n', a_source, a_text, a_vars, K', P', a_begins, a_times)) :
    wpY_flat post (f_size, f_end, f_good, nI n, a_source, a_text, a_vars, K, P, a_begins, a_times) (nI lo) (nI hi) := by
  have hlt := hg.1
  have hin : hi ≤ n := by omega
  unfold wpY_flat
  dsimp only
  refine nm_r (e' := nI (hi - 1) + (-1)) ?_ ⟨hi + 1, ?_⟩
  · obtain ⟨t, rfl⟩ : ∃ t, hi = t + 1 := ⟨hi - 1, by omega⟩
    rw [← nI_1, Nat.add_sub_cancel]
    grind
  · refine qy_flat1 hs he (by omega) hp _ (hi - 1) hi n K P (by omega) (by omega) (by omega) (Nat.le_refl _) ⟨h80, by omega, hin, fun _ _ => ⟨rfl, rfl⟩, fun _ _ => ⟨rfl, rfl⟩, rfl, hc⟩ hg ?_
    intro j h1 h2 _
    rw [show j = hi - 1 from by omega]; exact hg.2.1
end
end
section
/-! whole sums with brackets: the reference's value() -/
def qm_bd (K : Nat → Int32) : Nat → Int
  | 0 => 0
  | j + 1 => qm_bd K j + (if K j = 40 then 1 else if K j = 41 then -1 else 0)
theorem qm_bd_s (K : Nat → Int32) (j : Nat) : qm_bd K (j + 1) = qm_bd K j + (if K j = 40 then 1 else if K j = 41 then -1 else 0) := rfl
def qm_wf (K : Nat → Int32) (n : Nat) : Prop :=
  0 < n ∧ (K (n - 1) = 118 ∨ K (n - 1) = 41)
  ∧ (∀ j, j < n → ((j = 0 ∨ (K (j - 1) ≠ 118 ∧ K (j - 1) ≠ 41)) → K j = 118 ∨ K j = 40 ∨ K j = 45) ∧ (j ≠ 0 → (K (j - 1) = 118 ∨ K (j - 1) = 41) → K j = 41 ∨ qm_io (K j)))
  ∧ (∀ j, j < n → K j = 41 → 0 < qm_bd K j) ∧ qm_bd K n = 0
theorem qm_bd_congr {K K' : Nat → Int32} : ∀ i, (∀ j, j < i → K' j = K j) → qm_bd K' i = qm_bd K i := by
  intro i
  induction i with
  | zero => intro _; rfl
  | succ i ih =>
    intro h
    show qm_bd K' i + _ = qm_bd K i + _
    rw [ih (fun j hj => h j (by omega)), h i (by omega)]
theorem qm_bd_flat {K : Nat → Int32} {a : Nat} : ∀ m, (∀ j, a ≤ j → j < a + m → K j ≠ 40 ∧ K j ≠ 41) → qm_bd K (a + m) = qm_bd K a := by
  intro m
  induction m with
  | zero => intro _; rfl
  | succ m ih =>
    intro h
    rw [← Nat.add_assoc, qm_bd_s, if_neg (h (a + m) (by omega) (by omega)).1, if_neg (h (a + m) (by omega) (by omega)).2, ih (fun j h1 h2 => h j h1 (by omega))]
    omega
theorem qm_bd_tail {K K' : Nat → Int32} {a b : Nat} (h0 : qm_bd K' a = qm_bd K b) : ∀ m, (∀ j, j < m → K' (a + j) = K (b + j)) → qm_bd K' (a + m) = qm_bd K (b + m) := by
  intro m
  induction m with
  | zero => intro _; exact h0
  | succ m ih =>
    intro h
    rw [← Nat.add_assoc, ← Nat.add_assoc, qm_bd_s, qm_bd_s, ih (fun j hj => h j (by omega)), h m (by omega)]
/-- without closing brackets the depth is the number of opening ones -/
theorem qm_bd_up {K : Nat → Int32} : ∀ m a, (∀ j, a ≤ j → j < a + m → K j ≠ 41) → qm_bd K a ≤ qm_bd K (a + m) ∧ (qm_bd K (a + m) ≤ qm_bd K a → ∀ j, a ≤ j → j < a + m → K j ≠ 40) := by
  intro m
  induction m with
  | zero => intro a _; exact ⟨Int.le_refl _, fun _ j h1 h2 => by omega⟩
  | succ m ih =>
    intro a h
    have I := ih a (fun j h1 h2 => h j h1 (by omega))
    have e : qm_bd K (a + (m + 1)) = qm_bd K (a + m) + (if K (a + m) = 40 then 1 else if K (a + m) = 41 then -1 else 0) := rfl
    rw [if_neg (h (a + m) (by omega) (by omega))] at e
    by_cases z : K (a + m) = 40
    · rw [if_pos z] at e
      refine ⟨by omega, fun h2 => ?_⟩
      exfalso; omega
    · rw [if_neg z] at e
      refine ⟨by omega, fun h2 j h3 h4 => ?_⟩
      by_cases y : j = a + m
      · rw [y]; exact z
      · exact I.2 (by omega) j h3 (by omega)

theorem qm_wf_rg {K : Nat → Int32} {n lo hi : Nat} (h : qm_wf K n) (h1 : lo < hi) (hn : hi ≤ n) (hs : lo = 0 ∨ K (lo - 1) = 40) (hb : ∀ j, lo ≤ j → j < hi → K j ≠ 40 ∧ K j ≠ 41) (hl : K (hi - 1) = 118) : qm_rg K lo hi := by
  refine ⟨h1, hl, fun j j1 j2 => ⟨fun z => ?_, fun z1 z2 => ?_⟩⟩
  · have b := hb j j1 j2
    rcases (h.2.2.1 j (by omega)).1 (by
      by_cases y : j = 0
      · exact Or.inl y
      · refine Or.inr ?_
        by_cases y2 : j = lo
        · subst y2
          rw [hs.resolve_left y]; exact ⟨by decide, by decide⟩
        · exact ⟨z.resolve_left y2, (hb (j - 1) (by omega) (by omega)).2⟩) with c | c | c
    · exact Or.inl c
    · exact absurd c b.1
    · exact Or.inr c
  · rcases (h.2.2.1 j (by omega)).2 (by omega) (Or.inl z2) with c | c
    · exact absurd c (hb j j1 j2).2
    · exact c

theorem qm_wf_br {K K2 : Nat → Int32} {n n2 o c : Nat} (h : qm_wf K n) (hoc : o < c) (hcn : c < n) (ko : K o = 40) (kc : K c = 41) (hb : ∀ j, o < j → j < c → K j ≠ 40 ∧ K j ≠ 41) (e0 : ∀ j, j < o → K2 j = K j) (e1 : K2 o = 118) (e2 : ∀ m, c + 1 + m < n → K2 (o + 1 + m) = K (c + 1 + m)) (en : n2 + c = n + o) : qm_wf K2 n2 := by
  obtain ⟨w1, w2, w3, w4, w5⟩ := h
  have b0 : ∀ j, j ≤ o → qm_bd K2 j = qm_bd K j := fun j hj => qm_bd_congr j (fun i hi => e0 i (by omega))
  have b1 : qm_bd K2 (o + 1) = qm_bd K (c + 1) := by
    have s1 : qm_bd K2 (o + 1) = qm_bd K2 o + (if K2 o = 40 then 1 else if K2 o = 41 then -1 else 0) := rfl
    have s2 : qm_bd K (c + 1) = qm_bd K c + (if K c = 40 then 1 else if K c = 41 then -1 else 0) := rfl
    have s3 : qm_bd K (o + 1) = qm_bd K o + (if K o = 40 then 1 else if K o = 41 then -1 else 0) := rfl
    have s4 := qm_bd_flat (K := K) (a := o + 1) (c - (o + 1)) (fun j h1 h2 => hb j (by omega) (by omega))
    rw [show o + 1 + (c - (o + 1)) = c from by omega] at s4
    rw [e1, if_neg (by decide), if_neg (by decide)] at s1
    rw [kc, if_neg (by decide), if_pos rfl] at s2
    rw [ko, if_pos rfl] at s3
    have := b0 o (Nat.le_refl o)
    omega
  have b2 : ∀ m, c + 1 + m ≤ n → qm_bd K2 (o + 1 + m) = qm_bd K (c + 1 + m) := fun m hm => qm_bd_tail b1 m (fun j hj => e2 j (by omega))
  refine ⟨by omega, ?_, ?_, ?_, ?_⟩
  · by_cases z : n2 - 1 = o
    · rw [z]; exact Or.inl e1
    · have := e2 (n2 - 1 - (o + 1)) (by omega)
      rw [show o + 1 + (n2 - 1 - (o + 1)) = n2 - 1 from by omega, show c + 1 + (n2 - 1 - (o + 1)) = n - 1 from by omega] at this
      rw [this]; exact w2
  · intro j hj
    by_cases z : j < o
    · rw [e0 j z]
      by_cases z0 : j = 0
      · subst z0; exact ⟨fun _ => (w3 0 (by omega)).1 (Or.inl rfl), fun y => absurd rfl y⟩
      · rw [e0 (j - 1) (by omega)]; exact w3 j (by omega)
    · by_cases z1 : j = o
      · subst z1
        refine ⟨fun _ => Or.inl e1, fun y1 y2 => ?_⟩
        rw [e0 (j - 1) (by omega)] at y2
        rcases (w3 j (by omega)).2 y1 y2 with y | y
        · rw [ko] at y; exact absurd y (by decide)
        · exact absurd ko (qm_io_n y).2.1
      · by_cases z2 : j = o + 1
        · subst z2
          rw [Nat.add_sub_cancel, e1]
          have := e2 0 (by omega)
          rw [Nat.add_zero, Nat.add_zero] at this
          rw [this]
          refine ⟨fun y => ?_, fun _ _ => (w3 (c + 1) (by omega)).2 (by omega) (by rw [Nat.add_sub_cancel]; exact Or.inr kc)⟩
          rcases y with y | y
          · omega
          · exact absurd rfl y.1
        · have a1 := e2 (j - (o + 1)) (by omega)
          have a2 := e2 (j - (o + 1) - 1) (by omega)
          rw [show o + 1 + (j - (o + 1)) = j from by omega] at a1
          rw [show o + 1 + (j - (o + 1) - 1) = j - 1 from by omega] at a2
          rw [a1, a2]
          have := w3 (c + 1 + (j - (o + 1))) (by omega)
          rw [show c + 1 + (j - (o + 1)) - 1 = c + 1 + (j - (o + 1) - 1) from by omega] at this
          refine ⟨fun y => this.1 (Or.inr (y.resolve_left (by omega))), fun _ y => this.2 (by omega) y⟩
  · intro j hj hk
    by_cases z : j < o
    · rw [e0 j z] at hk
      rw [b0 j (by omega)]; exact w4 j (by omega) hk
    · by_cases z1 : j = o
      · subst z1; rw [e1] at hk; exact absurd hk (by decide)
      · have a1 := e2 (j - (o + 1)) (by omega)
        have a2 := b2 (j - (o + 1)) (by omega)
        rw [show o + 1 + (j - (o + 1)) = j from by omega] at a1 a2
        rw [a2]; rw [a1] at hk
        exact w4 _ (by omega) hk
  · have a2 := b2 (n2 - (o + 1)) (by omega)
    rw [show o + 1 + (n2 - (o + 1)) = n2 from by omega, show c + 1 + (n2 - (o + 1)) = n from by omega] at a2
    rw [a2]; exact w5

section
variable {f_size f_end f_good : Int32} {a_source a_text a_vars a_begins a_times : Nat → Int32}
/-- one pass finds the first closing bracket and the last opening one before it -/
theorem qy_find {post : Int32 → SY → Prop} {J2 : Int32 → Int32 → Int32 → Int32 → Int32 → (Nat → Int32) → (Nat → Int32) → (Nat → Int32) → (Nat → Int32) → (Nat → Int32) → (Nat → Int32) → (Nat → Int32) → Prop} {x1 : Int32} {K P : Nat → Int32} {n : Nat} (h80 : n ≤ 80) (hw : qm_wf K n)
    (h1 : (∀ j, j < n → K j ≠ 41) → ∀ x2, wY_value_64 post J2 x1 x2 (-1) f_size f_end f_good (nI n) a_source a_text a_vars K P a_begins a_times)
    (h2 : ∀ o c, o < c → c < n → K o = 40 → K c = 41 → (∀ j, o < j → j < c → K j ≠ 40 ∧ K j ≠ 41) → wY_value_64 post J2 x1 (nI o) (nI c) f_size f_end f_good (nI n) a_source a_text a_vars K P a_begins a_times) :
    ∀ fuel i x2, n + 1 - i < fuel → i ≤ n → (∀ j, j < i → K j ≠ 41) → ((∀ j, j < i → K j ≠ 40) ∨ ∃ o, o < i ∧ x2 = nI o ∧ K o = 40 ∧ ∀ j, o < j → j < i → K j ≠ 40) →
    wY_value_15 post J2 x1 f_size f_end f_good (nI n) a_source a_text a_vars K P a_begins a_times fuel x2 (-1) (nI i) := by
  intro fuel
  induction fuel with
  | zero => intro i x2 h; omega
  | succ fuel ih =>
    intro i x2 hf hi I1 I2
    by_cases hin : i = n
    · subst hin
      exact br_t (nI_le (Nat.le_refl _) (by omega)) (h1 I1 x2)
    · refine br_f (nI_ge (by omega) (by omega)) (br_f (by decide) ?_)
      rw [nI_clamp (show i < 2 ^ 31 by omega)]
      have v1 : vp_in (nI i) 80 := vp_in_nI (by omega) (by omega)
      refine ⟨v1, br_c (fun k40 => ?_) (fun k40 => ?_)⟩
      · unfold wY_value_43
        rw [nI_clamp (show i < 2 ^ 31 by omega)]
        refine ⟨v1, br_f (by rw [k40]; decide) (nm_r (nI_1 i) ?_)⟩
        refine ih (i + 1) (nI i) (by omega) (by omega) ?_ (Or.inr ⟨i, by omega, rfl, k40, fun j a b => by omega⟩)
        intro j hj
        by_cases z : j = i
        · rw [z, k40]; decide
        · exact I1 j (by omega)
      · unfold wY_value_43
        rw [nI_clamp (show i < 2 ^ 31 by omega)]
        refine ⟨v1, br_c (fun k41 => nm_r (nI_1 i) ?_) (fun k41 => nm_r (nI_1 i) ?_)⟩
        · have pos := hw.2.2.2.1 i (by omega) k41
          have up := qm_bd_up (K := K) i 0 (fun j _ b => I1 j (by omega))
          rw [Nat.zero_add] at up
          rcases I2 with I2 | ⟨o, o1, rfl, o3, o4⟩
          · exfalso
            have := qm_bd_flat (K := K) (a := 0) i (fun j _ b => ⟨I2 j (by omega), I1 j (by omega)⟩)
            rw [Nat.zero_add] at this
            rw [this] at pos
            exact absurd pos (by show ¬ (0 : Int) < 0; decide)
          · have g : wY_value_64 post J2 x1 (nI o) (nI i) f_size f_end f_good (nI n) a_source a_text a_vars K P a_begins a_times := h2 o i o1 (by omega) o3 k41 (fun j a b => ⟨o4 j a b, I1 j b⟩)
            cases fuel with
            | zero => omega
            | succ fuel =>
              by_cases z : i + 1 = n
              · exact br_t (by rw [z]; exact nI_le (Nat.le_refl _) (by omega)) g
              · exact br_f (nI_ge (by omega) (by omega)) (br_t (nI_pos' (by omega)) g)
        · refine ih (i + 1) x2 (by omega) (by omega) ?_ ?_
          · intro j hj
            by_cases z : j = i
            · rw [z]; exact k41
            · exact I1 j (by omega)
          · rcases I2 with I2 | ⟨o, o1, o2, o3, o4⟩
            · refine Or.inl (fun j hj => ?_)
              by_cases z : j = i
              · rw [z]; exact k40
              · exact I2 j (by omega)
            · refine Or.inr ⟨o, by omega, o2, o3, fun j a b => ?_⟩
              by_cases z : j = i
              · rw [z]; exact k40
              · exact o4 j a (by omega)

theorem qy_value_l {post : Int32 → SY → Prop} {F : List Int32}
    (hp : ∀ v K' P' n', F = [v] → post v (f_size, f_end, f_good, n', a_source, a_text, a_vars, K', P', a_begins, a_times)) :
    ∀ fuel k n K P, 40 - k < fuel → k ≤ 40 → n ≤ 80 → qm_wf K n → qm_ck K n → qm_F (qm_R K P n) = F → ((∀ j, j < n → K j ≠ 41) ∨ n + 2 * k ≤ 80) →
    wY_value_2 post fuel (nI k) f_size f_end f_good (nI n) a_source a_text a_vars K P a_begins a_times := by
  intro fuel
  induction fuel with
  | zero => intro k n K P h; omega
  | succ fuel ih =>
    intro k n K P hf hk h80 hw hc hF hm
    by_cases hk4 : k = 40
    · subst hk4
      refine br_t (by decide) ?_
      have no41 : ∀ j, j < n → K j ≠ 41 := by
        rcases hm with z | z
        · exact z
        · have := hw.1; omega
      have no40 : ∀ j, j < n → K j ≠ 40 := by
        have up := qm_bd_up (K := K) n 0 (fun j _ b => no41 j (by omega))
        rw [Nat.zero_add, hw.2.2.2.2] at up
        exact fun j hj => up.2 (Int.le_refl _) j (by omega) hj
      have hl : K (n - 1) = 118 := hw.2.1.resolve_right (no41 (n - 1) (by have := hw.1; omega))
      refine qy_flat (lo := 0) (hi := n) (Or.inl rfl) (Or.inl rfl) h80 hc (qm_wf_rg hw hw.1 (Nat.le_refl n) (Or.inl rfl) (fun j _ b => ⟨no40 j b, no41 j b⟩) hl) ?_
      intro K' P' n' I k0
      dsimp only
      refine hp _ _ _ _ ?_
      obtain ⟨a1, a2, a3, a4, a5, a6, a7⟩ := I
      obtain rfl : n' = 1 := by omega
      rw [← hF, ← a6, qm_R_s, k0]
      rfl
    · refine br_f (nI_ge (b := 40) (by omega) (by decide)) ⟨n + 3, ?_⟩
      refine qy_find h80 hw ?_ ?_ (n + 3) 0 (-1) (by omega) (by omega) (fun j h => by omega) (Or.inl (fun j h => by omega))
      · intro no41 x2
        unfold wY_value_64
        refine br_t (by decide) (nm_r (nI_1 k) ?_)
        exact ih (k + 1) n K P (by omega) (by omega) h80 hw hc hF (Or.inl no41)
      · intro o c hoc hcn ko kc hb
        unfold wY_value_64
        refine br_f (nI_nle (by omega) (by omega)) (br_f (nI_pos (by omega)) ?_)
        rw [nI_1]
        have koc : o + 1 < c := by
          by_cases z : c = o + 1
          · exfalso
            subst z
            rcases (hw.2.2.1 (o + 1) hcn).1 (Or.inr (by rw [Nat.add_sub_cancel, ko]; exact ⟨by decide, by decide⟩)) with y | y | y <;> rw [kc] at y <;> exact absurd y (by decide)
          · omega
        have kl : K (c - 1) = 118 := by
          by_cases z : K (c - 1) = 118
          · exact z
          · exfalso
            rcases (hw.2.2.1 c hcn).1 (Or.inr ⟨z, (hb (c - 1) (by omega) (by omega)).2⟩) with y | y | y <;> rw [kc] at y <;> exact absurd y (by decide)
        refine qy_flat (lo := o + 1) (hi := c) (Or.inr (by rw [Nat.add_sub_cancel]; exact ko)) (Or.inr ⟨hcn, kc⟩) h80 hc (qm_wf_rg hw koc (by omega) (Or.inr (by rw [Nat.add_sub_cancel]; exact ko)) (fun j a b => hb j (by omega) b) kl) ?_
        intro K1 P1 n1 I k1
        dsimp only
        rw [nI_clamp (show o + 1 < 2 ^ 31 by omega)]
        obtain ⟨a1, a2, a3, a4, a5, a6, a7⟩ := I
        refine ⟨vp_in_nI (by omega) (by omega), ?_⟩
        refine qy_replace (w := 3) (by omega) (by omega) a1 a7 (fun K2 P2 p ck => ?_)
        dsimp only
        refine nm_r (nI_1 k) ?_
        have q0 : K1 o = 40 := by rw [(a4 o (by omega)).1]; exact ko
        have q2 : K1 (o + 2) = 41 := by
          have := (a5 0 (by omega)).1
          rw [show o + 1 + 1 + 0 = o + 2 from rfl, Nat.add_zero] at this
          rw [this]; exact kc
        have V := congrArg qm_F (qm_rw_br p (by omega) rfl q0 k1 q2)
        have W : qm_wf K2 (n1 + 1 - 3) := by
          refine qm_wf_br hw hoc hcn ko kc hb ?_ p.2.1 ?_ (by omega)
          · intro j hj
            rw [(p.1 j hj).1]; exact (a4 j (by omega)).1
          · intro m hm
            have s1 := (p.2.2.2 (o + 3 + m) (by omega) (by omega)).1
            rw [show o + 3 + m + 1 - 3 = o + 1 + m from by omega] at s1
            have s2 := (a5 (1 + m) (by omega)).1
            rw [show o + 1 + 1 + (1 + m) = o + 3 + m from by omega, show c + (1 + m) = c + 1 + m from by omega] at s2
            rw [s1, s2]
        refine ih (k + 1) (n1 + 1 - 3) K2 P2 (by omega) (by omega) (by omega) W ck (by rw [V, a6]; exact hF) ?_
        rcases hm with z | z
        · exact absurd kc (z c hcn)
        · exact Or.inr (by omega)

/-- the reference's value() answers what the machine answers -/
theorem qy_value {post : Int32 → SY → Prop} {K P : Nat → Int32} {n : Nat} (h80 : n ≤ 80) (hw : qm_wf K n) (hc : qm_ck K n)
    (hp : ∀ v K' P' n', qm_F (qm_R K P n) = [v] → post v (f_size, f_end, f_good, n', a_source, a_text, a_vars, K', P', a_begins, a_times)) :
    wpY_value post (f_size, f_end, f_good, nI n, a_source, a_text, a_vars, K, P, a_begins, a_times) := by
  unfold wpY_value
  dsimp only
  exact ⟨41, qy_value_l hp 41 0 n K P (by omega) (by omega) h80 hw hc rfl (Or.inr (by omega))⟩
end
end
section
/-! the members of a sum, read off the text; the reference's list() -/
def qm_dg (c : Int32) : Bool := decide (¬ c < 48) && decide (¬ 57 < c)
def qm_lt (c : Int32) : Bool := decide (¬ c < 97) && decide (¬ 104 < c)
theorem qm_dg_t {c : Int32} (h : qm_dg c = true) : ¬ c < 48 ∧ ¬ 57 < c := by
  unfold qm_dg at h; rw [Bool.and_eq_true, decide_eq_true_eq, decide_eq_true_eq] at h; exact h
theorem qm_lt_t {c : Int32} (h : qm_lt c = true) : ¬ c < 97 ∧ ¬ 104 < c := by
  unfold qm_lt at h; rw [Bool.and_eq_true, decide_eq_true_eq, decide_eq_true_eq] at h; exact h
theorem qm_dg_f {c : Int32} (h : qm_dg c = false) : c < 48 ∨ 57 < c := by
  unfold qm_dg at h; rw [Bool.and_eq_false_iff, decide_eq_false_iff_not, decide_eq_false_iff_not, Decidable.not_not, Decidable.not_not] at h; exact h
theorem qm_lt_f {c : Int32} (h : qm_lt c = false) : c < 97 ∨ 104 < c := by
  unfold qm_lt at h; rw [Bool.and_eq_false_iff, decide_eq_false_iff_not, decide_eq_false_iff_not, Decidable.not_not, Decidable.not_not] at h; exact h
/-- two tests in a row that give 0 or 1 -/
theorem qm_w01 {c lo hi : Int32} {A B : Prop} (h : (¬ c < lo ∧ ¬ hi < c → A) ∧ ((c < lo ∨ hi < c) → B)) : (c < lo → B) ∧ (¬ c < lo → (hi < c → B) ∧ (¬ hi < c → A)) :=
  ⟨fun z => h.2 (Or.inl z), fun z => ⟨fun y => h.2 (Or.inr y), fun y => h.1 ⟨z, y⟩⟩⟩
theorem qm_w1 {c lo hi : Int32} {A B : Prop} (h : ¬ c < lo ∧ ¬ hi < c) (a : A) : (c < lo → B) ∧ (¬ c < lo → (hi < c → B) ∧ (¬ hi < c → A)) := br_f h.1 (br_f h.2 a)
theorem qm_w0 {c lo hi : Int32} {A B : Prop} (h : c < lo ∨ hi < c) (b : B) : (c < lo → B) ∧ (¬ c < lo → (hi < c → B) ∧ (¬ hi < c → A)) :=
  ⟨fun _ => b, fun z => ⟨fun _ => b, fun y => absurd (h.resolve_left z) y⟩⟩
section
variable {f_size f_end f_good f_count : Int32} {a_source a_text a_vars a_kinds a_vals a_begins a_times : Nat → Int32}
theorem qx_dg1 {post : Int32 → Prop} {c : Int32} (h : qm_dg c = true) (p : post 1) : wpX_isDigit post c := qm_w1 (qm_dg_t h) p
theorem qx_dg0 {post : Int32 → Prop} {c : Int32} (h : qm_dg c = false) (p : post 0) : wpX_isDigit post c := qm_w0 (qm_dg_f h) p
theorem qx_lt1 {post : Int32 → Prop} {c : Int32} (h : qm_lt c = true) (p : post 1) : wpX_isLetter post c := qm_w1 (qm_lt_t h) p
theorem qx_lt0 {post : Int32 → Prop} {c : Int32} (h : qm_lt c = false) (p : post 0) : wpX_isLetter post c := qm_w0 (qm_lt_f h) p
theorem qy_dg1 {post : Int32 → Prop} {c : Int32} (h : qm_dg c = true) (p : post 1) : wpY_digit post (f_size, f_end, f_good, f_count, a_source, a_text, a_vars, a_kinds, a_vals, a_begins, a_times) c := qm_w1 (qm_dg_t h) p
theorem qy_dg0 {post : Int32 → Prop} {c : Int32} (h : qm_dg c = false) (p : post 0) : wpY_digit post (f_size, f_end, f_good, f_count, a_source, a_text, a_vars, a_kinds, a_vals, a_begins, a_times) c := qm_w0 (qm_dg_f h) p
theorem qy_lt1 {post : Int32 → Prop} {c : Int32} (h : qm_lt c = true) (p : post 1) : wpY_letter post (f_size, f_end, f_good, f_count, a_source, a_text, a_vars, a_kinds, a_vals, a_begins, a_times) c := qm_w1 (qm_lt_t h) p
theorem qy_lt0 {post : Int32 → Prop} {c : Int32} (h : qm_lt c = false) (p : post 0) : wpY_letter post (f_size, f_end, f_good, f_count, a_source, a_text, a_vars, a_kinds, a_vals, a_begins, a_times) c := qm_w0 (qm_lt_f h) p
end
theorem qm_dg_n {c : Int32} (h : qm_dg c = true) : ∃ k, k ≤ 9 ∧ c = nI (48 + k) := by
  obtain ⟨h1, h2⟩ := qm_dg_t h
  have h0 : ¬ c < 0 := fun z => h1 (Int32.lt_of_lt_of_le z (by decide))
  obtain ⟨j, hj, rfl⟩ := nI_of h0
  rw [show (48 : Int32) = nI 48 from rfl, nI_ltI hj (by decide)] at h1
  rw [show (57 : Int32) = nI 57 from rfl, nI_ltI (by decide) hj] at h2
  exact ⟨j - 48, by omega, congrArg nI (by omega)⟩
theorem qm_lt_n {c : Int32} (h : qm_lt c = true) : ∃ k, k ≤ 7 ∧ c = nI (97 + k) := by
  obtain ⟨h1, h2⟩ := qm_lt_t h
  have h0 : ¬ c < 0 := fun z => h1 (Int32.lt_of_lt_of_le z (by decide))
  obtain ⟨j, hj, rfl⟩ := nI_of h0
  rw [show (97 : Int32) = nI 97 from rfl, nI_ltI hj (by decide)] at h1
  rw [show (104 : Int32) = nI 104 from rfl, nI_ltI (by decide) hj] at h2
  exact ⟨j - 97, by omega, congrArg nI (by omega)⟩
theorem qm_dg_lt {c : Int32} (h : qm_dg c = true) : qm_lt c = false := by
  obtain ⟨k, hk, rfl⟩ := qm_dg_n h
  cases e : qm_lt (nI (48 + k)) with
  | false => rfl
  | true =>
    obtain ⟨j, hj, e2⟩ := qm_lt_n e
    have := (nI_eq (by omega) (by omega)).mp e2
    omega
/-- a character that isn't a digit or a letter, by its number -/
theorem qm_dg_lit {c : Int32} {k : Nat} (h : c = nI k) (hk : k < 2 ^ 31) (h2 : k < 48 ∨ 57 < k) : qm_dg c = false := by
  cases e : qm_dg c with
  | false => rfl
  | true =>
    obtain ⟨j, hj, e2⟩ := qm_dg_n e
    have := (nI_eq hk (by omega)).mp (h.symm.trans e2)
    omega
theorem qm_lt_lit {c : Int32} {k : Nat} (h : c = nI k) (hk : k < 2 ^ 31) (h2 : k < 97 ∨ 104 < k) : qm_lt c = false := by
  cases e : qm_lt c with
  | false => rfl
  | true =>
    obtain ⟨j, hj, e2⟩ := qm_lt_n e
    have := (nI_eq hk (by omega)).mp (h.symm.trans e2)
    omega

def qm_up {α : Type} (f : Nat → α) (k : Nat) (x : α) : Nat → α := fun j => if j = k then x else f j
theorem qm_us {α : Type} {f : Nat → α} {k : Nat} {x : α} : qm_up f k x k = x := if_pos rfl
theorem qm_un {α : Type} {f : Nat → α} {k j : Nat} {x : α} (h : j ≠ k) : qm_up f k x j = f j := if_neg h

/-- the members of the d characters from a on: what each is, its number or variable, how many -/
def qm_tb (s : Nat → Int32) (a : Nat) : Nat → (Nat → Int32) × (Nat → Int32 × Int32) × Nat
  | 0 => (fun _ => 0, fun _ => (0, 0), 0)
  | d + 1 =>
    if qm_dg (s (a + d)) = true ∧ qm_dg (s (a + d - 1)) = true then ((qm_tb s a d).1, qm_up (qm_tb s a d).2.1 ((qm_tb s a d).2.2 - 1) (1, ((qm_tb s a d).2.1 ((qm_tb s a d).2.2 - 1)).2 * 10 + (s (a + d) - 48)), (qm_tb s a d).2.2)
    else if qm_dg (s (a + d)) = true then (upd (qm_tb s a d).1 (qm_tb s a d).2.2 118, qm_up (qm_tb s a d).2.1 (qm_tb s a d).2.2 (1, s (a + d) - 48), (qm_tb s a d).2.2 + 1)
    else if qm_lt (s (a + d)) = true then (upd (qm_tb s a d).1 (qm_tb s a d).2.2 118, qm_up (qm_tb s a d).2.1 (qm_tb s a d).2.2 (2, s (a + d) - 97), (qm_tb s a d).2.2 + 1)
    else (upd (qm_tb s a d).1 (qm_tb s a d).2.2 (s (a + d)), qm_up (qm_tb s a d).2.1 (qm_tb s a d).2.2 (1, 0), (qm_tb s a d).2.2 + 1)
theorem qm_tb_len (s : Nat → Int32) (a : Nat) : ∀ d, (qm_tb s a d).2.2 ≤ d := by
  intro d
  induction d with
  | zero => exact Nat.le_refl 0
  | succ d ih =>
    unfold qm_tb
    (repeat' split) <;> simp only <;> omega
/-- behind a digit the last member is a number -/
theorem qm_tb_dg {s : Nat → Int32} {a : Nat} (h0 : qm_dg (s (a - 1)) = false) : ∀ d, qm_dg (s (a + d - 1)) = true → 0 < (qm_tb s a d).2.2 ∧ ((qm_tb s a d).2.1 ((qm_tb s a d).2.2 - 1)).1 = 1 := by
  intro d
  induction d with
  | zero => intro h; rw [Nat.add_zero, h0] at h; exact absurd h (by decide)
  | succ d ih =>
    intro h
    rw [show a + (d + 1) - 1 = a + d from by omega] at h
    unfold qm_tb
    by_cases z : qm_dg (s (a + d - 1)) = true
    · rw [if_pos ⟨h, z⟩]
      exact ⟨(ih z).1, by dsimp only; rw [qm_us]⟩
    · rw [if_neg (fun y => z y.2), if_pos h]
      refine ⟨Nat.succ_pos _, ?_⟩
      dsimp only
      rw [Nat.add_sub_cancel, qm_us]

section
variable {f_size f_good : Int32} {a_source a_begins a_times : Nat → Int32}
theorem qy_list_l {post : Int32 → SY → Prop} {s va : Nat → Int32} {a q e : Nat} (h1 : 1 ≤ a) (hq : a ≤ q) (he : q < e) (h80 : e ≤ 80) (hno : ∀ i, a ≤ i → i < q → s i ≠ 59 ∧ s i ≠ 123) (hend : s q = 59 ∨ s q = 123) (hck : qm_ck s e) (h0 : qm_dg (s (a - 1)) = false)
    (hp : ∀ K' P', (∀ j, j < (qm_tb s a (q - a)).2.2 → K' j = (qm_tb s a (q - a)).1 j ∧ P' j = qm_ev va ((qm_tb s a (q - a)).2.1 j)) → post (nI q) (f_size, nI e, f_good, nI (qm_tb s a (q - a)).2.2, a_source, s, va, K', P', a_begins, a_times)) :
    ∀ fuel d K' P', q - (a + d) < fuel → a + d ≤ q → (∀ j, j < (qm_tb s a d).2.2 → K' j = (qm_tb s a d).1 j ∧ P' j = qm_ev va ((qm_tb s a d).2.1 j)) →
    wY_list_7 post f_size (nI e) f_good fuel (nI (a + d)) (nI (qm_tb s a d).2.2) a_source s va K' P' a_begins a_times := by
  intro fuel
  induction fuel with
  | zero => intro d K' P' h; omega
  | succ fuel ih =>
    intro d K' P' hf hd I
    have hl := qm_tb_len s a d
    refine br_f (nI_ge (by omega) (by omega)) ?_
    rw [nI_clamp (show a + d < 2 ^ 31 by omega)]
    refine ⟨vp_in_nI (by omega) (by omega), nm_e ?_⟩
    by_cases hdq : a + d = q
    · have e1 : q - a = d := by omega
      rw [e1] at hp
      rcases hend with z | z
      · refine br_t (by rw [hdq]; exact z) ?_
        rw [hdq]; exact hp K' P' I
      · refine br_f (by rw [hdq, z]; decide) (br_t (by rw [hdq]; exact z) ?_)
        rw [hdq]; exact hp K' P' I
    · have nn := hno (a + d) (by omega) (by omega)
      refine br_f nn.1 (br_f nn.2 ?_)
      have vin : vp_in (nI (qm_tb s a d).2.2) 80 := vp_in_nI (by omega) (by omega)
      have ext : ∀ (k v : Int32) (p : Int32 × Int32), v = qm_ev va p → ∀ j, j < (qm_tb s a d).2.2 + 1 → upd K' (qm_tb s a d).2.2 k j = upd (qm_tb s a d).1 (qm_tb s a d).2.2 k j ∧ upd P' (qm_tb s a d).2.2 v j = qm_ev va (qm_up (qm_tb s a d).2.1 (qm_tb s a d).2.2 p j) := by
        intro k v p hv j hj
        by_cases z : j = (qm_tb s a d).2.2
        · subst z; rw [pk_us, pk_us, pk_us, qm_us]; exact ⟨rfl, hv⟩
        · rw [pk_un z, pk_un z, pk_un z, qm_un z]; exact I j (by omega)
      -- a new member
      have fresh : ¬ (qm_dg (s (a + d)) = true ∧ qm_dg (s (a + d - 1)) = true) → wY_list_92 post (wY_list_7 post f_size (nI e) f_good fuel) (nI (a + d)) (s (a + d)) f_size (nI e) f_good (nI (qm_tb s a d).2.2) a_source s va K' P' a_begins a_times := by
        intro hnn
        have st : ∀ (k v : Int32) (p : Int32 × Int32), v = qm_ev va p → qm_tb s a (d + 1) = (upd (qm_tb s a d).1 (qm_tb s a d).2.2 k, qm_up (qm_tb s a d).2.1 (qm_tb s a d).2.2 p, (qm_tb s a d).2.2 + 1) → wY_list_179 post (wY_list_7 post f_size (nI e) f_good fuel) (nI (a + d)) v (nI (qm_tb s a d).2.2) f_size (nI e) f_good (nI (qm_tb s a d).2.2) a_source s va (upd K' (qm_tb s a d).2.2 k) P' a_begins a_times := by
          intro k v p hv ht
          unfold wY_list_179
          rw [nI_clamp (show (qm_tb s a d).2.2 < 2 ^ 31 by omega)]
          refine ⟨vin, nm_e (nm_r (nI_1 _) (nm_r (nI_1 _) ?_))⟩
          have := ih (d + 1) (upd K' (qm_tb s a d).2.2 k) (upd P' (qm_tb s a d).2.2 v) (by omega) (by omega) (by rw [ht]; exact ext k v p hv)
          rw [ht] at this
          exact this
        unfold wY_list_92
        cases zd : qm_dg (s (a + d)) with
        | true =>
          have ht : qm_tb s a (d + 1) = (upd (qm_tb s a d).1 (qm_tb s a d).2.2 118, qm_up (qm_tb s a d).2.1 (qm_tb s a d).2.2 (1, s (a + d) - 48), (qm_tb s a d).2.2 + 1) := by
            rw [qm_tb, if_neg hnn, if_pos zd]
          refine qy_dg1 zd (br_f (by decide) ?_)
          unfold wY_list_108 wY_list_113
          refine br_f (by decide) ?_
          unfold wY_list_134
          rw [nI_clamp (show (qm_tb s a d).2.2 < 2 ^ 31 by omega), qm_nar118]
          refine ⟨vin, nm_e (qy_dg1 zd (br_f (by decide) ?_))⟩
          exact st 118 _ (1, s (a + d) - 48) rfl ht
        | false =>
          refine qy_dg0 zd (br_t rfl ?_)
          cases zl : qm_lt (s (a + d)) with
          | true =>
            have ht : qm_tb s a (d + 1) = (upd (qm_tb s a d).1 (qm_tb s a d).2.2 118, qm_up (qm_tb s a d).2.1 (qm_tb s a d).2.2 (2, s (a + d) - 97), (qm_tb s a d).2.2 + 1) := by
              rw [qm_tb, if_neg hnn, if_neg (by rw [zd]; decide), if_pos zl]
            refine qy_lt1 zl (br_f (by decide) ?_)
            unfold wY_list_108 wY_list_113
            refine br_f (by decide) ?_
            unfold wY_list_134
            rw [nI_clamp (show (qm_tb s a d).2.2 < 2 ^ 31 by omega), qm_nar118]
            refine ⟨vin, nm_e (qy_dg0 zd (br_t rfl (qy_lt1 zl (br_f (by decide) ⟨?_, ?_⟩))))⟩
            · obtain ⟨k, hk, e2⟩ := qm_lt_n zl
              rw [e2, show (97 : Int32) = nI 97 from rfl, pk_sub (by omega)]
              exact vp_in_nI (by omega) (by omega)
            · exact st 118 _ (2, s (a + d) - 97) rfl ht
          | false =>
            have ht : qm_tb s a (d + 1) = (upd (qm_tb s a d).1 (qm_tb s a d).2.2 (s (a + d)), qm_up (qm_tb s a d).2.1 (qm_tb s a d).2.2 (1, 0), (qm_tb s a d).2.2 + 1) := by
              rw [qm_tb, if_neg hnn, if_neg (by rw [zd]; decide), if_neg (by rw [zl]; decide)]
            refine qy_lt0 zl (br_t rfl ?_)
            unfold wY_list_113
            refine br_t rfl ?_
            unfold wY_list_134
            rw [nI_clamp (show (qm_tb s a d).2.2 < 2 ^ 31 by omega), hck (a + d) (by omega)]
            refine ⟨vin, nm_e (qy_dg0 zd (br_t rfl (qy_lt0 zl (br_t rfl ?_))))⟩
            exact st (s (a + d)) _ (1, 0) rfl ht
      cases zd : qm_dg (s (a + d)) with
      | false => exact qy_dg0 zd (br_t rfl (fresh (by rw [zd]; exact fun z => absurd z.1 (by decide))))
      | true =>
        refine qy_dg1 zd (br_f (by decide) ?_)
        have e1 : nI (a + d) - 1 = nI (a + d - 1) := by
          rw [show nI (a + d) = nI (a + d - 1 + 1) from congrArg nI (by omega), nI_pred]
        rw [e1, nI_clamp (show a + d - 1 < 2 ^ 31 by omega)]
        refine ⟨vp_in_nI (by omega) (by omega), ?_⟩
        cases zp : qm_dg (s (a + d - 1)) with
        | false => exact qy_dg0 zp (br_t rfl (fresh (by rw [zp]; exact fun z => absurd z.2 (by decide))))
        | true =>
          refine qy_dg1 zp (br_f (by decide) ?_)
          have L := qm_tb_dg h0 d zp
          have e3 : nI (qm_tb s a d).2.2 - 1 = nI ((qm_tb s a d).2.2 - 1) := by
            rw [show nI (qm_tb s a d).2.2 = nI ((qm_tb s a d).2.2 - 1 + 1) from congrArg nI (by omega), nI_pred]
          rw [e3, nI_clamp (show (qm_tb s a d).2.2 - 1 < 2 ^ 31 by omega)]
          have vin2 : vp_in (nI ((qm_tb s a d).2.2 - 1)) 80 := vp_in_nI (by omega) (by omega)
          refine ⟨vin2, vin2, nm_e (nm_r (nI_1 _) ?_)⟩
          have ht : qm_tb s a (d + 1) = ((qm_tb s a d).1, qm_up (qm_tb s a d).2.1 ((qm_tb s a d).2.2 - 1) (1, ((qm_tb s a d).2.1 ((qm_tb s a d).2.2 - 1)).2 * 10 + (s (a + d) - 48)), (qm_tb s a d).2.2) := by
            rw [qm_tb, if_pos ⟨zd, zp⟩]
          have := ih (d + 1) K' (upd P' ((qm_tb s a d).2.2 - 1) (P' ((qm_tb s a d).2.2 - 1) * 10 + (s (a + d) - 48))) (by omega) (by omega) (by
            rw [ht]
            intro j hj
            dsimp only at hj ⊢
            by_cases z : j = (qm_tb s a d).2.2 - 1
            · subst z
              rw [pk_us, qm_us]
              refine ⟨(I _ hj).1, ?_⟩
              rw [(I _ hj).2]
              unfold qm_ev
              rw [if_pos L.2, if_pos rfl]
            · rw [pk_un z, qm_un z]; exact I j hj)
          rw [ht] at this
          exact this

theorem qy_list {post : Int32 → SY → Prop} {s va K0 P0 : Nat → Int32} {c0 : Int32} {a q e : Nat} (h1 : 1 ≤ a) (hq : a ≤ q) (he : q < e) (h80 : e ≤ 80) (hno : ∀ i, a ≤ i → i < q → s i ≠ 59 ∧ s i ≠ 123) (hend : s q = 59 ∨ s q = 123) (hck : qm_ck s e) (h0 : qm_dg (s (a - 1)) = false)
    (hp : ∀ K' P', (∀ j, j < (qm_tb s a (q - a)).2.2 → K' j = (qm_tb s a (q - a)).1 j ∧ P' j = qm_ev va ((qm_tb s a (q - a)).2.1 j)) → post (nI q) (f_size, nI e, f_good, nI (qm_tb s a (q - a)).2.2, a_source, s, va, K', P', a_begins, a_times)) :
    wpY_list post (f_size, nI e, f_good, c0, a_source, s, va, K0, P0, a_begins, a_times) (nI a) := by
  unfold wpY_list
  dsimp only
  exact ⟨q - a + 1, qy_list_l h1 hq he h80 hno hend hck h0 hp (q - a + 1) 0 K0 P0 (by omega) (by omega) (fun j hj => absurd hj (Nat.not_lt_zero j))⟩
end
end
section
/-! the component's node arrays hold a forest -/
def qm_at : qm_V → Nat → Int32 × Int32 × Nat
  | [], _ => (0, 0, 0)
  | t :: _, 0 => t
  | _ :: l, j + 1 => qm_at l j
theorem qm_at_l {b : qm_V} : ∀ {a : qm_V} {j : Nat}, j < a.length → qm_at (a ++ b) j = qm_at a j
  | [], _, h => absurd h (Nat.not_lt_zero _)
  | _ :: _, 0, _ => rfl
  | _ :: a, j + 1, h => qm_at_l (a := a) (Nat.lt_of_succ_lt_succ h)
theorem qm_at_r {b : qm_V} : ∀ (a : qm_V) (j : Nat), qm_at (a ++ b) (a.length + j) = qm_at b j
  | [], j => by rw [List.length_nil, Nat.zero_add]; rfl
  | t :: a, j => by
    rw [List.length_cons, show a.length + 1 + j = (a.length + j) + 1 from by omega]
    exact qm_at_r a j
theorem qm_at_sh : ∀ {a : qm_V} {j : Nat}, j < a.length → qm_at (qm_sh a) j = ((qm_at a j).1, (qm_at a j).2.1, (qm_at a j).2.2 + 1)
  | [], _, h => absurd h (Nat.not_lt_zero _)
  | _ :: _, 0, _ => rfl
  | _ :: a, j + 1, h => qm_at_sh (a := a) (Nat.lt_of_succ_lt_succ h)
theorem qm_sh_len (a : qm_V) : (qm_sh a).length = a.length := by unfold qm_sh; rw [List.length_map]
theorem qm_sh_app (a b : qm_V) : qm_sh (a ++ b) = qm_sh a ++ qm_sh b := by unfold qm_sh; rw [List.map_append]
theorem qm_nd_l {l : qm_V} {x : Int32 × Int32 × Nat} {j : Nat} (h : j < l.length) : qm_at (qm_sh l ++ [x]) j = ((qm_at l j).1, (qm_at l j).2.1, (qm_at l j).2.2 + 1) := by
  rw [qm_at_l (by rw [qm_sh_len]; exact h), qm_at_sh h]
theorem qm_nd_r (l : qm_V) (x : Int32 × Int32 × Nat) : qm_at (qm_sh l ++ [x]) l.length = x := by
  have := qm_at_r (b := [x]) (qm_sh l) 0
  rw [qm_sh_len, Nat.add_zero] at this
  exact this
theorem qm_nd_len (l : qm_V) (x : Int32 × Int32 × Nat) : (qm_sh l ++ [x]).length = l.length + 1 := by
  rw [List.length_append, qm_sh_len]; rfl
theorem qm_bn_eq (k : Int32) (a b : qm_V) : qm_bn k a b = qm_sh (a ++ b) ++ [(k, 0, 0)] := by
  unfold qm_bn; rw [qm_sh_app, List.append_assoc]

def qm_un1 (k : Int32) : Prop := k = 8 ∨ 1 ≤ qm_rk k
/-- each node of l, which stands at lo, has its kind and its operands one level below it -/
def qm_lc (ki le ri : Nat → Int32) (lo : Nat) (l : qm_V) : Prop := ∀ j, j < l.length →
  ki (lo + j) = (qm_at l j).1 ∧ ((qm_at l j).1 = 1 ∨ (qm_at l j).1 = 2 → le (lo + j) = (qm_at l j).2.1) ∧ ((qm_at l j).1 = 1 ∨ (qm_at l j).1 = 2 ∨ qm_un1 (qm_at l j).1)
  ∧ (qm_un1 (qm_at l j).1 → ∃ c, c < j ∧ le (lo + j) = nI (lo + c) ∧ (qm_at l c).2.2 = (qm_at l j).2.2 + 1)
  ∧ (1 ≤ qm_rk (qm_at l j).1 → ∃ c, c < j ∧ ri (lo + j) = nI (lo + c) ∧ (qm_at l c).2.2 = (qm_at l j).2.2 + 1)
/-- node c of l has a node above it -/
def qm_lp (le ri : Nat → Int32) (lo : Nat) (l : qm_V) (c : Nat) : Prop := ∃ j, c < j ∧ j < l.length ∧ ((qm_un1 (qm_at l j).1 ∧ le (lo + j) = nI (lo + c)) ∨ (1 ≤ qm_rk (qm_at l j).1 ∧ ri (lo + j) = nI (lo + c)))
def qm_ly (ki le ri : Nat → Int32) (lo : Nat) (l : qm_V) : Prop := 0 < l.length ∧ (qm_at l (l.length - 1)).2.2 = 0 ∧ qm_lc ki le ri lo l ∧ ∀ c, c + 1 < l.length → qm_lp le ri lo l c

theorem qm_lc_app {ki le ri : Nat → Int32} {lo : Nat} {a b : qm_V} (h : qm_lc ki le ri lo a) (g : qm_lc ki le ri (lo + a.length) b) : qm_lc ki le ri lo (a ++ b) := by
  intro j hj
  rw [List.length_append] at hj
  by_cases z : j < a.length
  · rw [qm_at_l z]
    obtain ⟨h1, h2, h3, h4, h5⟩ := h j z
    refine ⟨h1, h2, h3, fun y => ?_, fun y => ?_⟩
    · obtain ⟨c, c1, c2, c3⟩ := h4 y
      exact ⟨c, c1, c2, by rw [qm_at_l (by omega)]; exact c3⟩
    · obtain ⟨c, c1, c2, c3⟩ := h5 y
      exact ⟨c, c1, c2, by rw [qm_at_l (by omega)]; exact c3⟩
  · obtain ⟨i, rfl⟩ : ∃ i, j = a.length + i := ⟨j - a.length, by omega⟩
    rw [qm_at_r, ← Nat.add_assoc]
    obtain ⟨h1, h2, h3, h4, h5⟩ := g i (by omega)
    refine ⟨h1, h2, h3, fun y => ?_, fun y => ?_⟩
    · obtain ⟨c, c1, c2, c3⟩ := h4 y
      exact ⟨a.length + c, by omega, by rw [← Nat.add_assoc]; exact c2, by rw [qm_at_r]; exact c3⟩
    · obtain ⟨c, c1, c2, c3⟩ := h5 y
      exact ⟨a.length + c, by omega, by rw [← Nat.add_assoc]; exact c2, by rw [qm_at_r]; exact c3⟩
theorem qm_lc_keep {ki le ri ki' le' ri' : Nat → Int32} {lo : Nat} {l : qm_V} (h : qm_lc ki le ri lo l) (g : ∀ j, j < lo + l.length → ki' j = ki j ∧ le' j = le j ∧ ri' j = ri j) : qm_lc ki' le' ri' lo l := by
  intro j hj
  obtain ⟨g1, g2, g3⟩ := g (lo + j) (by omega)
  rw [g1, g2, g3]
  exact h j hj
theorem qm_lp_keep {le ri le' ri' : Nat → Int32} {lo c : Nat} {l : qm_V} (h : qm_lp le ri lo l c) (g : ∀ j, j < lo + l.length → le' j = le j ∧ ri' j = ri j) : qm_lp le' ri' lo l c := by
  obtain ⟨j, h1, h2, h3⟩ := h
  refine ⟨j, h1, h2, ?_⟩
  rw [(g (lo + j) (by omega)).1, (g (lo + j) (by omega)).2]
  exact h3
theorem qm_ly_keep {ki le ri ki' le' ri' : Nat → Int32} {lo : Nat} {l : qm_V} (h : qm_ly ki le ri lo l) (g : ∀ j, j < lo + l.length → ki' j = ki j ∧ le' j = le j ∧ ri' j = ri j) : qm_ly ki' le' ri' lo l :=
  ⟨h.1, h.2.1, qm_lc_keep h.2.2.1 g, fun c hc => qm_lp_keep (h.2.2.2 c hc) (fun j hj => (g j hj).2)⟩
theorem qm_lp_l {le ri : Nat → Int32} {lo c : Nat} {a b : qm_V} (h : qm_lp le ri lo a c) : qm_lp le ri lo (a ++ b) c := by
  obtain ⟨j, h1, h2, h3⟩ := h
  refine ⟨j, h1, by rw [List.length_append]; omega, ?_⟩
  rw [qm_at_l h2]; exact h3
theorem qm_lp_r {le ri : Nat → Int32} {lo c : Nat} {a b : qm_V} (h : qm_lp le ri (lo + a.length) b c) : qm_lp le ri lo (a ++ b) (a.length + c) := by
  obtain ⟨j, h1, h2, h3⟩ := h
  refine ⟨a.length + j, by omega, by rw [List.length_append]; omega, ?_⟩
  rw [qm_at_r, ← Nat.add_assoc, ← Nat.add_assoc]; exact h3
theorem qm_lc_nd {ki le ri : Nat → Int32} {lo : Nat} {l : qm_V} {k : Int32} (h : qm_lc ki le ri lo l) (hk : qm_un1 k) (n1 : ki (lo + l.length) = k) (n2 : ∃ c, c < l.length ∧ le (lo + l.length) = nI (lo + c) ∧ (qm_at l c).2.2 = 0) (n3 : 1 ≤ qm_rk k → ∃ c, c < l.length ∧ ri (lo + l.length) = nI (lo + c) ∧ (qm_at l c).2.2 = 0) : qm_lc ki le ri lo (qm_sh l ++ [(k, 0, 0)]) := by
  intro j hj
  rw [qm_nd_len] at hj
  by_cases z : j < l.length
  · rw [qm_nd_l z]
    obtain ⟨h1, h2, h3, h4, h5⟩ := h j z
    refine ⟨h1, h2, h3, fun y => ?_, fun y => ?_⟩
    · obtain ⟨c, c1, c2, c3⟩ := h4 y
      exact ⟨c, c1, c2, by rw [qm_nd_l (by omega)]; exact congrArg (· + 1) c3⟩
    · obtain ⟨c, c1, c2, c3⟩ := h5 y
      exact ⟨c, c1, c2, by rw [qm_nd_l (by omega)]; exact congrArg (· + 1) c3⟩
  · obtain rfl : j = l.length := by omega
    rw [qm_nd_r]
    refine ⟨n1, fun y => ?_, Or.inr (Or.inr hk), fun _ => ?_, fun y => ?_⟩
    · exfalso
      rcases hk with w | w
      · rcases y with y | y <;> rw [w] at y <;> exact absurd y (by decide)
      · rcases y with y | y <;> (dsimp only at y; rw [y] at w; exact absurd w (by decide))
    · obtain ⟨c, c1, c2, c3⟩ := n2
      exact ⟨c, c1, c2, by rw [qm_nd_l c1]; exact congrArg (· + 1) c3⟩
    · obtain ⟨c, c1, c2, c3⟩ := n3 y
      exact ⟨c, c1, c2, by rw [qm_nd_l c1]; exact congrArg (· + 1) c3⟩
theorem qm_lp_nd {le ri : Nat → Int32} {lo c : Nat} {l : qm_V} {x : Int32 × Int32 × Nat} (h : qm_lp le ri lo l c) : qm_lp le ri lo (qm_sh l ++ [x]) c := by
  obtain ⟨j, h1, h2, h3⟩ := h
  refine ⟨j, h1, by rw [qm_nd_len]; omega, ?_⟩
  rw [qm_nd_l h2]; exact h3
theorem qm_lp_new {le ri : Nat → Int32} {lo c : Nat} {l : qm_V} {x : Int32 × Int32 × Nat} (hc : c < l.length) (h : (qm_un1 x.1 ∧ le (lo + l.length) = nI (lo + c)) ∨ (1 ≤ qm_rk x.1 ∧ ri (lo + l.length) = nI (lo + c))) : qm_lp le ri lo (qm_sh l ++ [x]) c := by
  refine ⟨l.length, hc, by rw [qm_nd_len]; omega, ?_⟩
  rw [qm_nd_r]; exact h

theorem qm_ly_lf {ki le ri : Nat → Int32} {lo : Nat} {p : Int32 × Int32} (hp : p.1 = 1 ∨ p.1 = 2) (h1 : ki lo = p.1) (h2 : le lo = p.2) : qm_ly ki le ri lo (qm_lf p) := by
  refine ⟨Nat.succ_pos 0, rfl, ?_, fun c hc => ?_⟩
  · intro j hj
    have hj : j < 1 := hj
    obtain rfl : j = 0 := by omega
    rw [Nat.add_zero]
    have nu : ¬ qm_un1 p.1 := by
      intro y; unfold qm_un1 at y
      rcases hp with z | z <;> rw [z] at y <;> exact absurd y (by decide)
    refine ⟨h1, fun _ => h2, ?_, fun y => absurd y nu, fun y => absurd (Or.inr y) nu⟩
    rcases hp with z | z
    · exact Or.inl z
    · exact Or.inr (Or.inl z)
  · have hc : c + 1 < 1 := hc
    omega
theorem qm_ly_ng {ki le ri ki' le' ri' : Nat → Int32} {lo : Nat} {l : qm_V} (h : qm_ly ki le ri lo l) (g : ∀ j, j < lo + l.length → ki' j = ki j ∧ le' j = le j ∧ ri' j = ri j) (n1 : ki' (lo + l.length) = 8) (n2 : le' (lo + l.length) = nI (lo + l.length - 1)) : qm_ly ki' le' ri' lo (qm_ng l) := by
  obtain ⟨h1, h2, h3, h4⟩ := h
  unfold qm_ng
  have n2' : le' (lo + l.length) = nI (lo + (l.length - 1)) := by rw [n2]; exact congrArg nI (by omega)
  refine ⟨by rw [qm_nd_len]; omega, ?_, ?_, ?_⟩
  · rw [qm_nd_len, Nat.add_sub_cancel, qm_nd_r]
  · exact qm_lc_nd (qm_lc_keep h3 g) (Or.inl rfl) n1 ⟨l.length - 1, by omega, n2', h2⟩ (fun y => absurd y (by decide))
  · intro c hc
    rw [qm_nd_len] at hc
    by_cases z : c + 1 < l.length
    · exact qm_lp_nd (qm_lp_keep (h4 c z) (fun j hj => (g j hj).2))
    · obtain rfl : c = l.length - 1 := by omega
      exact qm_lp_new (by omega) (Or.inl ⟨Or.inl rfl, n2'⟩)
theorem qm_ly_bn {ki le ri ki' le' ri' : Nat → Int32} {lo : Nat} {a b : qm_V} {k : Int32} (h : qm_ly ki le ri lo a) (f : qm_ly ki le ri (lo + a.length) b) (hk : 1 ≤ qm_rk k) (g : ∀ j, j < lo + a.length + b.length → ki' j = ki j ∧ le' j = le j ∧ ri' j = ri j) (n1 : ki' (lo + a.length + b.length) = k) (n2 : le' (lo + a.length + b.length) = nI (lo + a.length - 1)) (n3 : ri' (lo + a.length + b.length) = nI (lo + a.length + b.length - 1)) : qm_ly ki' le' ri' lo (qm_bn k a b) := by
  obtain ⟨h1, h2, h3, h4⟩ := h
  obtain ⟨f1, f2, f3, f4⟩ := f
  rw [qm_bn_eq]
  have la : (a ++ b).length = a.length + b.length := List.length_append
  have e1 : lo + (a ++ b).length = lo + a.length + b.length := by rw [la]; omega
  have n2' : le' (lo + (a ++ b).length) = nI (lo + (a.length - 1)) := by rw [e1, n2]; exact congrArg nI (by omega)
  have n3' : ri' (lo + (a ++ b).length) = nI (lo + (a.length + (b.length - 1))) := by rw [e1, n3]; exact congrArg nI (by omega)
  have g' : ∀ j, j < lo + (a ++ b).length → ki' j = ki j ∧ le' j = le j ∧ ri' j = ri j := by rw [e1]; exact g
  refine ⟨by rw [qm_nd_len]; omega, ?_, ?_, ?_⟩
  · rw [qm_nd_len, Nat.add_sub_cancel, qm_nd_r]
  · refine qm_lc_nd (qm_lc_keep (qm_lc_app h3 f3) g') (Or.inr hk) (by rw [e1]; exact n1) ⟨a.length - 1, by omega, n2', ?_⟩ (fun _ => ⟨a.length + (b.length - 1), by omega, n3', ?_⟩)
    · rw [qm_at_l (by omega)]; exact h2
    · rw [qm_at_r]; exact f2
  · intro c hc
    rw [qm_nd_len, la] at hc
    by_cases z : c + 1 < a.length
    · exact qm_lp_nd (qm_lp_keep (qm_lp_l (h4 c z)) (fun j hj => (g' j hj).2))
    · by_cases z2 : c + 1 = a.length
      · obtain rfl : c = a.length - 1 := by omega
        exact qm_lp_new (by omega) (Or.inl ⟨Or.inr hk, n2'⟩)
      · obtain ⟨i, rfl⟩ : ∃ i, c = a.length + i := ⟨c - a.length, by omega⟩
        by_cases z3 : i + 1 < b.length
        · exact qm_lp_nd (qm_lp_keep (qm_lp_r (h := f4 i z3)) (fun j hj => (g' j hj).2))
        · obtain rfl : i = b.length - 1 := by omega
          exact qm_lp_new (by omega) (Or.inr ⟨hk, n3'⟩)

/-- the trees that aren't joined yet, the last one first, fill n nodes -/
def qm_fo (ki le ri tr : Nat → Int32) : List qm_V → Nat → Prop
  | [], n => n = 0
  | l :: vs, n => ∃ lo, n = lo + l.length ∧ qm_ly ki le ri lo l ∧ tr vs.length = nI (n - 1) ∧ qm_fo ki le ri tr vs lo
theorem qm_fo_keep {ki le ri tr ki' le' ri' tr' : Nat → Int32} : ∀ {vs : List qm_V} {n : Nat}, qm_fo ki le ri tr vs n → (∀ j, j < n → ki' j = ki j ∧ le' j = le j ∧ ri' j = ri j) → (∀ j, j < vs.length → tr' j = tr j) → qm_fo ki' le' ri' tr' vs n
  | [], _, h, _, _ => h
  | l :: vs, n, h, g, t => by
    obtain ⟨lo, h1, h2, h3, h4⟩ := h
    subst h1
    refine ⟨lo, rfl, qm_ly_keep h2 g, ?_, qm_fo_keep h4 (fun j hj => g j (by omega)) (fun j hj => t j (by rw [List.length_cons]; omega))⟩
    rw [t _ (by rw [List.length_cons]; omega)]; exact h3
theorem qm_fo_len {ki le ri tr : Nat → Int32} : ∀ {vs : List qm_V} {n : Nat}, qm_fo ki le ri tr vs n → vs.length ≤ n
  | [], _, _ => Nat.zero_le _
  | l :: vs, n, h => by
    obtain ⟨lo, h1, h2, h3, h4⟩ := h
    have := qm_fo_len h4
    have := h2.1
    rw [List.length_cons]; omega
/-- the waiting operators, the last one first -/
def qm_wa (wa : Nat → Int32) : List Int32 → Prop
  | [] => True
  | w :: ws => wa ws.length = w ∧ qm_wa wa ws
theorem qm_wa_keep {wa wa' : Nat → Int32} : ∀ {ws : List Int32}, qm_wa wa ws → (∀ j, j < ws.length → wa' j = wa j) → qm_wa wa' ws
  | [], _, _ => trivial
  | w :: ws, h, g => ⟨by rw [g _ (by rw [List.length_cons]; omega)]; exact h.1, qm_wa_keep h.2 (fun j hj => g j (by rw [List.length_cons]; omega))⟩
def qm_in : List Int32 → Nat
  | [] => 0
  | w :: ws => (if w = 8 ∨ w = 9 then 1 else 0) + qm_in ws
def qm_nb : List Int32 → Nat
  | [] => 0
  | w :: ws => (if 1 ≤ qm_rk w then 1 else 0) + qm_nb ws
theorem qm_in_le : ∀ ws : List Int32, qm_in ws ≤ ws.length
  | [] => Nat.le_refl 0
  | w :: ws => by
    have := qm_in_le ws
    unfold qm_in
    rw [List.length_cons]
    split <;> omega
def qm_wv (ws : List Int32) : Prop := ∀ w, w ∈ ws → w = 8 ∨ w = 9 ∨ 1 ≤ qm_rk w
/-- the component's trees and waiting operators are vs, ws; nodes and waiting operators together are at most B -/
def qm_xs (B : Nat) (f_nodes f_trees f_waiting f_inside : Int32) (a_kind a_left a_right a_tree a_waits : Nat → Int32) (vs : List qm_V) (ws : List Int32) : Prop :=
  ∃ N, qm_fo a_kind a_left a_right a_tree vs N ∧ f_nodes = nI N ∧ f_trees = nI vs.length ∧ f_waiting = nI ws.length ∧ f_inside = nI (qm_in ws) ∧ qm_wa a_waits ws ∧ qm_wv ws ∧ N + ws.length ≤ B
end
section
/-! the component's small methods -/
section
variable {f_size f_at f_wrong f_deep f_nodes f_trees f_waiting f_inside f_blocks f_ready f_length f_head f_tail f_running f_stored : Int32} {a_source a_kind a_left a_right a_level a_tree a_waits a_block a_op a_arg a_ring a_turnsLeft a_var : Nat → Int32}
theorem qx_newNode {post : Int32 → SX → Prop} {N : Nat} {k x y : Int32} (hN : N < 95) (hp : post (nI N) (f_size, f_at, f_wrong, f_deep, nI (N + 1), f_trees, f_waiting, f_inside, f_blocks, f_ready, f_length, f_head, f_tail, f_running, f_stored, a_source, upd a_kind N k, upd a_left N x, upd a_right N y, a_level, a_tree, a_waits, a_block, a_op, a_arg, a_ring, a_turnsLeft, a_var)) : wpX_newNode post (f_size, f_at, f_wrong, f_deep, nI N, f_trees, f_waiting, f_inside, f_blocks, f_ready, f_length, f_head, f_tail, f_running, f_stored, a_source, a_kind, a_left, a_right, a_level, a_tree, a_waits, a_block, a_op, a_arg, a_ring, a_turnsLeft, a_var) k x y := by
  unfold wpX_newNode
  dsimp only
  refine br_f (nI_ge (b := 95) hN (by decide)) ?_
  unfold wX_newNode_18
  rw [nI_clamp (show N < 2 ^ 31 by omega)]
  have v : vp_in (nI N) 96 := vp_in_nI (by omega) (by omega)
  exact ⟨v, nm_e ⟨v, nm_e ⟨v, nm_e (nm_r (nI_1 N) hp)⟩⟩⟩

theorem qx_reduce {post : SX → Prop} {B : Nat} {vs : List qm_V} {w : Int32} {ws : List Int32} (hB : B ≤ 90) (h : qm_xs B f_nodes f_trees f_waiting f_inside a_kind a_left a_right a_tree a_waits vs (w :: ws)) (hr : w = 8 ∧ 1 ≤ vs.length ∨ 1 ≤ qm_rk w ∧ 2 ≤ vs.length) (hp : ∀ (f_nodes f_trees f_waiting f_inside : Int32) (a_kind a_left a_right a_tree a_waits : Nat → Int32), qm_xs B f_nodes f_trees f_waiting f_inside a_kind a_left a_right a_tree a_waits (qm_red qm_ng qm_bn w vs) ws → post (f_size, f_at, f_wrong, f_deep, f_nodes, f_trees, f_waiting, f_inside, f_blocks, f_ready, f_length, f_head, f_tail, f_running, f_stored, a_source, a_kind, a_left, a_right, a_level, a_tree, a_waits, a_block, a_op, a_arg, a_ring, a_turnsLeft, a_var)) : wpX_reduce post (f_size, f_at, f_wrong, f_deep, f_nodes, f_trees, f_waiting, f_inside, f_blocks, f_ready, f_length, f_head, f_tail, f_running, f_stored, a_source, a_kind, a_left, a_right, a_level, a_tree, a_waits, a_block, a_op, a_arg, a_ring, a_turnsLeft, a_var) := by
  obtain ⟨N, fo, rfl, rfl, rfl, rfl, wa, wv, bd⟩ := h
  rw [List.length_cons] at bd
  have hvl := qm_fo_len fo
  unfold wpX_reduce
  refine nm_r (nI_pred ws.length) ⟨vp_in_nI (by omega) (by omega), nm_r (e' := w) (by rw [nI_clamp (show ws.length < 2 ^ 31 by omega)]; exact wa.1) ?_⟩
  rcases hr with ⟨rfl, hl⟩ | ⟨hw, hl⟩
  · refine br_t rfl ?_
    match vs, fo, hl, hvl, hp with
    | a :: vs, fo, _, hvl, hp =>
      obtain ⟨lo, rfl, ly, ht, fo⟩ := fo
      rw [List.length_cons] at hvl
      have l0 := ly.1
      rw [List.length_cons, nI_pred, nI_clamp (show vs.length < 2 ^ 31 by omega), ht]
      refine nm_e ⟨vp_in_nI (by omega) (by omega), qx_newNode (by omega) ?_⟩
      dsimp only
      rw [nI_pred, nI_clamp (show vs.length < 2 ^ 31 by omega)]
      refine ⟨vp_in_nI (by omega) (by omega), nm_e (hp _ _ _ _ _ _ _ _ _ ⟨lo + a.length + 1, ?_, rfl, ?_, rfl, ?_, wa.2, fun v hv => wv v (List.mem_cons_of_mem _ hv), by omega⟩)⟩
      · have e : qm_red qm_ng qm_bn 8 (a :: vs) = qm_ng a :: vs := by cases vs <;> rfl
        rw [e]
        have lg : (qm_ng a).length = a.length + 1 := by unfold qm_ng; exact qm_nd_len _ _
        refine ⟨lo, by rw [lg]; omega, qm_ly_ng ly (fun j hj => ⟨pk_un (by omega), pk_un (by omega), pk_un (by omega)⟩) pk_us pk_us, ?_, ?_⟩
        · rw [pk_us]; exact congrArg nI (by omega)
        · exact qm_fo_keep fo (fun j hj => ⟨pk_un (by omega), pk_un (by omega), pk_un (by omega)⟩) (fun j hj => pk_un (by omega))
      · have e : qm_red qm_ng qm_bn 8 (a :: vs) = qm_ng a :: vs := by cases vs <;> rfl
        rw [e]; rfl
      · have e : qm_in (8 :: ws) = qm_in ws + 1 := by
          show (if (8 : Int32) = 8 ∨ (8 : Int32) = 9 then 1 else 0) + qm_in ws = _
          rw [if_pos (Or.inl rfl)]; omega
        rw [e, nI_pred]
  · have w8 : w ≠ 8 := by intro z; rw [z] at hw; exact absurd hw (by decide)
    refine br_f w8 ?_
    match vs, fo, hl, hvl, hp with
    | b :: a :: vs, fo, _, hvl, hp =>
      obtain ⟨lob, rfl, lyb, htb, lo, rfl, lya, hta, fo⟩ := fo
      rw [List.length_cons] at hvl htb
      rw [List.length_cons] at hvl
      have l0 := lya.1
      have l1 := lyb.1
      rw [List.length_cons, List.length_cons, nI_pred, show nI (vs.length + 1 + 1) - 2 = nI vs.length from by rw [show (2 : Int32) = nI 2 from rfl, pk_sub (by omega)]; exact congrArg nI (by omega), nI_clamp (show vs.length < 2 ^ 31 by omega), nI_clamp (show vs.length + 1 < 2 ^ 31 by omega), hta, htb]
      refine ⟨vp_in_nI (by omega) (by omega), vp_in_nI (by omega) (by omega), qx_newNode (by omega) ?_⟩
      dsimp only
      rw [nI_pred]
      refine nm_e ?_
      rw [nI_pred, nI_clamp (show vs.length < 2 ^ 31 by omega)]
      have e : qm_red qm_ng qm_bn w (b :: a :: vs) = qm_bn w a b :: vs := by
        unfold qm_red; exact if_neg w8
      refine ⟨vp_in_nI (by omega) (by omega), nm_e (hp _ _ _ _ _ _ _ _ _ ⟨lo + a.length + b.length + 1, ?_, rfl, ?_, rfl, ?_, wa.2, fun v hv => wv v (List.mem_cons_of_mem _ hv), by omega⟩)⟩
      · rw [e]
        have lg : (qm_bn w a b).length = a.length + b.length + 1 := by rw [qm_bn_eq, qm_nd_len, List.length_append]
        refine ⟨lo, by rw [lg]; omega, qm_ly_bn lya lyb hw (fun j hj => ⟨pk_un (by omega), pk_un (by omega), pk_un (by omega)⟩) pk_us pk_us pk_us, ?_, ?_⟩
        · rw [pk_us]; exact congrArg nI (by omega)
        · exact qm_fo_keep fo (fun j hj => ⟨pk_un (by omega), pk_un (by omega), pk_un (by omega)⟩) (fun j hj => pk_un (by omega))
      · rw [e]; rfl
      · have e : qm_in (w :: ws) = qm_in ws := by
          conv => lhs; unfold qm_in
          rw [if_neg (fun z => by
            rcases z with z | z
            · exact w8 z
            · rw [z] at hw; exact absurd hw (by decide)), Nat.zero_add]
        rw [e]

theorem qx_rank {post : Int32 → Prop} {w : Int32} (hp : post (nI (qm_rk w))) : wpX_rank post w := by
  unfold wpX_rank
  unfold qm_rk at hp
  by_cases h3 : w = 3
  · rw [if_pos h3] at hp; exact br_t h3 hp
  · rw [if_neg h3] at hp
    refine br_f h3 ?_
    by_cases h4 : w = 4
    · rw [if_pos h4] at hp; exact br_t h4 hp
    · rw [if_neg h4] at hp
      refine br_f h4 ?_
      by_cases l5 : w < 5
      · have n5 : w ≠ 5 := by intro z; rw [z] at l5; exact absurd l5 (by decide)
        have n6 : w ≠ 6 := by intro z; rw [z] at l5; exact absurd l5 (by decide)
        have n7 : w ≠ 7 := by intro z; rw [z] at l5; exact absurd l5 (by decide)
        rw [if_neg n5, if_neg n6, if_neg n7] at hp
        exact br_t l5 hp
      · refine br_f l5 ?_
        by_cases g7 : 7 < w
        · have n5 : w ≠ 5 := by intro z; rw [z] at g7; exact absurd g7 (by decide)
          have n6 : w ≠ 6 := by intro z; rw [z] at g7; exact absurd g7 (by decide)
          have n7 : w ≠ 7 := by intro z; rw [z] at g7; exact absurd g7 (by decide)
          rw [if_neg n5, if_neg n6, if_neg n7] at hp
          exact br_t g7 hp
        · refine br_f g7 ?_
          have h0 : ¬ w < 0 := fun z => l5 (Int32.lt_of_lt_of_le z (by decide))
          obtain ⟨j, hj, rfl⟩ := nI_of h0
          rw [show (5 : Int32) = nI 5 from rfl, nI_ltI hj (by decide)] at l5
          rw [show (7 : Int32) = nI 7 from rfl, nI_ltI (by decide) hj] at g7
          have : j = 5 ∨ j = 6 ∨ j = 7 := by omega
          rcases this with rfl | rfl | rfl <;> exact hp

theorem qx_to_l {post : SX → Prop} {B l : Nat} (hB : B ≤ 90) (hl : 1 ≤ l) (hl2 : l ≤ 2) : ∀ (ws : List Int32) (vs : List qm_V) (fuel i : Nat) (f_nodes f_trees f_waiting f_inside : Int32) (a_kind a_left a_right a_tree a_waits : Nat → Int32), ws.length < fuel → i + ws.length < 96 → qm_xs B f_nodes f_trees f_waiting f_inside a_kind a_left a_right a_tree a_waits vs ws → vs.length = qm_nb ws + 1 →
    (∀ (f_nodes f_trees f_waiting f_inside : Int32) (a_kind a_left a_right a_tree a_waits : Nat → Int32), qm_xs B f_nodes f_trees f_waiting f_inside a_kind a_left a_right a_tree a_waits (qm_to qm_ng qm_bn l vs ws).1 (qm_to qm_ng qm_bn l vs ws).2 → (qm_to qm_ng qm_bn l vs ws).1.length = qm_nb (qm_to qm_ng qm_bn l vs ws).2 + 1 → post (f_size, f_at, f_wrong, f_deep, f_nodes, f_trees, f_waiting, f_inside, f_blocks, f_ready, f_length, f_head, f_tail, f_running, f_stored, a_source, a_kind, a_left, a_right, a_level, a_tree, a_waits, a_block, a_op, a_arg, a_ring, a_turnsLeft, a_var)) → wX_reduceTo_2 post (nI l) fuel (nI i) f_size f_at f_wrong f_deep f_nodes f_trees f_waiting f_inside f_blocks f_ready f_length f_head f_tail f_running f_stored a_source a_kind a_left a_right a_level a_tree a_waits a_block a_op a_arg a_ring a_turnsLeft a_var := by
  intro ws
  induction ws with
  | nil =>
    intro vs fuel i f_nodes f_trees f_waiting f_inside a_kind a_left a_right a_tree a_waits hf hi h hv hp
    cases fuel with
    | zero => omega
    | succ fuel =>
      have h' := h
      obtain ⟨N, fo, rfl, rfl, rfl, rfl, wa, wv, bd⟩ := h'
      exact br_f (nI_ge (b := 96) (by omega) (by decide)) (br_t (by decide) (hp _ _ _ _ _ _ _ _ _ h hv))
  | cons w ws ih =>
    intro vs fuel i f_nodes f_trees f_waiting f_inside a_kind a_left a_right a_tree a_waits hf hi h hv hp
    rw [List.length_cons] at hf hi
    cases fuel with
    | zero => omega
    | succ fuel =>
      refine br_f (nI_ge (b := 96) (by omega) (by decide)) ?_
      have h' := h
      obtain ⟨N, fo, e1, e2, e3, e4, wa, wv, bd⟩ := h'
      rw [List.length_cons] at bd e3
      subst e3
      refine br_f (nI_nle (by omega) (by omega)) ?_
      rw [nI_pred, nI_clamp (show ws.length < 2 ^ 31 by omega), wa.1]
      refine ⟨vp_in_nI (by omega) (by omega), qx_rank ?_⟩
      by_cases hw : l ≤ qm_rk w
      · refine br_f (nI_nlt hw (by have := qm_rk2 w; omega)) ?_
        have nbw : qm_nb (w :: ws) = qm_nb ws + 1 := by
          conv => lhs; unfold qm_nb
          rw [if_pos (by omega)]; omega
        have w8 : w ≠ 8 := by intro z; rw [z, show qm_rk 8 = 0 from rfl] at hw; omega
        refine qx_reduce hB h (Or.inr ⟨by omega, by omega⟩) ?_
        intro f_nodes f_trees f_waiting f_inside a_kind a_left a_right a_tree a_waits h2
        dsimp only
        refine nm_r (nI_1 i) (ih _ fuel (i + 1) _ _ _ _ _ _ _ _ _ (by omega) (by omega) h2 ?_ ?_)
        · match vs, hv with
          | [], hv => rw [nbw] at hv; exact absurd hv (by simp)
          | [a], hv => rw [nbw] at hv; simp at hv
          | b :: a :: vs, hv =>
            have e : qm_red qm_ng qm_bn w (b :: a :: vs) = qm_bn w a b :: vs := by
              unfold qm_red; exact if_neg w8
            rw [e]
            rw [nbw] at hv
            simp only [List.length_cons] at hv ⊢
            omega
        · unfold qm_to at hp
          rw [if_pos hw] at hp
          exact hp
      · refine br_t (nI_lt (by omega) (by omega)) ?_
        unfold qm_to at hp
        rw [if_neg hw] at hp
        exact hp _ _ _ _ _ _ _ _ _ h hv

theorem qx_reduceTo {post : SX → Prop} {B l : Nat} (hB : B ≤ 90) (hl : 1 ≤ l) (hl2 : l ≤ 2) {ws : List Int32} {vs : List qm_V} (h : qm_xs B f_nodes f_trees f_waiting f_inside a_kind a_left a_right a_tree a_waits vs ws) (hv : vs.length = qm_nb ws + 1)
    (hp : ∀ (f_nodes f_trees f_waiting f_inside : Int32) (a_kind a_left a_right a_tree a_waits : Nat → Int32), qm_xs B f_nodes f_trees f_waiting f_inside a_kind a_left a_right a_tree a_waits (qm_to qm_ng qm_bn l vs ws).1 (qm_to qm_ng qm_bn l vs ws).2 → (qm_to qm_ng qm_bn l vs ws).1.length = qm_nb (qm_to qm_ng qm_bn l vs ws).2 + 1 → post (f_size, f_at, f_wrong, f_deep, f_nodes, f_trees, f_waiting, f_inside, f_blocks, f_ready, f_length, f_head, f_tail, f_running, f_stored, a_source, a_kind, a_left, a_right, a_level, a_tree, a_waits, a_block, a_op, a_arg, a_ring, a_turnsLeft, a_var)) : wpX_reduceTo post (f_size, f_at, f_wrong, f_deep, f_nodes, f_trees, f_waiting, f_inside, f_blocks, f_ready, f_length, f_head, f_tail, f_running, f_stored, a_source, a_kind, a_left, a_right, a_level, a_tree, a_waits, a_block, a_op, a_arg, a_ring, a_turnsLeft, a_var) (nI l) := by
  have bd : ws.length ≤ B := by
    obtain ⟨N, fo, e1, e2, e3, e4, wa, wv, bd⟩ := h
    omega
  unfold wpX_reduceTo
  dsimp only
  exact ⟨ws.length + 1, qx_to_l hB hl hl2 ws vs _ 0 _ _ _ _ _ _ _ _ _ (by omega) (by omega) h hv hp⟩

theorem qx_fac_l {post : SX → Prop} {B : Nat} (hB : B ≤ 90) : ∀ (ws : List Int32) (vs : List qm_V) (fuel i : Nat) (f_nodes f_trees f_waiting f_inside : Int32) (a_kind a_left a_right a_tree a_waits : Nat → Int32), ws.length < fuel → i + ws.length < 96 → qm_xs B f_nodes f_trees f_waiting f_inside a_kind a_left a_right a_tree a_waits vs ws → vs.length = qm_nb ws + 1 →
    (∀ (f_nodes f_trees f_waiting f_inside : Int32) (a_kind a_left a_right a_tree a_waits : Nat → Int32), qm_xs B f_nodes f_trees f_waiting f_inside a_kind a_left a_right a_tree a_waits (qm_fac qm_ng qm_bn vs ws).1 (qm_fac qm_ng qm_bn vs ws).2 → (qm_fac qm_ng qm_bn vs ws).1.length = qm_nb (qm_fac qm_ng qm_bn vs ws).2 + 1 → post (f_size, f_at, f_wrong, f_deep, f_nodes, f_trees, f_waiting, f_inside, f_blocks, f_ready, f_length, f_head, f_tail, f_running, f_stored, a_source, a_kind, a_left, a_right, a_level, a_tree, a_waits, a_block, a_op, a_arg, a_ring, a_turnsLeft, a_var)) → wX_factorDone_2 post fuel (nI i) f_size f_at f_wrong f_deep f_nodes f_trees f_waiting f_inside f_blocks f_ready f_length f_head f_tail f_running f_stored a_source a_kind a_left a_right a_level a_tree a_waits a_block a_op a_arg a_ring a_turnsLeft a_var := by
  intro ws
  induction ws with
  | nil =>
    intro vs fuel i f_nodes f_trees f_waiting f_inside a_kind a_left a_right a_tree a_waits hf hi h hv hp
    cases fuel with
    | zero => omega
    | succ fuel =>
      have h' := h
      obtain ⟨N, fo, rfl, rfl, rfl, rfl, wa, wv, bd⟩ := h'
      exact br_f (nI_ge (b := 96) (by omega) (by decide)) (br_t (by decide) (hp _ _ _ _ _ _ _ _ _ h hv))
  | cons w ws ih =>
    intro vs fuel i f_nodes f_trees f_waiting f_inside a_kind a_left a_right a_tree a_waits hf hi h hv hp
    rw [List.length_cons] at hf hi
    cases fuel with
    | zero => omega
    | succ fuel =>
      refine br_f (nI_ge (b := 96) (by omega) (by decide)) ?_
      have h' := h
      obtain ⟨N, fo, e1, e2, e3, e4, wa, wv, bd⟩ := h'
      rw [List.length_cons] at bd e3
      subst e3
      refine br_f (nI_nle (by omega) (by omega)) ?_
      rw [nI_pred, nI_clamp (show ws.length < 2 ^ 31 by omega), wa.1]
      refine ⟨vp_in_nI (by omega) (by omega), ?_⟩
      by_cases hw : w = 8
      · subst hw
        refine br_t rfl (qx_reduce hB h (Or.inl ⟨rfl, by omega⟩) ?_)
        intro f_nodes f_trees f_waiting f_inside a_kind a_left a_right a_tree a_waits h2
        dsimp only
        refine nm_r (nI_1 i) (ih _ fuel (i + 1) _ _ _ _ _ _ _ _ _ (by omega) (by omega) h2 ?_ ?_)
        · have nbw : qm_nb (8 :: ws) = qm_nb ws := by
            conv => lhs; unfold qm_nb
            rw [if_neg (by decide)]; omega
          rw [nbw] at hv
          match vs, hv with
          | [a], hv => exact hv
          | b :: a :: vs, hv => exact hv
        · unfold qm_fac at hp
          rw [if_pos rfl] at hp
          exact hp
      · refine br_f hw ?_
        unfold qm_fac at hp
        rw [if_neg hw] at hp
        exact hp _ _ _ _ _ _ _ _ _ h hv

theorem qx_factorDone {post : SX → Prop} {B : Nat} (hB : B ≤ 90) {ws : List Int32} {vs : List qm_V} (h : qm_xs B f_nodes f_trees f_waiting f_inside a_kind a_left a_right a_tree a_waits vs ws) (hv : vs.length = qm_nb ws + 1)
    (hp : ∀ (f_nodes f_trees f_waiting f_inside : Int32) (a_kind a_left a_right a_tree a_waits : Nat → Int32), qm_xs B f_nodes f_trees f_waiting f_inside a_kind a_left a_right a_tree a_waits (qm_fac qm_ng qm_bn vs ws).1 (qm_fac qm_ng qm_bn vs ws).2 → (qm_fac qm_ng qm_bn vs ws).1.length = qm_nb (qm_fac qm_ng qm_bn vs ws).2 + 1 → post (f_size, f_at, f_wrong, f_deep, f_nodes, f_trees, f_waiting, f_inside, f_blocks, f_ready, f_length, f_head, f_tail, f_running, f_stored, a_source, a_kind, a_left, a_right, a_level, a_tree, a_waits, a_block, a_op, a_arg, a_ring, a_turnsLeft, a_var)) : wpX_factorDone post (f_size, f_at, f_wrong, f_deep, f_nodes, f_trees, f_waiting, f_inside, f_blocks, f_ready, f_length, f_head, f_tail, f_running, f_stored, a_source, a_kind, a_left, a_right, a_level, a_tree, a_waits, a_block, a_op, a_arg, a_ring, a_turnsLeft, a_var) := by
  have bd : ws.length ≤ B := by
    obtain ⟨N, fo, e1, e2, e3, e4, wa, wv, bd⟩ := h
    omega
  unfold wpX_factorDone
  dsimp only
  exact ⟨ws.length + 1, qx_fac_l hB ws vs _ 0 _ _ _ _ _ _ _ _ _ (by omega) (by omega) h hv hp⟩
end
end
section
/-! the component reads operands and operators -/
def qm_ch (s : Nat → Int32) (n i : Nat) : Int32 := if i < n then s i else 0
theorem qm_ch_lt {s : Nat → Int32} {n i : Nat} (h : i < n) : qm_ch s n i = s i := if_pos h
theorem qm_ch_ge {s : Nat → Int32} {n i : Nat} (h : n ≤ i) : qm_ch s n i = 0 := if_neg (by omega)
theorem qm_ck_n {x : Int32} (h : vp_nar .char x = x) : narrow .char (.int x) = .int x := by
  show Value.int (x.toUInt32.toUInt16.toUInt32.toInt32) = _
  rw [← vp_nar_char, h]
/-- the number of d digits from i on -/
def qm_nv (s : Nat → Int32) (i : Nat) : Nat → Int32
  | 0 => 0
  | d + 1 => qm_nv s i d * 10 + (s (i + d) - 48)
theorem qm_in_c {w : Int32} {ws : List Int32} (h : w = 8 ∨ w = 9) : qm_in (w :: ws) = qm_in ws + 1 := by
  show (if w = 8 ∨ w = 9 then 1 else 0) + qm_in ws = _
  rw [if_pos h]; omega
theorem qm_in_b {w : Int32} {ws : List Int32} (h : 1 ≤ qm_rk w) : qm_in (w :: ws) = qm_in ws := by
  show (if w = 8 ∨ w = 9 then 1 else 0) + qm_in ws = _
  rw [if_neg, Nat.zero_add]
  intro z
  rcases z with z | z <;> rw [z] at h <;> exact absurd h (by decide)
section
variable {f_size f_at f_wrong f_deep f_nodes f_trees f_waiting f_inside f_blocks f_ready f_length f_head f_tail f_running f_stored : Int32} {a_source a_kind a_left a_right a_level a_tree a_waits a_block a_op a_arg a_ring a_turnsLeft a_var : Nat → Int32}
theorem qx_peek {post : Int32 → Prop} {n i : Nat} (hn : n ≤ 80) (hi : i < 2 ^ 31) (hc : qm_ck a_source n) (hp : post (qm_ch a_source n i)) : wpX_peek post (nI n, nI i, f_wrong, f_deep, f_nodes, f_trees, f_waiting, f_inside, f_blocks, f_ready, f_length, f_head, f_tail, f_running, f_stored, a_source, a_kind, a_left, a_right, a_level, a_tree, a_waits, a_block, a_op, a_arg, a_ring, a_turnsLeft, a_var) := by
  unfold wpX_peek
  by_cases h : i < n
  · rw [qm_ch_lt h] at hp
    refine br_f (nI_ge h (by omega)) ?_
    rw [nI_clamp hi]
    exact ⟨vp_in_nI (by omega) (by omega), qm_ck_n (hc i h), hp⟩
  · rw [qm_ch_ge (by omega)] at hp
    exact br_t (nI_le (by omega) hi) hp
theorem qx_acc1 {post : Int32 → SX → Prop} {n i : Nat} {c : Int32} (hn : n ≤ 80) (hi : i < 2 ^ 31) (hc : qm_ck a_source n) (h : qm_ch a_source n i = c) (hp : post 1 (nI n, nI (i + 1), f_wrong, f_deep, f_nodes, f_trees, f_waiting, f_inside, f_blocks, f_ready, f_length, f_head, f_tail, f_running, f_stored, a_source, a_kind, a_left, a_right, a_level, a_tree, a_waits, a_block, a_op, a_arg, a_ring, a_turnsLeft, a_var)) : wpX_accept post (nI n, nI i, f_wrong, f_deep, f_nodes, f_trees, f_waiting, f_inside, f_blocks, f_ready, f_length, f_head, f_tail, f_running, f_stored, a_source, a_kind, a_left, a_right, a_level, a_tree, a_waits, a_block, a_op, a_arg, a_ring, a_turnsLeft, a_var) c := by
  unfold wpX_accept
  exact qx_peek hn hi hc (br_t h (nm_r (nI_1 i) hp))
theorem qx_acc0 {post : Int32 → SX → Prop} {n i : Nat} {c : Int32} (hn : n ≤ 80) (hi : i < 2 ^ 31) (hc : qm_ck a_source n) (h : qm_ch a_source n i ≠ c) (hp : post 0 (nI n, nI i, 1, f_deep, f_nodes, f_trees, f_waiting, f_inside, f_blocks, f_ready, f_length, f_head, f_tail, f_running, f_stored, a_source, a_kind, a_left, a_right, a_level, a_tree, a_waits, a_block, a_op, a_arg, a_ring, a_turnsLeft, a_var)) : wpX_accept post (nI n, nI i, f_wrong, f_deep, f_nodes, f_trees, f_waiting, f_inside, f_blocks, f_ready, f_length, f_head, f_tail, f_running, f_stored, a_source, a_kind, a_left, a_right, a_level, a_tree, a_waits, a_block, a_op, a_arg, a_ring, a_turnsLeft, a_var) c := by
  unfold wpX_accept
  exact qx_peek hn hi hc (br_f h hp)
theorem qx_pushTree {post : SX → Prop} {t : Nat} {x : Int32} (ht : t < 95) (hp : post (f_size, f_at, f_wrong, f_deep, f_nodes, nI (t + 1), f_waiting, f_inside, f_blocks, f_ready, f_length, f_head, f_tail, f_running, f_stored, a_source, a_kind, a_left, a_right, a_level, upd a_tree t x, a_waits, a_block, a_op, a_arg, a_ring, a_turnsLeft, a_var)) : wpX_pushTree post (f_size, f_at, f_wrong, f_deep, f_nodes, nI t, f_waiting, f_inside, f_blocks, f_ready, f_length, f_head, f_tail, f_running, f_stored, a_source, a_kind, a_left, a_right, a_level, a_tree, a_waits, a_block, a_op, a_arg, a_ring, a_turnsLeft, a_var) x := by
  unfold wpX_pushTree
  refine br_t (nI_lt (b := 95) ht (by decide)) ?_
  rw [nI_clamp (show t < 2 ^ 31 by omega)]
  exact ⟨vp_in_nI (by omega) (by omega), nm_e (nm_r (nI_1 t) hp)⟩
theorem qm_xs_lf {B N t : Nat} {y : Int32} {vs : List qm_V} {ws : List Int32} {p : Int32 × Int32} (hp : p.1 = 1 ∨ p.1 = 2) (h : qm_xs B (nI N) (nI t) f_waiting f_inside a_kind a_left a_right a_tree a_waits vs ws) (hN : N < 2 ^ 31) (ht : t < 2 ^ 31) (hB : B ≤ 90) : qm_xs (B + 1) (nI (N + 1)) (nI (t + 1)) f_waiting f_inside (upd a_kind N p.1) (upd a_left N p.2) (upd a_right N y) (upd a_tree t (nI N)) a_waits (qm_lf p :: vs) ws := by
  obtain ⟨N', fo, e1, e2, e3, e4, wa, wv, bd⟩ := h
  have l0 := qm_fo_len fo
  obtain rfl : N = N' := (nI_eq hN (by omega)).mp e1
  obtain rfl : t = vs.length := (nI_eq ht (by omega)).mp e2
  refine ⟨N + 1, ⟨N, rfl, qm_ly_lf hp pk_us pk_us, ?_, ?_⟩, rfl, rfl, e3, e4, wa, wv, by omega⟩
  · rw [pk_us]; rfl
  · exact qm_fo_keep fo (fun j hj => ⟨pk_un (by omega), pk_un (by omega), pk_un (by omega)⟩) (fun j hj => pk_un (by omega))
/-- a new leaf: newNode, pushTree -/
theorem qx_leaf {post : Int32 → SX → Prop} {B : Nat} {vs : List qm_V} {ws : List Int32} {k x y : Int32} (hB : B < 90) (hk : k = 1 ∨ k = 2) (h : qm_xs B f_nodes f_trees f_waiting f_inside a_kind a_left a_right a_tree a_waits vs ws)
    (hp : ∀ r t, (∀ post' : SX → Prop, (∀ (f_nodes f_trees f_waiting f_inside : Int32) (a_kind a_left a_right a_tree a_waits : Nat → Int32), qm_xs (B + 1) f_nodes f_trees f_waiting f_inside a_kind a_left a_right a_tree a_waits (qm_lf (k, x) :: vs) ws → post' (f_size, f_at, f_wrong, f_deep, f_nodes, f_trees, f_waiting, f_inside, f_blocks, f_ready, f_length, f_head, f_tail, f_running, f_stored, a_source, a_kind, a_left, a_right, a_level, a_tree, a_waits, a_block, a_op, a_arg, a_ring, a_turnsLeft, a_var)) → wpX_pushTree post' t r) → post r t) : wpX_newNode post (f_size, f_at, f_wrong, f_deep, f_nodes, f_trees, f_waiting, f_inside, f_blocks, f_ready, f_length, f_head, f_tail, f_running, f_stored, a_source, a_kind, a_left, a_right, a_level, a_tree, a_waits, a_block, a_op, a_arg, a_ring, a_turnsLeft, a_var) k x y := by
  have h' := h
  obtain ⟨N, fo, rfl, rfl, e3, e4, wa, wv, bd⟩ := h'
  have l0 := qm_fo_len fo
  refine qx_newNode (by omega) (hp _ _ ?_)
  intro post' hp'
  refine qx_pushTree (by omega) ?_
  exact hp' _ _ _ _ _ _ _ _ _ (qm_xs_lf (p := (k, x)) hk h (by omega) (by omega) (by omega))
theorem qx_pushWait {post : SX → Prop} {B : Nat} {vs : List qm_V} {ws : List Int32} {w : Int32} (hB : B < 90) (hw : w = 8 ∨ w = 9 ∨ 1 ≤ qm_rk w) (h : qm_xs B f_nodes f_trees f_waiting f_inside a_kind a_left a_right a_tree a_waits vs ws)
    (hp : ∀ (f_nodes f_trees f_waiting f_inside : Int32) (a_kind a_left a_right a_tree a_waits : Nat → Int32), qm_xs (B + 1) f_nodes f_trees f_waiting f_inside a_kind a_left a_right a_tree a_waits vs (w :: ws) → post (f_size, f_at, f_wrong, if (w = 8 ∨ w = 9) ∧ 8 < qm_in (w :: ws) then 1 else f_deep, f_nodes, f_trees, f_waiting, f_inside, f_blocks, f_ready, f_length, f_head, f_tail, f_running, f_stored, a_source, a_kind, a_left, a_right, a_level, a_tree, a_waits, a_block, a_op, a_arg, a_ring, a_turnsLeft, a_var)) : wpX_pushWait post (f_size, f_at, f_wrong, f_deep, f_nodes, f_trees, f_waiting, f_inside, f_blocks, f_ready, f_length, f_head, f_tail, f_running, f_stored, a_source, a_kind, a_left, a_right, a_level, a_tree, a_waits, a_block, a_op, a_arg, a_ring, a_turnsLeft, a_var) w := by
  obtain ⟨N, fo, rfl, rfl, rfl, rfl, wa, wv, bd⟩ := h
  have il := qm_in_le ws
  unfold wpX_pushWait
  refine br_t (nI_lt (b := 95) (by omega) (by decide)) ?_
  rw [nI_clamp (show ws.length < 2 ^ 31 by omega)]
  refine ⟨vp_in_nI (by omega) (by omega), nm_e (nm_r (nI_1 _) ?_)⟩
  have wa' : qm_wa (upd a_waits ws.length w) (w :: ws) := ⟨pk_us, qm_wa_keep wa (fun j hj => pk_un (by omega))⟩
  have wv' : qm_wv (w :: ws) := by
    intro v hv
    rcases List.mem_cons.mp hv with z | z
    · rw [z]; exact hw
    · exact wv v z
  have two : (w = 8 ∨ w = 9) → wX_pushWait_42 post f_size f_at f_wrong f_deep (nI N) (nI vs.length) (nI (ws.length + 1)) (nI (qm_in ws)) f_blocks f_ready f_length f_head f_tail f_running f_stored a_source a_kind a_left a_right a_level a_tree (upd a_waits ws.length w) a_block a_op a_arg a_ring a_turnsLeft a_var := by
    intro hw
    have := hp (nI N) (nI vs.length) (nI (ws.length + 1)) (nI (qm_in ws + 1)) a_kind a_left a_right a_tree (upd a_waits ws.length w) ⟨N, fo, rfl, rfl, rfl, by rw [qm_in_c hw], wa', wv', by rw [List.length_cons]; omega⟩
    rw [qm_in_c hw] at this
    unfold wX_pushWait_42
    refine nm_r (nI_1 _) ?_
    by_cases z : 8 < qm_in ws + 1
    · rw [if_pos ⟨hw, z⟩] at this
      exact br_f (nI_ge (a := 8) z (by omega)) this
    · rw [if_neg (fun y => z y.2)] at this
      exact br_t (nI_le (b := 8) (by omega) (by decide)) this
  by_cases z8 : w = 8
  · exact br_t z8 (two (Or.inl z8))
  · refine br_f z8 ?_
    by_cases z9 : w = 9
    · exact br_t z9 (two (Or.inr z9))
    · refine br_f z9 ?_
      have hr : 1 ≤ qm_rk w := (hw.resolve_left z8).resolve_left z9
      have := hp (nI N) (nI vs.length) (nI (ws.length + 1)) (nI (qm_in ws)) a_kind a_left a_right a_tree (upd a_waits ws.length w) ⟨N, fo, rfl, rfl, rfl, by rw [qm_in_b hr], wa', wv', by rw [List.length_cons]; omega⟩
      rw [if_neg (fun y => y.1.elim z8 z9)] at this
      exact this

/-! numbers -/
theorem qx_num_l {post : SX → Prop} {B : Nat} {vs : List qm_V} {ws : List Int32} {n i j : Nat} (hn : n ≤ 80) (hc : qm_ck a_source n) (hB : B < 90) (hij : i ≤ j) (hjn : j ≤ n) (hd : ∀ t, i ≤ t → t < j → qm_dg (a_source t) = true) (he : qm_dg (qm_ch a_source n j) = false) (h : qm_xs B f_nodes f_trees f_waiting f_inside a_kind a_left a_right a_tree a_waits vs ws) (hv : vs.length = qm_nb ws)
    (hp : ∀ (f_nodes f_trees f_waiting f_inside : Int32) (a_kind a_left a_right a_tree a_waits : Nat → Int32), qm_xs (B + 1) f_nodes f_trees f_waiting f_inside a_kind a_left a_right a_tree a_waits (qm_fac qm_ng qm_bn (qm_lf (1, qm_nv a_source i (j - i)) :: vs) ws).1 (qm_fac qm_ng qm_bn (qm_lf (1, qm_nv a_source i (j - i)) :: vs) ws).2 → (qm_fac qm_ng qm_bn (qm_lf (1, qm_nv a_source i (j - i)) :: vs) ws).1.length = qm_nb (qm_fac qm_ng qm_bn (qm_lf (1, qm_nv a_source i (j - i)) :: vs) ws).2 + 1 → post (nI n, nI j, if 9 < j - i then 1 else f_wrong, f_deep, f_nodes, f_trees, f_waiting, f_inside, f_blocks, f_ready, f_length, f_head, f_tail, f_running, f_stored, a_source, a_kind, a_left, a_right, a_level, a_tree, a_waits, a_block, a_op, a_arg, a_ring, a_turnsLeft, a_var)) :
    ∀ fuel k d, 80 - k < fuel → k ≤ 80 → (d = k ∨ d = j - i) → d ≤ j - i → d ≤ k →
    wX_readNumber_6 post (nI n) f_wrong f_deep f_nodes f_trees f_waiting f_inside f_blocks f_ready f_length f_head f_tail f_running f_stored a_source a_kind a_left a_right a_level a_tree a_waits a_block a_op a_arg a_ring a_turnsLeft a_var fuel (qm_nv a_source i d) (nI d) (nI k) (nI (i + d)) := by
  intro fuel
  induction fuel with
  | zero => intro k d h; omega
  | succ fuel ih =>
    intro k d hf hk hd1 hd2 hd3
    by_cases hk8 : k = 80
    · subst hk8
      obtain rfl : d = j - i := by omega
      refine br_t (by decide) ?_
      have fin : ∀ wr : Int32, (∀ (f_nodes f_trees f_waiting f_inside : Int32) (a_kind a_left a_right a_tree a_waits : Nat → Int32), qm_xs (B + 1) f_nodes f_trees f_waiting f_inside a_kind a_left a_right a_tree a_waits (qm_fac qm_ng qm_bn (qm_lf (1, qm_nv a_source i (j - i)) :: vs) ws).1 (qm_fac qm_ng qm_bn (qm_lf (1, qm_nv a_source i (j - i)) :: vs) ws).2 → (qm_fac qm_ng qm_bn (qm_lf (1, qm_nv a_source i (j - i)) :: vs) ws).1.length = qm_nb (qm_fac qm_ng qm_bn (qm_lf (1, qm_nv a_source i (j - i)) :: vs) ws).2 + 1 → post (nI n, nI j, wr, f_deep, f_nodes, f_trees, f_waiting, f_inside, f_blocks, f_ready, f_length, f_head, f_tail, f_running, f_stored, a_source, a_kind, a_left, a_right, a_level, a_tree, a_waits, a_block, a_op, a_arg, a_ring, a_turnsLeft, a_var)) → wX_readNumber_71 post (qm_nv a_source i (j - i)) (nI n) (nI (i + (j - i))) wr f_deep f_nodes f_trees f_waiting f_inside f_blocks f_ready f_length f_head f_tail f_running f_stored a_source a_kind a_left a_right a_level a_tree a_waits a_block a_op a_arg a_ring a_turnsLeft a_var := by
        intro wr hp
        unfold wX_readNumber_71
        refine qx_leaf hB (Or.inl rfl) h ?_
        intro r t ht
        refine ht _ ?_
        intro f_nodes f_trees f_waiting f_inside a_kind a_left a_right a_tree a_waits h2
        refine qx_factorDone (by omega) h2 (by rw [List.length_cons, hv]) ?_
        intro f_nodes f_trees f_waiting f_inside a_kind a_left a_right a_tree a_waits h3 h4
        rw [show i + (j - i) = j from by omega]
        exact hp _ _ _ _ _ _ _ _ _ h3 h4
      by_cases z : 9 < j - i
      · rw [if_pos z] at hp
        exact br_f (nI_ge (a := 9) z (by omega)) (fin 1 hp)
      · rw [if_neg z] at hp
        exact br_t (nI_le (b := 9) (by omega) (by decide)) (fin f_wrong hp)
    · refine br_f (nI_ge (b := 80) (by omega) (by decide)) ?_
      refine qx_peek hn (by omega) hc ?_
      by_cases z : d = j - i
      · subst z
        rw [show i + (j - i) = j from by omega]
        refine qx_dg0 he (br_t rfl (nm_r (nI_1 k) ?_))
        have := ih (k + 1) (j - i) (by omega) (by omega) (by omega) (by omega) (by omega)
        rw [show i + (j - i) = j from by omega] at this
        exact this
      · obtain rfl : d = k := by omega
        have e1 : qm_ch a_source n (i + d) = a_source (i + d) := qm_ch_lt (by omega)
        rw [e1]
        refine qx_dg1 (hd (i + d) (by omega) (by omega)) (br_f (by decide) (nm_e (nm_r (nI_1 d) (nm_r (nI_1 _) (nm_r (nI_1 d) ?_)))))
        exact ih (d + 1) (d + 1) (by omega) (by omega) (by omega) (by omega) (by omega)

theorem qx_opnd_digit {post : Int32 → SX → Prop} {B : Nat} {vs : List qm_V} {ws : List Int32} {n i j : Nat} (hn : n ≤ 80) (hc : qm_ck a_source n) (hB : B < 90) (hij : i < j) (hjn : j ≤ n) (hd : ∀ t, i ≤ t → t < j → qm_dg (a_source t) = true) (he : qm_dg (qm_ch a_source n j) = false) (h : qm_xs B f_nodes f_trees f_waiting f_inside a_kind a_left a_right a_tree a_waits vs ws) (hv : vs.length = qm_nb ws)
    (hp : ∀ (f_nodes f_trees f_waiting f_inside : Int32) (a_kind a_left a_right a_tree a_waits : Nat → Int32), qm_xs (B + 1) f_nodes f_trees f_waiting f_inside a_kind a_left a_right a_tree a_waits (qm_fac qm_ng qm_bn (qm_lf (1, qm_nv a_source i (j - i)) :: vs) ws).1 (qm_fac qm_ng qm_bn (qm_lf (1, qm_nv a_source i (j - i)) :: vs) ws).2 → (qm_fac qm_ng qm_bn (qm_lf (1, qm_nv a_source i (j - i)) :: vs) ws).1.length = qm_nb (qm_fac qm_ng qm_bn (qm_lf (1, qm_nv a_source i (j - i)) :: vs) ws).2 + 1 → post 1 (nI n, nI j, if 9 < j - i then 1 else f_wrong, f_deep, f_nodes, f_trees, f_waiting, f_inside, f_blocks, f_ready, f_length, f_head, f_tail, f_running, f_stored, a_source, a_kind, a_left, a_right, a_level, a_tree, a_waits, a_block, a_op, a_arg, a_ring, a_turnsLeft, a_var)) :
    wpX_readOperand post (nI n, nI i, f_wrong, f_deep, f_nodes, f_trees, f_waiting, f_inside, f_blocks, f_ready, f_length, f_head, f_tail, f_running, f_stored, a_source, a_kind, a_left, a_right, a_level, a_tree, a_waits, a_block, a_op, a_arg, a_ring, a_turnsLeft, a_var) := by
  unfold wpX_readOperand
  refine qx_peek hn (by omega) hc ?_
  rw [qm_ch_lt (show i < n by omega)]
  refine qx_dg1 (hd i (Nat.le_refl i) hij) (br_f (by decide) ?_)
  unfold wpX_readNumber
  exact ⟨81, qx_num_l (post := fun u => post 1 u) hn hc hB (by omega) hjn hd he h hv hp 81 0 0 (by omega) (by omega) (Or.inl rfl) (by omega) (by omega)⟩

theorem qx_opnd_letter {post : Int32 → SX → Prop} {B : Nat} {vs : List qm_V} {ws : List Int32} {n i : Nat} (hn : n ≤ 80) (hc : qm_ck a_source n) (hB : B < 90) (hin : i < n) (hl : qm_lt (a_source i) = true) (h : qm_xs B f_nodes f_trees f_waiting f_inside a_kind a_left a_right a_tree a_waits vs ws) (hv : vs.length = qm_nb ws)
    (hp : ∀ (f_nodes f_trees f_waiting f_inside : Int32) (a_kind a_left a_right a_tree a_waits : Nat → Int32), qm_xs (B + 1) f_nodes f_trees f_waiting f_inside a_kind a_left a_right a_tree a_waits (qm_fac qm_ng qm_bn (qm_lf (2, a_source i - 97) :: vs) ws).1 (qm_fac qm_ng qm_bn (qm_lf (2, a_source i - 97) :: vs) ws).2 → (qm_fac qm_ng qm_bn (qm_lf (2, a_source i - 97) :: vs) ws).1.length = qm_nb (qm_fac qm_ng qm_bn (qm_lf (2, a_source i - 97) :: vs) ws).2 + 1 → post 1 (nI n, nI (i + 1), f_wrong, f_deep, f_nodes, f_trees, f_waiting, f_inside, f_blocks, f_ready, f_length, f_head, f_tail, f_running, f_stored, a_source, a_kind, a_left, a_right, a_level, a_tree, a_waits, a_block, a_op, a_arg, a_ring, a_turnsLeft, a_var)) :
    wpX_readOperand post (nI n, nI i, f_wrong, f_deep, f_nodes, f_trees, f_waiting, f_inside, f_blocks, f_ready, f_length, f_head, f_tail, f_running, f_stored, a_source, a_kind, a_left, a_right, a_level, a_tree, a_waits, a_block, a_op, a_arg, a_ring, a_turnsLeft, a_var) := by
  have hd : qm_dg (a_source i) = false := by
    cases e : qm_dg (a_source i) with
    | false => rfl
    | true => rw [qm_dg_lt e] at hl; exact absurd hl (by decide)
  unfold wpX_readOperand
  refine qx_peek hn (by omega) hc ?_
  rw [qm_ch_lt hin]
  refine qx_dg0 hd (br_t rfl (qx_lt1 hl (br_f (by decide) ?_)))
  refine qx_leaf hB (Or.inr rfl) h ?_
  intro r t ht
  refine ht _ ?_
  intro f_nodes f_trees f_waiting f_inside a_kind a_left a_right a_tree a_waits h2
  refine nm_r (nI_1 i) ?_
  refine qx_factorDone (by omega) h2 (by rw [List.length_cons, hv]) ?_
  intro f_nodes f_trees f_waiting f_inside a_kind a_left a_right a_tree a_waits h3 h4
  exact hp _ _ _ _ _ _ _ _ _ h3 h4

theorem qx_opnd_push {post : Int32 → SX → Prop} {B : Nat} {vs : List qm_V} {ws : List Int32} {n i : Nat} {w : Int32} (hn : n ≤ 80) (hc : qm_ck a_source n) (hB : B < 90) (hin : i < n) (hw : (a_source i = 40 ∧ w = 9) ∨ (a_source i = 45 ∧ w = 8)) (h : qm_xs B f_nodes f_trees f_waiting f_inside a_kind a_left a_right a_tree a_waits vs ws)
    (hp : ∀ (f_nodes f_trees f_waiting f_inside : Int32) (a_kind a_left a_right a_tree a_waits : Nat → Int32), qm_xs (B + 1) f_nodes f_trees f_waiting f_inside a_kind a_left a_right a_tree a_waits vs (w :: ws) → post 0 (nI n, nI (i + 1), f_wrong, if 8 < qm_in (w :: ws) then 1 else f_deep, f_nodes, f_trees, f_waiting, f_inside, f_blocks, f_ready, f_length, f_head, f_tail, f_running, f_stored, a_source, a_kind, a_left, a_right, a_level, a_tree, a_waits, a_block, a_op, a_arg, a_ring, a_turnsLeft, a_var)) :
    wpX_readOperand post (nI n, nI i, f_wrong, f_deep, f_nodes, f_trees, f_waiting, f_inside, f_blocks, f_ready, f_length, f_head, f_tail, f_running, f_stored, a_source, a_kind, a_left, a_right, a_level, a_tree, a_waits, a_block, a_op, a_arg, a_ring, a_turnsLeft, a_var) := by
  unfold wpX_readOperand
  refine qx_peek hn (by omega) hc ?_
  rw [qm_ch_lt hin]
  rcases hw with ⟨e, rfl⟩ | ⟨e, rfl⟩
  · refine qx_dg0 (qm_dg_lit (k := 40) e (by decide) (by decide)) (br_t rfl (qx_lt0 (qm_lt_lit (k := 40) e (by decide) (by decide)) (br_t rfl (br_t e ?_))))
    refine qx_pushWait hB (Or.inr (Or.inl rfl)) h ?_
    intro f_nodes f_trees f_waiting f_inside a_kind a_left a_right a_tree a_waits h2
    refine nm_r (nI_1 i) ?_
    have := hp _ _ _ _ _ _ _ _ _ h2
    simp only [or_true, true_and]
    exact this
  · refine qx_dg0 (qm_dg_lit (k := 45) e (by decide) (by decide)) (br_t rfl (qx_lt0 (qm_lt_lit (k := 45) e (by decide) (by decide)) (br_t rfl (br_f (by rw [e]; decide) (br_t e ?_)))))
    refine qx_pushWait hB (Or.inl rfl) h ?_
    intro f_nodes f_trees f_waiting f_inside a_kind a_left a_right a_tree a_waits h2
    refine nm_r (nI_1 i) ?_
    have := hp _ _ _ _ _ _ _ _ _ h2
    simp only [true_or, true_and]
    exact this

theorem qx_opnd_bad {post : Int32 → SX → Prop} {n i : Nat} (hn : n ≤ 80) (hi : i < 2 ^ 31 - 1) (hc : qm_ck a_source n) (h1 : qm_dg (qm_ch a_source n i) = false) (h2 : qm_lt (qm_ch a_source n i) = false) (h3 : qm_ch a_source n i ≠ 40) (h4 : qm_ch a_source n i ≠ 45)
    (hp : post 0 (nI n, nI (i + 1), 1, f_deep, f_nodes, f_trees, f_waiting, f_inside, f_blocks, f_ready, f_length, f_head, f_tail, f_running, f_stored, a_source, a_kind, a_left, a_right, a_level, a_tree, a_waits, a_block, a_op, a_arg, a_ring, a_turnsLeft, a_var)) :
    wpX_readOperand post (nI n, nI i, f_wrong, f_deep, f_nodes, f_trees, f_waiting, f_inside, f_blocks, f_ready, f_length, f_head, f_tail, f_running, f_stored, a_source, a_kind, a_left, a_right, a_level, a_tree, a_waits, a_block, a_op, a_arg, a_ring, a_turnsLeft, a_var) := by
  unfold wpX_readOperand
  refine qx_peek hn (by omega) hc ?_
  exact qx_dg0 h1 (br_t rfl (qx_lt0 h2 (br_t rfl (br_f h3 (br_f h4 (nm_r (nI_1 i) hp))))))
end
end
section
/-! the component reads what stands behind an operand -/
theorem qm_oc_io {c : Int32} (h : qm_io c) : qm_oc c = 3 ∨ qm_oc c = 4 ∨ qm_oc c = 5 ∨ qm_oc c = 6 ∨ qm_oc c = 7 := by
  rcases qm_op2 h with ⟨h1, _⟩ | ⟨_, z | z | z⟩
  · rcases qm_op1 h1 with z | z
    · exact Or.inl z.2
    · exact Or.inr (Or.inl z.2)
  · exact Or.inr (Or.inr (Or.inl z.2))
  · exact Or.inr (Or.inr (Or.inr (Or.inl z.2)))
  · exact Or.inr (Or.inr (Or.inr (Or.inr z.2)))
theorem qm_oc_n {c : Int32} (h : ¬ qm_io c) : qm_oc c = 0 := by
  unfold qm_io at h
  unfold qm_oc at h ⊢
  by_cases h1 : c = 43
  · rw [if_pos h1] at h; exact absurd (by decide) h
  · rw [if_neg h1] at h ⊢
    by_cases h2 : c = 45
    · rw [if_pos h2] at h; exact absurd (by decide) h
    · rw [if_neg h2] at h ⊢
      by_cases h3 : c = 42
      · rw [if_pos h3] at h; exact absurd (by decide) h
      · rw [if_neg h3] at h ⊢
        by_cases h4 : c = 60
        · rw [if_pos h4] at h; exact absurd (by decide) h
        · rw [if_neg h4] at h ⊢
          by_cases h5 : c = 38
          · rw [if_pos h5] at h; exact absurd (by decide) h
          · rw [if_neg h5]
theorem qx_binary {post : Int32 → Prop} {c : Int32} (hp : post (qm_oc c)) : wpX_binary post c := by
  unfold wpX_binary
  by_cases h5 : c = 38
  · subst h5; exact br_t rfl hp
  · refine br_f h5 ?_
    by_cases h3 : c = 42
    · subst h3; exact br_t rfl hp
    · refine br_f h3 ?_
      by_cases h1 : c = 43
      · subst h1; exact br_t rfl hp
      · refine br_f h1 ?_
        by_cases h2 : c = 45
        · subst h2; exact br_t rfl hp
        · refine br_f h2 ?_
          by_cases h4 : c = 60
          · subst h4; exact br_t rfl hp
          · refine br_f h4 ?_
            unfold qm_oc at hp
            rw [if_neg h1, if_neg h2, if_neg h3, if_neg h4, if_neg h5] at hp
            exact hp
theorem qm_to_top {α : Type} {ng : α → α} {bn : Int32 → α → α → α} {l : Nat} : ∀ (ws : List Int32) (vs : List α) {w : Int32} {t : List Int32}, (qm_to ng bn l vs ws).2 = w :: t → qm_rk w < l
  | [], vs, w, t, h => by
    have h : ([] : List Int32) = w :: t := h
    cases h
  | v :: ws, vs, w, t, h => by
    unfold qm_to at h
    by_cases z : l ≤ qm_rk v
    · rw [if_pos z] at h; exact qm_to_top ws _ h
    · rw [if_neg z] at h
      have h : v :: ws = w :: t := h
      cases h; omega
theorem qm_nb_0 {w : Int32} {ws : List Int32} (h : qm_rk w < 1) : qm_nb (w :: ws) = qm_nb ws := by
  show (if 1 ≤ qm_rk w then 1 else 0) + qm_nb ws = _
  rw [if_neg (by omega)]; omega
theorem qm_nb_1 {w : Int32} {ws : List Int32} (h : 1 ≤ qm_rk w) : qm_nb (w :: ws) = qm_nb ws + 1 := by
  show (if 1 ≤ qm_rk w then 1 else 0) + qm_nb ws = _
  rw [if_pos h]; omega
section
variable {f_size f_at f_wrong f_deep f_nodes f_trees f_waiting f_inside f_blocks f_ready f_length f_head f_tail f_running f_stored : Int32} {a_source a_kind a_left a_right a_level a_tree a_waits a_block a_op a_arg a_ring a_turnsLeft a_var : Nat → Int32}
theorem qx_oper_op {post : Int32 → SX → Prop} {B : Nat} {vs : List qm_V} {ws : List Int32} {n i : Nat} (hn : n ≤ 80) (hc : qm_ck a_source n) (hB : B < 90) (hin : i < n) (ho : qm_io (a_source i)) (h : qm_xs B f_nodes f_trees f_waiting f_inside a_kind a_left a_right a_tree a_waits vs ws) (hv : vs.length = qm_nb ws + 1)
    (hp : ∀ (f_nodes f_trees f_waiting f_inside : Int32) (a_kind a_left a_right a_tree a_waits : Nat → Int32), qm_xs (B + 1) f_nodes f_trees f_waiting f_inside a_kind a_left a_right a_tree a_waits (qm_to qm_ng qm_bn (qm_rk (qm_oc (a_source i))) vs ws).1 (qm_oc (a_source i) :: (qm_to qm_ng qm_bn (qm_rk (qm_oc (a_source i))) vs ws).2) → (qm_to qm_ng qm_bn (qm_rk (qm_oc (a_source i))) vs ws).1.length = qm_nb (qm_to qm_ng qm_bn (qm_rk (qm_oc (a_source i))) vs ws).2 + 1 → post 1 (nI n, nI (i + 1), f_wrong, f_deep, f_nodes, f_trees, f_waiting, f_inside, f_blocks, f_ready, f_length, f_head, f_tail, f_running, f_stored, a_source, a_kind, a_left, a_right, a_level, a_tree, a_waits, a_block, a_op, a_arg, a_ring, a_turnsLeft, a_var)) :
    wpX_readOperator post (nI n, nI i, f_wrong, f_deep, f_nodes, f_trees, f_waiting, f_inside, f_blocks, f_ready, f_length, f_head, f_tail, f_running, f_stored, a_source, a_kind, a_left, a_right, a_level, a_tree, a_waits, a_block, a_op, a_arg, a_ring, a_turnsLeft, a_var) := by
  unfold wpX_readOperator
  refine qx_peek hn (by omega) hc ?_
  rw [qm_ch_lt hin]
  refine qx_binary (br_f ?_ (qx_rank ?_))
  · rcases qm_oc_io ho with z | z | z | z | z <;> rw [z] <;> decide
  · refine qx_reduceTo (by omega) ho (qm_rk2 _) h hv ?_
    intro f_nodes f_trees f_waiting f_inside a_kind a_left a_right a_tree a_waits h2 h3
    refine qx_pushWait hB (Or.inr (Or.inr ho)) h2 ?_
    intro f_nodes f_trees f_waiting f_inside a_kind a_left a_right a_tree a_waits h4
    refine nm_r (nI_1 i) ?_
    have := hp _ _ _ _ _ _ _ _ _ h4 h3
    rw [if_neg (fun z => by
      unfold qm_io at ho
      rcases z.1 with y | y <;> rw [y] at ho <;> exact absurd ho (by decide))]
    exact this

theorem qx_oper_end {post : Int32 → SX → Prop} {n i : Nat} (hn : n ≤ 80) (hi : i < 2 ^ 31) (hc : qm_ck a_source n) (h1 : ¬ qm_io (qm_ch a_source n i)) (h2 : qm_ch a_source n i ≠ 41) (hp : post (-1) (nI n, nI i, f_wrong, f_deep, f_nodes, f_trees, f_waiting, f_inside, f_blocks, f_ready, f_length, f_head, f_tail, f_running, f_stored, a_source, a_kind, a_left, a_right, a_level, a_tree, a_waits, a_block, a_op, a_arg, a_ring, a_turnsLeft, a_var)) : wpX_readOperator post (nI n, nI i, f_wrong, f_deep, f_nodes, f_trees, f_waiting, f_inside, f_blocks, f_ready, f_length, f_head, f_tail, f_running, f_stored, a_source, a_kind, a_left, a_right, a_level, a_tree, a_waits, a_block, a_op, a_arg, a_ring, a_turnsLeft, a_var) := by
  unfold wpX_readOperator
  exact qx_peek hn hi hc (qx_binary (br_t (by rw [qm_oc_n h1]; decide) (br_f h2 hp)))

theorem qx_oper_close {post : Int32 → SX → Prop} {B : Nat} {vs : List qm_V} {ws : List Int32} {n i : Nat} (hn : n ≤ 80) (hc : qm_ck a_source n) (hB : B < 90) (hin : i < n) (hk : a_source i = 41) (h : qm_xs B f_nodes f_trees f_waiting f_inside a_kind a_left a_right a_tree a_waits vs ws) (hv : vs.length = qm_nb ws + 1)
    (hbad : (qm_to qm_ng qm_bn 1 vs ws).2 = [] → ∀ (f_nodes f_trees f_waiting f_inside : Int32) (a_kind a_left a_right a_tree a_waits : Nat → Int32), post (-1) (nI n, nI i, 1, f_deep, f_nodes, f_trees, f_waiting, f_inside, f_blocks, f_ready, f_length, f_head, f_tail, f_running, f_stored, a_source, a_kind, a_left, a_right, a_level, a_tree, a_waits, a_block, a_op, a_arg, a_ring, a_turnsLeft, a_var))
    (hp : ∀ w2 ws2, (qm_to qm_ng qm_bn 1 vs ws).2 = w2 :: ws2 → ∀ (f_nodes f_trees f_waiting f_inside : Int32) (a_kind a_left a_right a_tree a_waits : Nat → Int32), qm_xs B f_nodes f_trees f_waiting f_inside a_kind a_left a_right a_tree a_waits (qm_fac qm_ng qm_bn (qm_to qm_ng qm_bn 1 vs ws).1 ws2).1 (qm_fac qm_ng qm_bn (qm_to qm_ng qm_bn 1 vs ws).1 ws2).2 → (qm_fac qm_ng qm_bn (qm_to qm_ng qm_bn 1 vs ws).1 ws2).1.length = qm_nb (qm_fac qm_ng qm_bn (qm_to qm_ng qm_bn 1 vs ws).1 ws2).2 + 1 → post 0 (nI n, nI (i + 1), f_wrong, f_deep, f_nodes, f_trees, f_waiting, f_inside, f_blocks, f_ready, f_length, f_head, f_tail, f_running, f_stored, a_source, a_kind, a_left, a_right, a_level, a_tree, a_waits, a_block, a_op, a_arg, a_ring, a_turnsLeft, a_var)) :
    wpX_readOperator post (nI n, nI i, f_wrong, f_deep, f_nodes, f_trees, f_waiting, f_inside, f_blocks, f_ready, f_length, f_head, f_tail, f_running, f_stored, a_source, a_kind, a_left, a_right, a_level, a_tree, a_waits, a_block, a_op, a_arg, a_ring, a_turnsLeft, a_var) := by
  unfold wpX_readOperator
  refine qx_peek hn (by omega) hc ?_
  rw [qm_ch_lt hin]
  refine qx_binary (br_t (by rw [hk]; decide) (br_t hk ?_))
  refine qx_reduceTo (l := 1) (by omega) (Nat.le_refl 1) (by omega) h hv ?_
  intro f_nodes f_trees f_waiting f_inside a_kind a_left a_right a_tree a_waits h2 h3
  generalize hT : (qm_to qm_ng qm_bn 1 vs ws).2 = T at h2 h3 hbad hp
  generalize hU : (qm_to qm_ng qm_bn 1 vs ws).1 = U at h2 h3 hbad hp
  cases T with
  | nil =>
    obtain ⟨N, fo, e1, e2, e3, e4, wa, wv, bd⟩ := h2
    exact br_t e3 (hbad rfl _ _ _ _ _ _ _ _ _)
  | cons w2 ws2 =>
    have hr := qm_to_top ws vs hT
    rw [qm_nb_0 hr] at h3
    obtain ⟨N, fo, rfl, rfl, rfl, rfl, wa, wv, bd⟩ := h2
    rw [List.length_cons] at bd
    have w89 : w2 = 8 ∨ w2 = 9 := by
      rcases wv w2 (List.mem_cons_self) with z | z | z
      · exact Or.inl z
      · exact Or.inr z
      · omega
    refine br_f (nI_ne0 (by rw [List.length_cons]; omega) (by rw [List.length_cons]; omega)) ?_
    refine nm_r (nI_pred ws2.length) (nm_r (e' := nI (qm_in ws2)) (by rw [qm_in_c w89, nI_pred]) (nm_r (nI_1 i) ?_))
    refine qx_factorDone (B := B) (ws := ws2) (vs := U) (by omega) ⟨N, fo, rfl, rfl, rfl, rfl, wa.2, fun v hv => wv v (List.mem_cons_of_mem _ hv), by omega⟩ h3 ?_
    intro f_nodes f_trees f_waiting f_inside a_kind a_left a_right a_tree a_waits h4 h5
    exact hp w2 ws2 rfl _ _ _ _ _ _ _ _ _ h4 h5
end
end
section
/-! the component emits a tree, level by level -/
/-- C stands from L on in op', arg'; below L nothing has changed -/
def qm_em (op arg : Nat → Int32) (L : Nat) (C : List (Int32 × Int32)) (op' arg' : Nat → Int32) : Prop := (∀ c, c < L → op' c = op c ∧ arg' c = arg c) ∧ qm_cm op' arg' L C
theorem qm_em_nil (op arg : Nat → Int32) (L : Nat) : qm_em op arg L [] op arg := ⟨fun _ _ => ⟨rfl, rfl⟩, trivial⟩
theorem qm_em_app {op arg op' arg' op'' arg'' : Nat → Int32} {L : Nat} {C D : List (Int32 × Int32)} (h : qm_em op arg L C op' arg') (g : qm_em op' arg' (L + C.length) D op'' arg'') : qm_em op arg L (C ++ D) op'' arg'' := by
  refine ⟨fun c hc => ?_, qm_cm_app (qm_cm_keep h.2 (fun j h1 h2 => ?_)) g.2⟩
  · rw [(g.1 c (by omega)).1, (g.1 c (by omega)).2]; exact h.1 c hc
  · exact ⟨(g.1 j h2).1, fun _ => (g.1 j h2).2⟩
theorem qm_em_one {op arg : Nat → Int32} {L : Nat} {k x y : Int32} (h : k = 1 ∨ k = 2 → x = y) : qm_em op arg L [(k, y)] (upd op L k) (upd arg L x) := by
  refine ⟨fun c hc => ⟨pk_un (by omega), pk_un (by omega)⟩, pk_us, fun z => ?_, trivial⟩
  rw [pk_us]; exact h z
theorem qm_cd_le (l : qm_V) (d : Nat) : (qm_cd l d).length ≤ l.length := by
  unfold qm_cd; rw [List.length_map]; exact List.length_filter_le _ _
section
variable {f_size f_at f_wrong f_deep f_nodes f_trees f_waiting f_inside f_blocks f_ready f_length f_head f_tail f_running f_stored : Int32} {a_source a_kind a_left a_right a_level a_tree a_waits a_block a_op a_arg a_ring a_turnsLeft a_var : Nat → Int32}
theorem qx_put {post : SX → Prop} {L : Nat} {k x : Int32} (hL : L < 200) (hp : post (f_size, f_at, f_wrong, f_deep, f_nodes, f_trees, f_waiting, f_inside, f_blocks, f_ready, nI (L + 1), f_head, f_tail, f_running, f_stored, a_source, a_kind, a_left, a_right, a_level, a_tree, a_waits, a_block, upd a_op L k, upd a_arg L x, a_ring, a_turnsLeft, a_var)) : wpX_put post (f_size, f_at, f_wrong, f_deep, f_nodes, f_trees, f_waiting, f_inside, f_blocks, f_ready, nI L, f_head, f_tail, f_running, f_stored, a_source, a_kind, a_left, a_right, a_level, a_tree, a_waits, a_block, a_op, a_arg, a_ring, a_turnsLeft, a_var) k x := by
  unfold wpX_put
  refine br_t (nI_lt (b := 200) hL (by decide)) ?_
  rw [nI_clamp (show L < 2 ^ 31 by omega)]
  have v : vp_in (nI L) 200 := vp_in_nI hL (by omega)
  exact ⟨v, nm_e ⟨v, nm_e (nm_r (nI_1 L) hp)⟩⟩

theorem qx_level_l {post : SX → Prop} {l : qm_V} {d L : Nat} {op arg : Nat → Int32} (hl : l.length ≤ 95) (hL : L + l.length ≤ 200) (hd : d < 2 ^ 31) (hk : qm_lc a_kind a_left a_right 0 l) (hv : ∀ j, j < l.length → a_level j = nI (qm_at l j).2.2) (hb : ∀ j, j < l.length → (qm_at l j).2.2 < 2 ^ 31)
    (hp : ∀ op' arg', qm_em op arg L (qm_cd l d) op' arg' → post (f_size, f_at, f_wrong, f_deep, nI l.length, f_trees, f_waiting, f_inside, f_blocks, f_ready, nI (L + (qm_cd l d).length), f_head, f_tail, f_running, f_stored, a_source, a_kind, a_left, a_right, a_level, a_tree, a_waits, a_block, op', arg', a_ring, a_turnsLeft, a_var)) :
    ∀ (r p : qm_V) (fuel : Nat) (op' arg' : Nat → Int32), l = p ++ r → r.length < fuel → qm_em op arg L (qm_cd p d) op' arg' →
    wX_emitLevel_2 post (nI d) fuel (nI p.length) f_size f_at f_wrong f_deep (nI l.length) f_trees f_waiting f_inside f_blocks f_ready (nI (L + (qm_cd p d).length)) f_head f_tail f_running f_stored a_source a_kind a_left a_right a_level a_tree a_waits a_block op' arg' a_ring a_turnsLeft a_var := by
  intro r
  induction r with
  | nil =>
    intro p fuel op' arg' e hf hm
    cases fuel with
    | zero => omega
    | succ fuel =>
      rw [List.append_nil] at e
      subst e
      exact br_t (nI_le (Nat.le_refl _) (by omega)) (hp op' arg' hm)
  | cons t r ih =>
    intro p fuel op' arg' e hf hm
    cases fuel with
    | zero => omega
    | succ fuel =>
      rw [List.length_cons] at hf
      have e' : l = (p ++ [t]) ++ r := by rw [e, List.append_assoc]; rfl
      have lp : p.length + (r.length + 1) = l.length := by rw [e, List.length_append, List.length_cons]
      have la : (p ++ [t]).length = p.length + 1 := by rw [List.length_append]; rfl
      have at1 : qm_at l p.length = t := by
        have := qm_at_r (b := t :: r) p 0
        rw [Nat.add_zero, ← e] at this
        exact this
      have cl := qm_cd_le p d
      refine br_f (nI_ge (by omega) (by omega)) ?_
      have v : vp_in (nI p.length) 96 := vp_in_nI (by omega) (by omega)
      rw [nI_clamp (show p.length < 2 ^ 31 by omega), hv p.length (by omega), at1]
      refine ⟨v, ?_⟩
      have K := hk p.length (by omega)
      rw [Nat.zero_add, at1] at K
      have hbt := hb p.length (by omega)
      rw [at1] at hbt
      by_cases z : t.2.2 = d
      · refine br_t (congrArg nI z) ⟨v, v, qx_put (by omega) ?_⟩
        refine nm_r (nI_1 _) ?_
        have c1 : qm_cd (p ++ [t]) d = qm_cd p d ++ [(t.1, t.2.1)] := by
          rw [qm_cd_app]; congr 1; subst z; exact qm_cd_1 t.1 t.2.1 t.2.2
        have := ih (p ++ [t]) fuel _ _ e' (by omega) (by
          rw [c1]
          exact qm_em_app hm (qm_em_one (k := a_kind p.length) (x := a_left p.length) (y := t.2.1) (by rw [K.1]; exact K.2.1) |> (by rw [← K.1]; exact ·)))
        rw [la, c1, List.length_append] at this
        exact this
      · refine br_f (fun y => z ((nI_eq hbt hd).mp y)) (nm_r (nI_1 _) ?_)
        have c1 : qm_cd (p ++ [t]) d = qm_cd p d := by
          rw [qm_cd_app, show qm_cd [t] d = [] from qm_cd_n t.1 t.2.1 z, List.append_nil]
        have := ih (p ++ [t]) fuel op' arg' e' (by omega) (by rw [c1]; exact hm)
        rw [la, c1] at this
        exact this

theorem qx_emitLevel {post : SX → Prop} {l : qm_V} {d L : Nat} (hl : l.length ≤ 95) (hL : L + l.length ≤ 200) (hd : d < 2 ^ 31) (hk : qm_lc a_kind a_left a_right 0 l) (hv : ∀ j, j < l.length → a_level j = nI (qm_at l j).2.2) (hb : ∀ j, j < l.length → (qm_at l j).2.2 < 2 ^ 31)
    (hp : ∀ op' arg', qm_em a_op a_arg L (qm_cd l d) op' arg' → post (f_size, f_at, f_wrong, f_deep, nI l.length, f_trees, f_waiting, f_inside, f_blocks, f_ready, nI (L + (qm_cd l d).length), f_head, f_tail, f_running, f_stored, a_source, a_kind, a_left, a_right, a_level, a_tree, a_waits, a_block, op', arg', a_ring, a_turnsLeft, a_var)) :
    wpX_emitLevel post (f_size, f_at, f_wrong, f_deep, nI l.length, f_trees, f_waiting, f_inside, f_blocks, f_ready, nI L, f_head, f_tail, f_running, f_stored, a_source, a_kind, a_left, a_right, a_level, a_tree, a_waits, a_block, a_op, a_arg, a_ring, a_turnsLeft, a_var) (nI d) := by
  unfold wpX_emitLevel
  exact ⟨l.length + 1, qx_level_l hl hL hd hk hv hb hp l [] _ a_op a_arg rfl (by omega) (qm_em_nil _ _ _)⟩
end
end
section
/-! the levels of a tree, and the whole of emitTree -/
theorem qm_cds_cons (t : Int32 × Int32 × Nat) (l : qm_V) : ∀ D, (qm_cds (t :: l) D).length = (if t.2.2 ≤ D then 1 else 0) + (qm_cds l D).length := by
  have c : ∀ d, (qm_cd (t :: l) d).length = (if t.2.2 = d then 1 else 0) + (qm_cd l d).length := by
    intro d
    rw [show t :: l = [t] ++ l from rfl, qm_cd_app, List.length_append]
    by_cases z : t.2.2 = d
    · rw [if_pos z]; subst z; rw [show qm_cd [t] t.2.2 = [(t.1, t.2.1)] from qm_cd_1 t.1 t.2.1 t.2.2]; rfl
    · rw [if_neg z, show qm_cd [t] d = [] from qm_cd_n t.1 t.2.1 z]; rfl
  intro D
  induction D with
  | zero =>
    show (qm_cd (t :: l) 0).length = _ + (qm_cd l 0).length
    rw [c]
    by_cases z : t.2.2 = 0
    · rw [if_pos z, if_pos (by omega)]
    · rw [if_neg z, if_neg (by omega)]
  | succ D ih =>
    show (qm_cd (t :: l) (D + 1) ++ qm_cds (t :: l) D).length = _ + (qm_cd l (D + 1) ++ qm_cds l D).length
    rw [List.length_append, List.length_append, ih, c]
    by_cases z : t.2.2 = D + 1
    · rw [if_pos z, if_neg (by omega), if_pos (by omega)]; omega
    · rw [if_neg z]
      by_cases z2 : t.2.2 ≤ D
      · rw [if_pos z2, if_pos (by omega)]; omega
      · rw [if_neg z2, if_neg (by omega)]; omega
theorem qm_cds_len : ∀ (l : qm_V) (D : Nat), (qm_cds l D).length ≤ l.length
  | [], D => by
    have : ∀ D, qm_cds [] D = [] := by
      intro D
      induction D with
      | zero => rfl
      | succ D ih => show qm_cd [] (D + 1) ++ qm_cds [] D = []; rw [ih]; rfl
    rw [this]; exact Nat.le_refl _
  | t :: l, D => by
    have := qm_cds_len l D
    rw [qm_cds_cons, List.length_cons]
    split <;> omega
theorem qm_at_mem : ∀ {l : qm_V} {t : Int32 × Int32 × Nat}, t ∈ l → ∃ j, j < l.length ∧ qm_at l j = t
  | x :: l, t, h => by
    rcases List.mem_cons.mp h with z | z
    · exact ⟨0, by rw [List.length_cons]; omega, z.symm⟩
    · obtain ⟨j, h1, h2⟩ := qm_at_mem z
      exact ⟨j + 1, by rw [List.length_cons]; omega, h2⟩

/-- every node but the root has one above it, at one level less -/
theorem qm_ly_par {ki le ri : Nat → Int32} {l : qm_V} (h : qm_ly ki le ri 0 l) (hl : l.length < 2 ^ 31) {c : Nat} (hc : c + 1 < l.length) : ∃ j, c < j ∧ j < l.length ∧ (qm_at l c).2.2 = (qm_at l j).2.2 + 1 ∧ ((qm_un1 (qm_at l j).1 ∧ le j = nI c) ∨ (1 ≤ qm_rk (qm_at l j).1 ∧ ri j = nI c)) := by
  obtain ⟨j, h1, h2, h3⟩ := h.2.2.2 c hc
  obtain ⟨_, _, _, k4, k5⟩ := h.2.2.1 j h2
  rw [Nat.zero_add, Nat.zero_add] at h3
  refine ⟨j, h1, h2, ?_, h3⟩
  rcases h3 with ⟨z, e⟩ | ⟨z, e⟩
  · obtain ⟨d, d1, d2, d3⟩ := k4 z
    rw [Nat.zero_add, Nat.zero_add, e] at d2
    rw [(nI_eq (by omega) (by omega)).mp d2]; exact d3
  · obtain ⟨d, d1, d2, d3⟩ := k5 z
    rw [Nat.zero_add, Nat.zero_add, e] at d2
    rw [(nI_eq (by omega) (by omega)).mp d2]; exact d3
theorem qm_ly_lv {ki le ri : Nat → Int32} {l : qm_V} (h : qm_ly ki le ri 0 l) (hl : l.length < 2 ^ 31) : ∀ m c, l.length ≤ c + m → c < l.length → (qm_at l c).2.2 < m := by
  intro m
  induction m with
  | zero => intro c h1 h2; omega
  | succ m ih =>
    intro c h1 h2
    by_cases z : c + 1 < l.length
    · obtain ⟨j, j1, j2, j3, _⟩ := qm_ly_par h hl z
      have := ih j (by omega) j2
      omega
    · obtain rfl : c = l.length - 1 := by omega
      rw [h.2.1]; omega
theorem qm_un1_k {k : Int32} (h : qm_un1 k) : ¬ k < 3 := by
  rcases h with rfl | h
  · decide
  · intro z
    have : k ≠ 3 ∧ k ≠ 4 ∧ k ≠ 5 ∧ k ≠ 6 ∧ k ≠ 7 := by
      refine ⟨?_, ?_, ?_, ?_, ?_⟩ <;> intro y <;> rw [y] at z <;> exact absurd z (by decide)
    unfold qm_rk at h
    rw [if_neg this.1, if_neg this.2.1, if_neg this.2.2.1, if_neg this.2.2.2.1, if_neg this.2.2.2.2] at h
    exact absurd h (by decide)
theorem qm_rk_k {k : Int32} (h : 1 ≤ qm_rk k) : ¬ 7 < k := by
  intro z
  have : k ≠ 3 ∧ k ≠ 4 ∧ k ≠ 5 ∧ k ≠ 6 ∧ k ≠ 7 := by
    refine ⟨?_, ?_, ?_, ?_, ?_⟩ <;> intro y <;> rw [y] at z <;> exact absurd z (by decide)
  unfold qm_rk at h
  rw [if_neg this.1, if_neg this.2.1, if_neg this.2.2.1, if_neg this.2.2.2.1, if_neg this.2.2.2.2] at h
  exact absurd h (by decide)
section
variable {f_size f_at f_wrong f_deep f_nodes f_trees f_waiting f_inside f_blocks f_ready f_length f_head f_tail f_running f_stored : Int32} {a_source a_kind a_left a_right a_level a_tree a_waits a_block a_op a_arg a_ring a_turnsLeft a_var : Nat → Int32}
theorem qx_emit_l {post : SX → Prop} {l : qm_V} {L0 D : Nat} {op arg : Nat → Int32} (hl : l.length ≤ 95) (hL0 : L0 + 2 * l.length ≤ 200) (hD : D < 2 ^ 31) (hk : qm_lc a_kind a_left a_right 0 l) (hv : ∀ j, j < l.length → a_level j = nI (qm_at l j).2.2) (hb : ∀ j, j < l.length → (qm_at l j).2.2 < 2 ^ 31)
    (hp : ∀ op' arg', qm_em op arg L0 (qm_cds l D) op' arg' → post (f_size, f_at, f_wrong, f_deep, nI l.length, f_trees, f_waiting, f_inside, f_blocks, f_ready, nI (L0 + (qm_cds l D).length), f_head, f_tail, f_running, f_stored, a_source, a_kind, a_left, a_right, a_level, a_tree, a_waits, a_block, op', arg', a_ring, a_turnsLeft, a_var)) :
    ∀ (d fuel : Nat) (C : List (Int32 × Int32)) (op' arg' : Nat → Int32), d + 1 < fuel → d ≤ D → C ++ qm_cds l d = qm_cds l D → qm_em op arg L0 C op' arg' →
    wX_emitTree_125 post fuel (nI d) f_size f_at f_wrong f_deep (nI l.length) f_trees f_waiting f_inside f_blocks f_ready (nI (L0 + C.length)) f_head f_tail f_running f_stored a_source a_kind a_left a_right a_level a_tree a_waits a_block op' arg' a_ring a_turnsLeft a_var := by
  have cl := qm_cds_len l D
  intro d
  induction d with
  | zero =>
    intro fuel C op' arg' hf hd e hm
    cases fuel with
    | zero => omega
    | succ fuel =>
      have e2 : C.length + (qm_cd l 0).length = (qm_cds l D).length := by rw [← e, List.length_append]; rfl
      refine br_f (nI_pos (by omega)) ?_
      refine qx_emitLevel hl (by omega) (by omega) hk hv hb ?_
      intro op2 arg2 h2
      refine nm_e ?_
      cases fuel with
      | zero => omega
      | succ fuel =>
        refine br_t (qm_m1 (k := 0) (by decide)) ?_
        have := hp op2 arg2 (by rw [← e]; exact qm_em_app hm h2)
        rw [← e2] at this
        rw [Nat.add_assoc]
        exact this
  | succ d ih =>
    intro fuel C op' arg' hf hd e hm
    cases fuel with
    | zero => omega
    | succ fuel =>
      have e1 : C ++ (qm_cd l (d + 1) ++ qm_cds l d) = qm_cds l D := e
      have e2 : C.length + ((qm_cd l (d + 1)).length + (qm_cds l d).length) = (qm_cds l D).length := by rw [← e1, List.length_append, List.length_append]
      refine br_f (nI_pos (by omega)) ?_
      refine qx_emitLevel hl (by omega) (by omega) hk hv hb ?_
      intro op2 arg2 h2
      refine nm_r (pk_m1 d) ?_
      have := ih fuel (C ++ qm_cd l (d + 1)) op2 arg2 (by omega) (by omega) (by rw [List.append_assoc]; exact e1) (qm_em_app hm h2)
      rw [List.length_append, ← Nat.add_assoc] at this
      exact this

/-- the levels, from the root down -/
theorem qx_lev_l {post : SX → Prop} {l : qm_V} {L0 : Nat} (hl : l.length ≤ 95) (hL0 : L0 + 2 * l.length ≤ 200) (hk : qm_ly a_kind a_left a_right 0 l)
    (hp : ∀ D lev op' arg', (∀ t, t ∈ l → t.2.2 < D + 1) → qm_em a_op a_arg L0 (qm_cds l D) op' arg' → post (f_size, f_at, f_wrong, f_deep, nI l.length, f_trees, f_waiting, f_inside, f_blocks, f_ready, nI (L0 + (qm_cds l D).length), f_head, f_tail, f_running, f_stored, a_source, a_kind, a_left, a_right, lev, a_tree, a_waits, a_block, op', arg', a_ring, a_turnsLeft, a_var)) :
    ∀ (i fuel D : Nat) (lev : Nat → Int32), i < fuel → i ≤ l.length → D ≤ 95 → (∀ j, i ≤ j → j < l.length → (qm_at l j).2.2 ≤ D) → (∀ c, c < l.length → (c + 1 = l.length ∨ i ≤ c ∨ ∃ j, i ≤ j ∧ j < l.length ∧ c < j ∧ ((qm_un1 (qm_at l j).1 ∧ a_left j = nI c) ∨ (1 ≤ qm_rk (qm_at l j).1 ∧ a_right j = nI c))) → lev c = nI (qm_at l c).2.2) →
    wX_emitTree_27 post f_size f_at f_wrong f_deep (nI l.length) f_trees f_waiting f_inside f_blocks f_ready (nI L0) f_head f_tail f_running f_stored fuel (nI D) (nI i + (-1)) a_source a_kind a_left a_right lev a_tree a_waits a_block a_op a_arg a_ring a_turnsLeft a_var := by
  have hb : ∀ j, j < l.length → (qm_at l j).2.2 < 96 := fun j hj => by
    have := qm_ly_lv hk (by omega) l.length j (by omega) hj
    omega
  intro i
  induction i with
  | zero =>
    intro fuel D lev hf hi hD h1 h2
    cases fuel with
    | zero => omega
    | succ fuel =>
      refine br_t (qm_m1 (k := 0) (by decide)) ⟨D + 2, ?_⟩
      refine qx_emit_l (op := a_op) (arg := a_arg) (D := D) hl hL0 (by omega) hk.2.2.1 (fun j hj => h2 j hj (Or.inr (Or.inl (Nat.zero_le j)))) (fun j hj => by have := hb j hj; omega) ?_ D _ [] a_op a_arg (by omega) (Nat.le_refl D) rfl (qm_em_nil _ _ _)
      intro op' arg' h3
      refine hp D lev op' arg' ?_ h3
      intro t ht
      obtain ⟨j, j1, j2⟩ := qm_at_mem ht
      rw [← j2]
      have := h1 j (Nat.zero_le j) j1
      omega
  | succ i ih =>
    intro fuel D lev hf hi hD h1 h2
    cases fuel with
    | zero => omega
    | succ fuel =>
      have v : vp_in (nI i) 96 := vp_in_nI (by omega) (by omega)
      obtain ⟨k1, k2, k3, k4, k5⟩ := hk.2.2.1 i (by omega)
      rw [Nat.zero_add] at k1 k2 k4 k5
      have bi := hb i (by omega)
      -- the level of node i is known
      have li : lev i = nI (qm_at l i).2.2 := by
        refine h2 i (by omega) ?_
        by_cases z : i + 1 = l.length
        · exact Or.inl z
        · obtain ⟨j, j1, j2, _, j4⟩ := qm_ly_par hk (by omega) (c := i) (by omega)
          exact Or.inr (Or.inr ⟨j, by omega, j2, j1, j4⟩)
      -- the last step
      have last : ∀ lev' : Nat → Int32, lev' i = nI (qm_at l i).2.2 → (∀ c, c < l.length → (c + 1 = l.length ∨ i ≤ c ∨ ∃ j, i ≤ j ∧ j < l.length ∧ c < j ∧ ((qm_un1 (qm_at l j).1 ∧ a_left j = nI c) ∨ (1 ≤ qm_rk (qm_at l j).1 ∧ a_right j = nI c))) → lev' c = nI (qm_at l c).2.2) → wX_emitTree_100 post (wX_emitTree_27 post f_size f_at f_wrong f_deep (nI l.length) f_trees f_waiting f_inside f_blocks f_ready (nI L0) f_head f_tail f_running f_stored fuel) (nI D) (nI i) f_size f_at f_wrong f_deep (nI l.length) f_trees f_waiting f_inside f_blocks f_ready (nI L0) f_head f_tail f_running f_stored a_source a_kind a_left a_right lev' a_tree a_waits a_block a_op a_arg a_ring a_turnsLeft a_var := by
        intro lev' li' h2'
        unfold wX_emitTree_100
        rw [nI_clamp (show i < 2 ^ 31 by omega), li']
        refine ⟨v, ?_⟩
        by_cases z : (qm_at l i).2.2 ≤ D
        · refine br_t (nI_le z (by omega)) (nm_e ?_)
          refine ih fuel D lev' (by omega) (by omega) hD ?_ h2'
          intro j j1 j2
          by_cases y : j = i
          · rw [y]; exact z
          · exact h1 j (by omega) j2
        · refine br_f (nI_ge (by omega) (by omega)) ⟨v, nm_e (nm_e ?_)⟩
          refine ih fuel (qm_at l i).2.2 lev' (by omega) (by omega) (by omega) ?_ h2'
          intro j j1 j2
          by_cases y : j = i
          · rw [y]; exact Nat.le_refl _
          · have := h1 j (by omega) j2
            omega
      rw [pk_m1]
      refine br_f (nI_pos (by omega)) ?_
      rw [nI_clamp (show i < 2 ^ 31 by omega), k1, li]
      refine ⟨v, ?_⟩
      rcases k3 with z | z | z
      · refine br_t (by rw [z]; decide) ?_
        unfold wX_emitTree_60
        rw [nI_clamp (show i < 2 ^ 31 by omega), k1]
        refine ⟨v, br_t (by rw [z]; decide) (last lev li ?_)⟩
        intro c hc y
        refine h2 c hc ?_
        rcases y with y | y | ⟨j, j1, j2, j3, j4⟩
        · exact Or.inl y
        · by_cases y2 : c = i
          · subst y2
            by_cases y3 : c + 1 = l.length
            · exact Or.inl y3
            · obtain ⟨j, j1, j2, _, j4⟩ := qm_ly_par hk (by omega) (c := c) (by omega)
              exact Or.inr (Or.inr ⟨j, by omega, j2, j1, j4⟩)
          · exact Or.inr (Or.inl (by omega))
        · by_cases y2 : j = i
          · subst y2
            rw [z] at j4
            exact absurd j4 (by unfold qm_un1; exact fun q => q.elim (fun r => absurd r.1 (by decide)) (fun r => absurd r.1 (by decide)))
          · exact Or.inr (Or.inr ⟨j, by omega, j2, j3, j4⟩)
      · refine br_t (by rw [z]; decide) ?_
        unfold wX_emitTree_60
        rw [nI_clamp (show i < 2 ^ 31 by omega), k1]
        refine ⟨v, br_t (by rw [z]; decide) (last lev li ?_)⟩
        intro c hc y
        refine h2 c hc ?_
        rcases y with y | y | ⟨j, j1, j2, j3, j4⟩
        · exact Or.inl y
        · by_cases y2 : c = i
          · subst y2
            by_cases y3 : c + 1 = l.length
            · exact Or.inl y3
            · obtain ⟨j, j1, j2, _, j4⟩ := qm_ly_par hk (by omega) (c := c) (by omega)
              exact Or.inr (Or.inr ⟨j, by omega, j2, j1, j4⟩)
          · exact Or.inr (Or.inl (by omega))
        · by_cases y2 : j = i
          · subst y2
            rw [z] at j4
            exact absurd j4 (by unfold qm_un1; exact fun q => q.elim (fun r => absurd r.1 (by decide)) (fun r => absurd r.1 (by decide)))
          · exact Or.inr (Or.inr ⟨j, by omega, j2, j3, j4⟩)
      · obtain ⟨cl, cl1, cl2, cl3⟩ := k4 z
        rw [Nat.zero_add] at cl2
        rw [cl2, nI_clamp (show cl < 2 ^ 31 by omega), nI_1, ← cl3]
        refine br_f (qm_un1_k z) ⟨v, v, vp_in_nI (by omega) (by omega), nm_e ?_⟩
        have g1 : ∀ c, c < l.length → (c + 1 = l.length ∨ i + 1 ≤ c ∨ c = cl ∨ c = i ∨ ∃ j, i + 1 ≤ j ∧ j < l.length ∧ c < j ∧ ((qm_un1 (qm_at l j).1 ∧ a_left j = nI c) ∨ (1 ≤ qm_rk (qm_at l j).1 ∧ a_right j = nI c))) → upd lev cl (nI (qm_at l cl).2.2) c = nI (qm_at l c).2.2 := by
          intro c hc y
          by_cases y1 : c = cl
          · rw [y1, pk_us]
          · rw [pk_un y1]
            by_cases y2 : c = i
            · rw [y2]; exact li
            · refine h2 c hc ?_
              rcases y with y | y | y | y | y
              · exact Or.inl y
              · exact Or.inr (Or.inl y)
              · exact absurd y y1
              · exact absurd y y2
              · exact Or.inr (Or.inr y)
        unfold wX_emitTree_60
        rw [nI_clamp (show i < 2 ^ 31 by omega), k1]
        refine ⟨v, br_f (qm_un1_k z) ⟨v, ?_⟩⟩
        by_cases z7 : 7 < (qm_at l i).1
        · refine br_t z7 (last _ (g1 i (by omega) (Or.inr (Or.inr (Or.inr (Or.inl rfl))))) ?_)
          intro c hc y
          refine g1 c hc ?_
          rcases y with y | y | ⟨j, j1, j2, j3, j4⟩
          · exact Or.inl y
          · by_cases y2 : c = i
            · exact Or.inr (Or.inr (Or.inr (Or.inl y2)))
            · exact Or.inr (Or.inl (by omega))
          · by_cases y2 : j = i
            · subst y2
              rcases j4 with ⟨_, j5⟩ | ⟨j5, _⟩
              · rw [cl2] at j5
                exact Or.inr (Or.inr (Or.inl ((nI_eq (by omega) (by omega)).mp j5).symm))
              · exact absurd z7 (qm_rk_k j5)
            · exact Or.inr (Or.inr (Or.inr (Or.inr ⟨j, by omega, j2, j3, j4⟩)))
        · have zr : 1 ≤ qm_rk (qm_at l i).1 := by
            rcases z with z | z
            · rw [z] at z7; exact absurd (by decide) z7
            · exact z
          obtain ⟨cr, cr1, cr2, cr3⟩ := k5 zr
          rw [Nat.zero_add] at cr2
          rw [cr2, nI_clamp (show cr < 2 ^ 31 by omega), g1 i (by omega) (Or.inr (Or.inr (Or.inr (Or.inl rfl)))), nI_1, ← cr3]
          refine br_f z7 ⟨v, v, vp_in_nI (by omega) (by omega), nm_e ?_⟩
          have g2 : ∀ c, c < l.length → (c + 1 = l.length ∨ i + 1 ≤ c ∨ c = cl ∨ c = cr ∨ c = i ∨ ∃ j, i + 1 ≤ j ∧ j < l.length ∧ c < j ∧ ((qm_un1 (qm_at l j).1 ∧ a_left j = nI c) ∨ (1 ≤ qm_rk (qm_at l j).1 ∧ a_right j = nI c))) → upd (upd lev cl (nI (qm_at l cl).2.2)) cr (nI (qm_at l cr).2.2) c = nI (qm_at l c).2.2 := by
            intro c hc y
            by_cases y1 : c = cr
            · rw [y1, pk_us]
            · rw [pk_un y1]
              refine g1 c hc ?_
              rcases y with y | y | y | y | y | y
              · exact Or.inl y
              · exact Or.inr (Or.inl y)
              · exact Or.inr (Or.inr (Or.inl y))
              · exact absurd y y1
              · exact Or.inr (Or.inr (Or.inr (Or.inl y)))
              · exact Or.inr (Or.inr (Or.inr (Or.inr y)))
          refine last _ (g2 i (by omega) (Or.inr (Or.inr (Or.inr (Or.inr (Or.inl rfl)))))) ?_
          intro c hc y
          refine g2 c hc ?_
          rcases y with y | y | ⟨j, j1, j2, j3, j4⟩
          · exact Or.inl y
          · by_cases y2 : c = i
            · exact Or.inr (Or.inr (Or.inr (Or.inr (Or.inl y2))))
            · exact Or.inr (Or.inl (by omega))
          · by_cases y2 : j = i
            · subst y2
              rcases j4 with ⟨_, j5⟩ | ⟨_, j5⟩
              · rw [cl2] at j5
                exact Or.inr (Or.inr (Or.inl ((nI_eq (by omega) (by omega)).mp j5).symm))
              · rw [cr2] at j5
                exact Or.inr (Or.inr (Or.inr (Or.inl ((nI_eq (by omega) (by omega)).mp j5).symm)))
            · exact Or.inr (Or.inr (Or.inr (Or.inr (Or.inr ⟨j, by omega, j2, j3, j4⟩))))

theorem qx_zero_l {post : SX → Prop} {N : Nat} {x1 x2 : Int32} (hN : N ≤ 95)
    (hp : ∀ lev, (∀ j, j < N → lev j = 0) → ∃ n27, wX_emitTree_27 post f_size f_at f_wrong f_deep (nI N) f_trees f_waiting f_inside f_blocks f_ready f_length f_head f_tail f_running f_stored n27 x2 x1 a_source a_kind a_left a_right lev a_tree a_waits a_block a_op a_arg a_ring a_turnsLeft a_var) :
    ∀ (fuel i : Nat) (lev : Nat → Int32), N - i < fuel → i ≤ N → (∀ j, j < i → lev j = 0) →
    wX_emitTree_4 post x1 x2 f_size f_at f_wrong f_deep (nI N) f_trees f_waiting f_inside f_blocks f_ready f_length f_head f_tail f_running f_stored fuel (nI i) a_source a_kind a_left a_right lev a_tree a_waits a_block a_op a_arg a_ring a_turnsLeft a_var := by
  intro fuel
  induction fuel with
  | zero => intro i lev h; omega
  | succ fuel ih =>
    intro i lev hf hi h
    by_cases z : i = N
    · subst z
      exact br_t (nI_le (Nat.le_refl _) (by omega)) (hp lev h)
    · refine br_f (nI_ge (by omega) (by omega)) ?_
      rw [nI_clamp (show i < 2 ^ 31 by omega)]
      refine ⟨vp_in_nI (by omega) (by omega), nm_e (nm_r (nI_1 i) (ih (i + 1) _ (by omega) (by omega) ?_))⟩
      intro j hj
      by_cases y : j = i
      · rw [y, pk_us]
      · rw [pk_un y]; exact h j (by omega)

theorem qx_emitTree {post : SX → Prop} {l : qm_V} {L0 : Nat} {x1 : Int32} (hl : l.length ≤ 95) (hL0 : L0 + 2 * l.length ≤ 200) (hk : qm_ly a_kind a_left a_right 0 l) (hx : x1 = nI (l.length - 1))
    (hp : ∀ D lev op' arg', (∀ t, t ∈ l → t.2.2 < D + 1) → qm_em a_op a_arg L0 (qm_cds l D) op' arg' → post (f_size, f_at, f_wrong, f_deep, nI l.length, f_trees, f_waiting, f_inside, f_blocks, f_ready, nI (L0 + (qm_cds l D).length), f_head, f_tail, f_running, f_stored, a_source, a_kind, a_left, a_right, lev, a_tree, a_waits, a_block, op', arg', a_ring, a_turnsLeft, a_var)) :
    wpX_emitTree post (f_size, f_at, f_wrong, f_deep, nI l.length, f_trees, f_waiting, f_inside, f_blocks, f_ready, nI L0, f_head, f_tail, f_running, f_stored, a_source, a_kind, a_left, a_right, a_level, a_tree, a_waits, a_block, a_op, a_arg, a_ring, a_turnsLeft, a_var) x1 := by
  have h0 := hk.1
  unfold wpX_emitTree
  refine ⟨l.length + 1, qx_zero_l hl ?_ _ 0 a_level (by omega) (Nat.zero_le _) (fun j hj => absurd hj (Nat.not_lt_zero j))⟩
  intro lev hlev
  refine ⟨l.length + 1, ?_⟩
  have e : x1 = nI l.length + (-1) := by
    rw [hx, show nI l.length = nI (l.length - 1 + 1) from congrArg nI (by omega), pk_m1]
  rw [e]
  refine qx_lev_l hl hL0 hk hp l.length _ 0 lev (by omega) (Nat.le_refl _) (by omega) (fun j j1 j2 => by omega) ?_
  intro c hc y
  have : c + 1 = l.length := by
    rcases y with y | y | ⟨j, j1, j2, _⟩
    · exact y
    · omega
    · omega
  rw [hlev c hc, show c = l.length - 1 from by omega, hk.2.1]
  rfl
end
end
section
/-! the grammar as a pure automaton, and the reference's grammar() -/
def qm_nx (st : Nat) (c cl : Int32) (o d : Nat) : Option Nat :=
  if st = 0 then (if qm_lt c = true then some 1 else if c = 63 then some 2 else if c = 35 then some 4 else if c = 125 then some 0 else none)
  else if st = 1 then (if c = 61 then some 2 else none)
  else if st = 2 then (if qm_dg c = true then some 3 else if qm_lt c = true then some 3 else if c = 40 then some 2 else if c = 45 then some 2 else none)
  else if st = 4 then (if qm_dg c = true then some 5 else none)
  else if st = 5 then (if c = 123 then some 0 else none)
  else if qm_dg c = true then (if d = 0 then none else if 9 ≤ d then none else some 3)
  else if 1 ≤ qm_rk (qm_oc c) then some 2
  else if c = 41 then (if o = 0 then none else some 3)
  else if c = cl then (if o = 0 then some 0 else none) else none
def qm_gc (st : Nat) (c cl : Int32) : Int32 := if st < 2 then (if c = 63 then 123 else 59) else cl
def qm_g1 (st : Nat) (o : Nat) : Nat := if st < 2 then 0 else o
def qm_go (st : Nat) (c : Int32) (o : Nat) : Nat := if c = 40 then qm_g1 st o + 1 else if c = 41 then qm_g1 st o - 1 else qm_g1 st o
def qm_gg (st : Nat) (c : Int32) (d : Nat) : Nat := if qm_dg c = true then (if st < 4 then d + 1 else 0) else 0
def qm_gb (c : Int32) (b : Nat) : Nat := if c = 123 then b + 1 else if c = 125 then b - 1 else b
def qm_gm (dp b : Nat) : Nat := if b ≤ dp then dp else b
def qm_gr (s : Nat → Int32) : Nat → Nat → Nat → Int32 → Nat → Nat → Nat → Nat → Nat
  | 0, _, st, _, _, _, b, dp => if st = 0 then (if b = 0 then (if dp ≤ 3 then 0 else 2) else 1) else 1
  | k + 1, i, st, cl, o, d, b, dp => match qm_nx st (s i) cl o d with
    | none => 1
    | some t => if s i = 125 ∧ b = 0 then 1 else qm_gr s k (i + 1) t (qm_gc st (s i) cl) (qm_go st (s i) o) (qm_gg st (s i) d) (qm_gb (s i) b) (qm_gm dp (qm_gb (s i) b))
theorem qm_gr_n {s : Nat → Int32} {k i st : Nat} {cl : Int32} {o d b dp : Nat} (h : qm_nx st (s i) cl o d = none) : qm_gr s (k + 1) i st cl o d b dp = 1 := by
  rw [qm_gr, h]
theorem qm_gr_b {s : Nat → Int32} {k i st : Nat} {cl : Int32} {o d dp : Nat} (h : s i = 125) : qm_gr s (k + 1) i st cl o d 0 dp = 1 := by
  rw [qm_gr]
  cases qm_nx st (s i) cl o d with
  | none => rfl
  | some t => exact if_pos ⟨h, rfl⟩
theorem qm_gr_s {s : Nat → Int32} {k i st t : Nat} {cl : Int32} {o d b dp : Nat} (h : qm_nx st (s i) cl o d = some t) (hb : ¬ (s i = 125 ∧ b = 0)) : qm_gr s (k + 1) i st cl o d b dp = qm_gr s k (i + 1) t (qm_gc st (s i) cl) (qm_go st (s i) o) (qm_gg st (s i) d) (qm_gb (s i) b) (qm_gm dp (qm_gb (s i) b)) := by
  rw [qm_gr, h]; exact if_neg hb
theorem qm_gr_e {s : Nat → Int32} {i st : Nat} {cl : Int32} {o d b dp : Nat} (h : st ≠ 0) : qm_gr s 0 i st cl o d b dp = 1 := if_neg h

section
variable {f_size f_end f_good f_count : Int32} {a_source a_text a_vars a_kinds a_vals a_begins a_times : Nat → Int32}
theorem qy_op {post : Int32 → Prop} {c : Int32} (h1 : qm_io c → post 1) (h0 : ¬ qm_io c → post 0) : wpY_operator post (f_size, f_end, f_good, f_count, a_source, a_text, a_vars, a_kinds, a_vals, a_begins, a_times) c := by
  have io : ∀ x : Int32, qm_io x → c = x → post 1 := fun x hx e => h1 (by rw [e]; exact hx)
  unfold wpY_operator
  by_cases c1 : c = 43
  · exact br_t c1 (io 43 (by unfold qm_io; decide) c1)
  · refine br_f c1 ?_
    by_cases c2 : c = 45
    · exact br_t c2 (io 45 (by unfold qm_io; decide) c2)
    · refine br_f c2 ?_
      by_cases c3 : c = 42
      · exact br_t c3 (io 42 (by unfold qm_io; decide) c3)
      · refine br_f c3 ?_
        by_cases c4 : c = 60
        · exact br_t c4 (io 60 (by unfold qm_io; decide) c4)
        · refine br_f c4 ?_
          by_cases c5 : c = 38
          · exact br_t c5 (io 38 (by unfold qm_io; decide) c5)
          · refine br_f c5 (h0 ?_)
            intro z
            rcases qm_op2 z with ⟨z1, _⟩ | ⟨_, z1 | z1 | z1⟩
            · have e : qm_oc c = 0 := by
                unfold qm_oc; rw [if_neg c1, if_neg c2, if_neg c3, if_neg c4, if_neg c5]
              rw [e] at z1; exact absurd z1 (by decide)
            · exact c3 z1.1
            · exact c4 z1.1
            · exact c5 z1.1

def qm_nxI (r : Option Nat) : Int32 := match r with
  | none => -1
  | some t => nI t
theorem qy_next {post : Int32 → Prop} {st o d : Nat} {c cl : Int32} (hst : st ≤ 5) (ho : o < 2 ^ 31) (hd : d < 2 ^ 31) (hp : post (qm_nxI (qm_nx st c cl o d))) : wpY_next post (f_size, f_end, f_good, f_count, a_source, a_text, a_vars, a_kinds, a_vals, a_begins, a_times) (nI st) c cl (nI o) (nI d) := by
  have lit : ∀ a b : Nat, a ≤ 5 → b ≤ 5 → a ≠ b → ¬ nI a = nI b := fun a b ha hb h z => h ((nI_eq (by omega) (by omega)).mp z)
  unfold wpY_next
  unfold qm_nx at hp
  by_cases s0 : st = 0
  · subst s0
    refine br_t rfl ?_
    rw [if_pos rfl] at hp
    cases l : qm_lt c with
    | true =>
      rw [l, if_pos rfl] at hp
      exact qy_lt1 l (br_f (by decide) hp)
    | false =>
      rw [l, if_neg (by decide)] at hp
      refine qy_lt0 l (br_t rfl ?_)
      by_cases c1 : c = 63
      · rw [if_pos c1] at hp; exact br_t c1 hp
      · rw [if_neg c1] at hp
        refine br_f c1 ?_
        by_cases c2 : c = 35
        · rw [if_pos c2] at hp; exact br_t c2 hp
        · rw [if_neg c2] at hp
          refine br_f c2 ?_
          by_cases c3 : c = 125
          · rw [if_pos c3] at hp; exact br_t c3 hp
          · rw [if_neg c3] at hp; exact br_f c3 hp
  · rw [if_neg s0] at hp
    refine br_f (lit st 0 hst (by omega) s0) ?_
    by_cases s1 : st = 1
    · subst s1
      refine br_t rfl ?_
      rw [if_pos rfl] at hp
      by_cases c1 : c = 61
      · rw [if_pos c1] at hp; exact br_t c1 hp
      · rw [if_neg c1] at hp; exact br_f c1 hp
    · rw [if_neg s1] at hp
      refine br_f (lit st 1 hst (by omega) s1) ?_
      by_cases s2 : st = 2
      · subst s2
        refine br_t rfl ?_
        rw [if_pos rfl] at hp
        cases g : qm_dg c with
        | true => rw [g, if_pos rfl] at hp; exact qy_dg1 g (br_f (by decide) hp)
        | false =>
          rw [g, if_neg (by decide)] at hp
          refine qy_dg0 g (br_t rfl ?_)
          cases l : qm_lt c with
          | true => rw [l, if_pos rfl] at hp; exact qy_lt1 l (br_f (by decide) hp)
          | false =>
            rw [l, if_neg (by decide)] at hp
            refine qy_lt0 l (br_t rfl ?_)
            by_cases c1 : c = 40
            · rw [if_pos c1] at hp; exact br_t c1 hp
            · rw [if_neg c1] at hp
              refine br_f c1 ?_
              by_cases c2 : c = 45
              · rw [if_pos c2] at hp; exact br_t c2 hp
              · rw [if_neg c2] at hp; exact br_f c2 hp
      · rw [if_neg s2] at hp
        refine br_f (lit st 2 hst (by omega) s2) ?_
        by_cases s4 : st = 4
        · subst s4
          refine br_t rfl ?_
          rw [if_pos rfl] at hp
          cases g : qm_dg c with
          | true => rw [g, if_pos rfl] at hp; exact qy_dg1 g (br_f (by decide) hp)
          | false => rw [g, if_neg (by decide)] at hp; exact qy_dg0 g (br_t rfl hp)
        · rw [if_neg s4] at hp
          refine br_f (lit st 4 hst (by omega) s4) ?_
          by_cases s5 : st = 5
          · subst s5
            refine br_t rfl ?_
            rw [if_pos rfl] at hp
            by_cases c1 : c = 123
            · rw [if_pos c1] at hp; exact br_t c1 hp
            · rw [if_neg c1] at hp; exact br_f c1 hp
          · rw [if_neg s5] at hp
            refine br_f (lit st 5 hst (by omega) s5) ?_
            cases g : qm_dg c with
            | true =>
              rw [g, if_pos rfl] at hp
              refine qy_dg1 g (br_f (by decide) ?_)
              by_cases d0 : d = 0
              · rw [if_pos d0] at hp; subst d0; exact br_t (by decide) hp
              · rw [if_neg d0] at hp
                refine br_f (nI_nle (by omega) hd) ?_
                by_cases d9 : 9 ≤ d
                · rw [if_pos d9] at hp; exact br_t (nI_le (a := 9) d9 hd) hp
                · rw [if_neg d9] at hp; exact br_f (nI_ge (b := 9) (by omega) (by decide)) hp
            | false =>
              rw [g, if_neg (by decide)] at hp
              refine qy_dg0 g (br_t rfl ?_)
              refine qy_op (fun y => ?_) (fun y => ?_)
              · unfold qm_io at y
                rw [if_pos y] at hp; exact br_f (by decide) hp
              · unfold qm_io at y
                rw [if_neg y] at hp
                refine br_t rfl ?_
                by_cases c1 : c = 41
                · rw [if_pos c1] at hp
                  refine br_t c1 ?_
                  by_cases o0 : o = 0
                  · rw [if_pos o0] at hp; subst o0; exact br_t (by decide) hp
                  · rw [if_neg o0] at hp; exact br_f (nI_nle (by omega) ho) hp
                · rw [if_neg c1] at hp
                  refine br_f c1 ?_
                  by_cases c2 : c = cl
                  · rw [if_pos c2] at hp
                    refine br_t c2 ?_
                    by_cases o0 : o = 0
                    · rw [if_pos o0] at hp; subst o0; exact br_t rfl hp
                    · rw [if_neg o0] at hp; exact br_f (nI_ne0 (by omega) ho) hp
                  · rw [if_neg c2] at hp; exact br_f c2 hp

theorem qm_nx_5 {st : Nat} {c cl : Int32} {o d t : Nat} (h : qm_nx st c cl o d = some t) : t ≤ 5 := by
  unfold qm_nx at h
  repeat' split at h
  all_goals first | cases h; done | (cases h; omega)
theorem qm_nx_41 {st : Nat} {cl : Int32} {o d t : Nat} (hst : st ≤ 5) (h : qm_nx st 41 cl o d = some t) : st = 3 ∧ o ≠ 0 := by
  have : st = 0 ∨ st = 1 ∨ st = 2 ∨ st = 3 ∨ st = 4 ∨ st = 5 := by omega
  have l : qm_lt 41 = false := by decide
  have g : qm_dg 41 = false := by decide
  rcases this with rfl | rfl | rfl | rfl | rfl | rfl
  · simp [qm_nx, l] at h
  · simp [qm_nx] at h
  · simp [qm_nx, l, g] at h
  · refine ⟨rfl, fun z => ?_⟩
    subst z
    have r : ¬ 1 ≤ qm_rk (qm_oc 41) := by decide
    simp [qm_nx, g, r] at h
  · simp [qm_nx, g] at h
  · simp [qm_nx] at h

theorem qy_g173 {post : Int32 → Prop} {J : Int32 → Int32 → Int32 → Int32 → Int32 → Int32 → Int32 → Prop} {x2 x3 x4 x9 : Int32} {dp b i : Nat} (hd : dp < 2 ^ 31) (hb : b < 2 ^ 31) (h : J x9 x2 x3 x4 (nI b) (nI (qm_gm dp b)) (nI (i + 1))) : wY_grammar_173 post J x2 x3 x4 (nI dp) (nI i) x9 (nI b) f_size f_end f_good f_count a_source a_text a_vars a_kinds a_vals a_begins a_times := by
  unfold wY_grammar_173
  unfold qm_gm at h
  by_cases z : b ≤ dp
  · rw [if_pos z] at h; exact br_t (nI_le z hd) (nm_r (nI_1 i) h)
  · rw [if_neg z] at h; exact br_f (nI_ge (by omega) hb) (nm_r (nI_1 i) h)
theorem qy_g142 {post : Int32 → Prop} {J : Int32 → Int32 → Int32 → Int32 → Int32 → Int32 → Int32 → Prop} {x2 x3 x4 x9 c : Int32} {dp b i : Nat} (hd : dp < 2 ^ 31) (hb : b < 2 ^ 31 - 1) (hcb : ¬ (c = 125 ∧ b = 0)) (h : J x9 x2 x3 x4 (nI (qm_gb c b)) (nI (qm_gm dp (qm_gb c b))) (nI (i + 1))) : wY_grammar_142 post J x2 x4 (nI b) (nI dp) (nI i) c x9 x3 f_size f_end f_good f_count a_source a_text a_vars a_kinds a_vals a_begins a_times := by
  unfold wY_grammar_142
  unfold qm_gb at h
  by_cases z : c = 123
  · rw [if_pos z] at h
    refine br_t z ?_
    rw [nI_1]; exact qy_g173 hd (by omega) h
  · rw [if_neg z] at h
    refine br_f z ?_
    by_cases y : c = 125
    · rw [if_pos y] at h
      refine br_t y ?_
      have e : nI b - 1 = nI (b - 1) := pk_sub (b := 1) (by
        by_cases q : b = 0
        · exact absurd ⟨y, q⟩ hcb
        · omega)
      rw [e]; exact qy_g173 hd (by omega) h
    · rw [if_neg y] at h
      exact br_f y (qy_g173 hd (by omega) h)
theorem qy_g113 {post : Int32 → Prop} {J : Int32 → Int32 → Int32 → Int32 → Int32 → Int32 → Int32 → Prop} {x2 x4 x9 c : Int32} {dp b o i : Nat} (hd : dp < 2 ^ 31) (hb : b < 2 ^ 31 - 1) (hcb : ¬ (c = 125 ∧ b = 0)) (hco : c = 41 → o ≠ 0) (h : J x9 x2 (nI (if c = 40 then o + 1 else if c = 41 then o - 1 else o)) x4 (nI (qm_gb c b)) (nI (qm_gm dp (qm_gb c b))) (nI (i + 1))) : wY_grammar_113 post J x2 (nI o) (nI b) (nI dp) (nI i) c x9 x4 f_size f_end f_good f_count a_source a_text a_vars a_kinds a_vals a_begins a_times := by
  unfold wY_grammar_113
  by_cases z : c = 40
  · rw [if_pos z] at h
    refine br_t z ?_
    rw [nI_1]; exact qy_g142 hd hb hcb h
  · rw [if_neg z] at h
    refine br_f z ?_
    by_cases y : c = 41
    · rw [if_pos y] at h
      refine br_t y ?_
      have e : nI o - 1 = nI (o - 1) := pk_sub (b := 1) (by have := hco y; omega)
      rw [e]; exact qy_g142 hd hb hcb h
    · rw [if_neg y] at h
      exact br_f y (qy_g142 hd hb hcb h)
theorem qy_g91 {post : Int32 → Prop} {J : Int32 → Int32 → Int32 → Int32 → Int32 → Int32 → Int32 → Prop} {x2 x9 c : Int32} {st dp b o d i : Nat} (hst : st ≤ 5) (hd : dp < 2 ^ 31) (hb : b < 2 ^ 31 - 1) (hcb : ¬ (c = 125 ∧ b = 0)) (hco : c = 41 → o ≠ 0) (h : J x9 x2 (nI (if c = 40 then o + 1 else if c = 41 then o - 1 else o)) (nI (qm_gg st c d)) (nI (qm_gb c b)) (nI (qm_gm dp (qm_gb c b))) (nI (i + 1))) : wY_grammar_91 post J (nI st) x2 (nI o) (nI d) (nI b) (nI dp) (nI i) c x9 f_size f_end f_good f_count a_source a_text a_vars a_kinds a_vals a_begins a_times := by
  unfold wY_grammar_91
  unfold qm_gg at h
  cases g : qm_dg c with
  | false =>
    rw [g, if_neg (show ¬ (false = true) by decide)] at h
    refine qy_dg0 g (br_t rfl ?_)
    unfold wY_grammar_112
    exact qy_g113 hd hb hcb hco h
  | true =>
    rw [g, if_pos (show true = true from rfl)] at h
    refine qy_dg1 g (br_f (by decide) ?_)
    by_cases z : st < 4
    · rw [if_pos z] at h
      refine br_f (nI_ge (b := 4) z (by decide)) ?_
      rw [nI_1]; exact qy_g113 hd hb hcb hco h
    · rw [if_neg z] at h
      refine br_t (nI_le (a := 4) (by omega) (by omega)) ?_
      unfold wY_grammar_112
      exact qy_g113 hd hb hcb hco h
theorem qy_g69 {post : Int32 → Prop} {J : Int32 → Int32 → Int32 → Int32 → Int32 → Int32 → Int32 → Prop} {cl x9 c : Int32} {st dp b o d i : Nat} (hst : st ≤ 5) (hd : dp < 2 ^ 31) (hb : b < 2 ^ 31 - 1) (hcb : ¬ (c = 125 ∧ b = 0)) (hco : c = 41 → st = 3 ∧ o ≠ 0) (h : J x9 (qm_gc st c cl) (nI (qm_go st c o)) (nI (qm_gg st c d)) (nI (qm_gb c b)) (nI (qm_gm dp (qm_gb c b))) (nI (i + 1))) : wY_grammar_69 post J (nI st) cl (nI o) (nI d) (nI b) (nI dp) (nI i) c x9 f_size f_end f_good f_count a_source a_text a_vars a_kinds a_vals a_begins a_times := by
  unfold wY_grammar_69
  unfold qm_gc qm_go qm_g1 at h
  by_cases z : st < 2
  · rw [if_pos z, if_pos z] at h
    have c41 : ¬ c = 41 := fun y => by have := (hco y).1; omega
    refine br_f (nI_ge (b := 2) z (by decide)) ?_
    by_cases y : c = 63
    · rw [if_pos y] at h
      refine br_t y ?_
      unfold wY_grammar_88
      exact qy_g91 (o := 0) hst hd hb hcb (fun q => absurd q c41) h
    · rw [if_neg y] at h
      refine br_f y ?_
      unfold wY_grammar_88
      exact qy_g91 (o := 0) hst hd hb hcb (fun q => absurd q c41) h
  · rw [if_neg z, if_neg z] at h
    refine br_t (nI_le (a := 2) (by omega) (by omega)) ?_
    exact qy_g91 hst hd hb hcb (fun q => (hco q).2) h
end
section
variable {f_end f_good f_count : Int32} {a_text a_vars a_kinds a_vals a_begins a_times : Nat → Int32}
theorem qy_gram_l {post : Int32 → Prop} {s : Nat → Int32} {n : Nat} (hn : n ≤ 80) : ∀ (k fuel i st : Nat) (cl : Int32) (o d b dp : Nat), i + k = n → k < fuel → st ≤ 5 → o ≤ i → d ≤ i → b ≤ i → dp ≤ i → post (nI (qm_gr s k i st cl o d b dp)) →
    wY_grammar_19 post (nI n) f_end f_good f_count s a_text a_vars a_kinds a_vals a_begins a_times fuel (nI st) cl (nI o) (nI d) (nI b) (nI dp) (nI i) := by
  intro k
  induction k with
  | zero =>
    intro fuel i st cl o d b dp e hf hst ho hd hb hdp hp
    cases fuel with
    | zero => omega
    | succ fuel =>
      refine br_t (nI_le (by omega) (by omega)) ?_
      unfold qm_gr at hp
      by_cases s0 : st = 0
      · rw [if_pos s0] at hp; subst s0
        refine br_t rfl ?_
        by_cases b0 : b = 0
        · rw [if_pos b0] at hp; subst b0
          refine br_t rfl ?_
          by_cases d3 : dp ≤ 3
          · rw [if_pos d3] at hp; exact br_t (nI_le (b := 3) d3 (by decide)) hp
          · rw [if_neg d3] at hp; exact br_f (nI_ge (a := 3) (by omega) (by omega)) hp
        · rw [if_neg b0] at hp; exact br_f (nI_ne0 (by omega) (by omega)) hp
      · rw [if_neg s0] at hp; exact br_f (nI_ne0 (by omega) (by omega)) hp
  | succ k ih =>
    intro fuel i st cl o d b dp e hf hst ho hd hb hdp hp
    cases fuel with
    | zero => omega
    | succ fuel =>
      refine br_f (nI_ge (by omega) (by omega)) ?_
      rw [nI_clamp (show i < 2 ^ 31 by omega)]
      refine ⟨vp_in_nI (by omega) (by omega), nm_e ?_⟩
      refine qy_next hst (by omega) (by omega) ?_
      cases h : qm_nx st (s i) cl o d with
      | none =>
        rw [qm_gr_n h] at hp
        exact br_t (by decide) hp
      | some t =>
        refine br_f (nI_pos (by have := qm_nx_5 h; omega)) ?_
        have go : ¬ (s i = 125 ∧ b = 0) → wY_grammar_69 post (wY_grammar_19 post (nI n) f_end f_good f_count s a_text a_vars a_kinds a_vals a_begins a_times fuel) (nI st) cl (nI o) (nI d) (nI b) (nI dp) (nI i) (s i) (nI t) (nI n) f_end f_good f_count s a_text a_vars a_kinds a_vals a_begins a_times := by
          intro hcb
          rw [qm_gr_s h hcb] at hp
          refine qy_g69 hst (by omega) (by omega) hcb (fun y => by rw [y] at h; exact qm_nx_41 hst h) ?_
          refine ih fuel (i + 1) t _ _ _ _ _ (by omega) (by omega) (qm_nx_5 h) ?_ ?_ ?_ ?_ hp
          · unfold qm_go qm_g1; (repeat' split) <;> omega
          · unfold qm_gg; (repeat' split) <;> omega
          · unfold qm_gb; (repeat' split) <;> omega
          · unfold qm_gm qm_gb; (repeat' split) <;> omega
        by_cases c1 : s i = 125
        · refine br_t c1 ?_
          by_cases b0 : b = 0
          · subst b0
            rw [qm_gr_b c1] at hp
            exact br_t rfl hp
          · exact br_f (nI_ne0 (by omega) (by omega)) (go (fun z => b0 z.2))
        · exact br_f c1 (go (fun z => c1 z.1))
theorem qy_grammar {post : Int32 → Prop} {s : Nat → Int32} {n : Nat} (hn : n ≤ 80) (hp : post (nI (qm_gr s n 0 0 59 0 0 0 0))) : wpY_grammar post (nI n, f_end, f_good, f_count, s, a_text, a_vars, a_kinds, a_vals, a_begins, a_times) := by
  unfold wpY_grammar
  exact ⟨n + 1, qy_gram_l hn n (n + 1) 0 0 59 0 0 0 0 (by omega) (by omega) (by omega) (by omega) (by omega) (by omega) (by omega) hp⟩
end
end
section
/-! how deep an operand stands: pure, and the reference's methods -/
def qm_pr (c : Int32) : Prop := 1 ≤ qm_rk (qm_oc c) ∨ c = 40 ∨ c = 61 ∨ c = 63
def qm_neg (s : Nat → Int32) : Nat → Nat
  | 0 => 0
  | 1 => 0
  | j + 2 => if s (j + 1) = 45 ∧ (1 ≤ qm_rk (qm_oc (s j)) ∨ s j = 40 ∨ s j = 61 ∨ s j = 63) then qm_neg s (j + 1) + 1 else 0
theorem qm_neg_t {s : Nat → Int32} {j : Nat} (h : s (j + 1) = 45) (hp : qm_pr (s j)) : qm_neg s (j + 2) = qm_neg s (j + 1) + 1 := if_pos ⟨h, hp⟩
theorem qm_neg_f {s : Nat → Int32} {j : Nat} (h : ¬ (s (j + 1) = 45 ∧ qm_pr (s j))) : qm_neg s (j + 2) = 0 := if_neg h
theorem qm_neg_le (s : Nat → Int32) : ∀ i, qm_neg s i ≤ i
  | 0 => Nat.le_refl 0
  | 1 => Nat.zero_le 1
  | j + 2 => by
    have := qm_neg_le s (j + 1)
    unfold qm_neg
    split <;> omega
def qm_arf (s : Nat → Int32) : Nat → Nat → Option Nat
  | 0, _ => none
  | i + 1, k => if s i = 61 then none else if s i = 63 then none else if s i = 41 then qm_arf s i (k + 1) else if s i = 40 then (if k = 0 then some i else qm_arf s i (k - 1)) else qm_arf s i k
theorem qm_arf_lt {s : Nat → Int32} : ∀ {i k b : Nat}, qm_arf s i k = some b → b < i
  | 0, _, _, h => by cases h
  | i + 1, k, b, h => by
    unfold qm_arf at h
    split at h
    · cases h
    · split at h
      · cases h
      · split at h
        · have := qm_arf_lt h; omega
        · split at h
          · split at h
            · cases h; omega
            · have := qm_arf_lt h; omega
          · have := qm_arf_lt h; omega
def qm_dr (s : Nat → Int32) : Nat → Nat → Nat
  | 0, _ => 0
  | f + 1, p => match qm_arf s p 0 with
    | none => 0
    | some b => 1 + qm_neg s b + qm_dr s f b
def qm_dep (s : Nat → Int32) (i : Nat) : Nat := qm_neg s i + qm_dr s (i + 1) i
theorem qm_dr_0 {s : Nat → Int32} {f p : Nat} (h : qm_arf s p 0 = none) : qm_dr s (f + 1) p = 0 := by rw [qm_dr, h]
theorem qm_dr_1 {s : Nat → Int32} {f p b : Nat} (h : qm_arf s p 0 = some b) : qm_dr s (f + 1) p = 1 + qm_neg s b + qm_dr s f b := by rw [qm_dr, h]
theorem qm_dr_f {s : Nat → Int32} : ∀ (p f g : Nat), p < f → p < g → qm_dr s f p = qm_dr s g p := by
  intro p
  induction p using Nat.strongRecOn with
  | ind p ih =>
    intro f g hf hg
    cases f with
    | zero => omega
    | succ f =>
      cases g with
      | zero => omega
      | succ g =>
        cases h : qm_arf s p 0 with
        | none => rw [qm_dr_0 h, qm_dr_0 h]
        | some b =>
          have := qm_arf_lt h
          rw [qm_dr_1 h, qm_dr_1 h, ih b this f g (by omega) (by omega)]
theorem qm_dr_le {s : Nat → Int32} : ∀ (f p : Nat), p ≤ 80 → qm_dr s f p ≤ 81 * p := by
  intro f
  induction f with
  | zero => intro p h; exact Nat.zero_le _
  | succ f ih =>
    intro p hp
    cases h : qm_arf s p 0 with
    | none => rw [qm_dr_0 h]; omega
    | some b =>
      have h1 := qm_arf_lt h
      have h2 := qm_neg_le s b
      have h3 := ih b (by omega)
      rw [qm_dr_1 h]; omega
def qm_is (s : Nat → Int32) : Nat → Bool
  | 0 => false
  | i + 1 => if s i = 61 then true else if s i = 63 then true else if s i = 59 then false else if s i = 35 then false else if s i = 123 then false else if s i = 125 then false else qm_is s i
/-- an operand of a sum stands at i, too deep -/
def qm_dq (s : Nat → Int32) (i : Nat) : Prop := (qm_dg (s i) = true ∨ qm_lt (s i) = true) ∧ qm_is s i = true ∧ 8 < qm_dep s i
def qm_oI (r : Option Nat) : Int32 := match r with
  | none => -1
  | some j => nI j
section
variable {f_size f_end f_good f_count : Int32} {a_text a_vars a_kinds a_vals a_begins a_times : Nat → Int32}
theorem qy_neg_l {post : Int32 → Prop} {s : Nat → Int32} : ∀ (i fuel acc : Nat), i < fuel → i < 80 → acc + i < 1000 → post (nI (acc + qm_neg s (i + 1))) → wY_negations_6 post f_size f_end f_good f_count s a_text a_vars a_kinds a_vals a_begins a_times fuel (nI acc) (nI i) := by
  intro i
  induction i with
  | zero =>
    intro fuel acc hf hi ha hp
    cases fuel with
    | zero => omega
    | succ fuel => exact br_t (by decide) hp
  | succ j ih =>
    intro fuel acc hf hi ha hp
    cases fuel with
    | zero => omega
    | succ fuel =>
      refine br_f (nI_nle (by omega) (by omega)) ?_
      rw [nI_pred, nI_clamp (show j < 2 ^ 31 by omega), nI_clamp (show j + 1 < 2 ^ 31 by omega)]
      refine ⟨vp_in_nI (by omega) (by omega), nm_e ⟨vp_in_nI (by omega) (by omega), ?_⟩⟩
      have yes : s (j + 1) = 45 → qm_pr (s j) → wY_negations_61 post (wY_negations_6 post f_size f_end f_good f_count s a_text a_vars a_kinds a_vals a_begins a_times fuel) (nI acc) (nI (j + 1)) f_size f_end f_good f_count s a_text a_vars a_kinds a_vals a_begins a_times := by
        intro h1 h2
        unfold wY_negations_61 wY_negations_66
        refine br_f (by decide) (nm_r (nI_1 acc) (nm_r (pk_m1 j) ?_))
        rw [qm_neg_t h1 h2] at hp
        refine ih fuel (acc + 1) (by omega) (by omega) (by omega) ?_
        rw [show acc + 1 + qm_neg s (j + 1) = acc + (qm_neg s (j + 1) + 1) from by omega]
        exact hp
      have no : ¬ (s (j + 1) = 45 ∧ qm_pr (s j)) → wY_negations_65 post (wY_negations_6 post f_size f_end f_good f_count s a_text a_vars a_kinds a_vals a_begins a_times fuel) (nI acc) (nI (j + 1)) f_size f_end f_good f_count s a_text a_vars a_kinds a_vals a_begins a_times := by
        intro h1
        unfold wY_negations_65 wY_negations_66
        rw [qm_neg_f h1] at hp
        exact br_t rfl hp
      refine br_c (fun h1 => ?_) (fun h1 => no (fun z => h1 z.1))
      refine qy_op (fun y => ?_) (fun y => ?_)
      · exact br_f (by decide) (yes h1 (Or.inl y))
      · refine br_t rfl ?_
        by_cases c1 : s j = 40
        · exact br_t c1 (yes h1 (Or.inr (Or.inl c1)))
        · refine br_f c1 ?_
          by_cases c2 : s j = 61
          · exact br_t c2 (yes h1 (Or.inr (Or.inr (Or.inl c2))))
          · refine br_f c2 ?_
            by_cases c3 : s j = 63
            · exact br_t c3 (yes h1 (Or.inr (Or.inr (Or.inr c3))))
            · refine br_f c3 (no (fun z => ?_))
              rcases z.2 with q | q | q | q
              · exact y q
              · exact c1 q
              · exact c2 q
              · exact c3 q
theorem qy_neg {post : Int32 → Prop} {s : Nat → Int32} {i : Nat} (hi : i ≤ 80) (hp : post (nI (qm_neg s i))) : wpY_negations post (f_size, f_end, f_good, f_count, s, a_text, a_vars, a_kinds, a_vals, a_begins, a_times) (nI i) := by
  unfold wpY_negations
  cases i with
  | zero => exact nm_e ⟨1, br_t (by decide) hp⟩
  | succ i =>
    refine nm_r (nI_pred i) ⟨i + 1, qy_neg_l i _ 0 (by omega) (by omega) (by omega) ?_⟩
    rw [Nat.zero_add]; exact hp
theorem qy_around_l {post : Int32 → Prop} {s : Nat → Int32} : ∀ (i fuel k : Nat), i < fuel → i ≤ 80 → k + i < 1000 → post (qm_oI (qm_arf s i k)) → wY_around_6 post f_size f_end f_good f_count s a_text a_vars a_kinds a_vals a_begins a_times fuel (nI k) (nI i + (-1)) := by
  intro i
  induction i with
  | zero =>
    intro fuel k hf hi hk hp
    cases fuel with
    | zero => omega
    | succ fuel => exact br_t (qm_m1 (k := 0) (by decide)) hp
  | succ i ih =>
    intro fuel k hf hi hk hp
    cases fuel with
    | zero => omega
    | succ fuel =>
      rw [pk_m1]
      refine br_f (nI_pos (by omega)) ?_
      rw [nI_clamp (show i < 2 ^ 31 by omega)]
      refine ⟨vp_in_nI (by omega) (by omega), nm_e ?_⟩
      unfold qm_arf at hp
      by_cases c1 : s i = 61
      · rw [if_pos c1] at hp; exact br_t c1 hp
      · rw [if_neg c1] at hp
        refine br_f c1 ?_
        by_cases c2 : s i = 63
        · rw [if_pos c2] at hp; exact br_t c2 hp
        · rw [if_neg c2] at hp
          refine br_f c2 ?_
          by_cases c3 : s i = 41
          · rw [if_pos c3] at hp
            refine br_t c3 (nm_r (nI_1 k) ?_)
            unfold wY_around_44
            exact br_f (by rw [c3]; decide) (nm_e (ih fuel (k + 1) (by omega) (by omega) (by omega) hp))
          · rw [if_neg c3] at hp
            refine br_f c3 ?_
            unfold wY_around_44
            by_cases c4 : s i = 40
            · rw [if_pos c4] at hp
              refine br_t c4 ?_
              by_cases k0 : k = 0
              · rw [if_pos k0] at hp; subst k0; exact br_t rfl hp
              · rw [if_neg k0] at hp
                obtain ⟨q, rfl⟩ : ∃ q, k = q + 1 := ⟨k - 1, by omega⟩
                exact br_f (nI_ne0 (by omega) (by omega)) (nm_r (pk_m1 q) (nm_e (ih fuel q (by omega) (by omega) (by omega) hp)))
            · rw [if_neg c4] at hp
              exact br_f c4 (nm_e (ih fuel k (by omega) (by omega) (by omega) hp))
theorem qy_around {post : Int32 → Prop} {s : Nat → Int32} {i : Nat} (hi : i ≤ 80) (hp : post (qm_oI (qm_arf s i 0))) : wpY_around post (f_size, f_end, f_good, f_count, s, a_text, a_vars, a_kinds, a_vals, a_begins, a_times) (nI i) := by
  unfold wpY_around
  refine nm_r (e' := nI i + (-1)) ?_ ⟨i + 1, qy_around_l i _ 0 (by omega) hi (by omega) hp⟩
  grind
theorem qy_depth_l {post : Int32 → Prop} {s : Nat → Int32} : ∀ (p fuel k d : Nat), p + 2 < fuel → k + p < 80 → d + 81 * p ≤ 1000000 → post (nI (d + qm_dr s (p + 1) p)) → wY_depth_11 post f_size f_end f_good f_count s a_text a_vars a_kinds a_vals a_begins a_times fuel (nI d) (nI p) (nI k) := by
  intro p
  induction p using Nat.strongRecOn with
  | ind p ih =>
    intro fuel k d hf hk hd hp
    cases fuel with
    | zero => omega
    | succ fuel =>
      refine br_f (nI_ge (b := 80) (by omega) (by decide)) (br_f (nI_pos (by omega)) ?_)
      refine qy_around (by omega) ?_
      cases h : qm_arf s p 0 with
      | none =>
        rw [qm_dr_0 h] at hp
        refine br_t (by decide) (nm_r (nI_1 k) ?_)
        cases fuel with
        | zero => omega
        | succ fuel =>
          by_cases z : k + 1 = 80
          · exact br_t (by rw [z]; decide) hp
          · exact br_f (nI_ge (b := 80) (by omega) (by decide)) (br_t (by decide) hp)
      | some b =>
        have h1 := qm_arf_lt h
        have h2 := qm_neg_le s b
        rw [qm_dr_1 h] at hp
        refine br_f (nI_pos (by omega)) ?_
        refine qy_neg (by omega) ?_
        refine nm_r (e' := nI (d + 1 + qm_neg s b)) (by rw [nI_1, nI_add]) (nm_r (nI_1 k) ?_)
        exact ih b h1 fuel (k + 1) (d + 1 + qm_neg s b) (by omega) (by omega) (by omega) (by
          rw [qm_dr_f b (b + 1) p (by omega) (by omega), show d + 1 + qm_neg s b + qm_dr s p b = d + (1 + qm_neg s b + qm_dr s p b) from by omega]
          exact hp)
theorem qy_is_l {post : Int32 → Prop} {s : Nat → Int32} : ∀ (i fuel : Nat), i < fuel → i ≤ 80 → (qm_is s i = true → post 1) → (qm_is s i = false → post 0) → wY_inSum_4 post f_size f_end f_good f_count s a_text a_vars a_kinds a_vals a_begins a_times fuel (nI i + (-1)) := by
  intro i
  induction i with
  | zero =>
    intro fuel hf hi h1 h0
    cases fuel with
    | zero => omega
    | succ fuel => exact br_t (qm_m1 (k := 0) (by decide)) (h0 rfl)
  | succ i ih =>
    intro fuel hf hi h1 h0
    cases fuel with
    | zero => omega
    | succ fuel =>
      rw [pk_m1]
      refine br_f (nI_pos (by omega)) ?_
      rw [nI_clamp (show i < 2 ^ 31 by omega)]
      refine ⟨vp_in_nI (by omega) (by omega), nm_e ?_⟩
      unfold qm_is at h1 h0
      by_cases c1 : s i = 61
      · rw [if_pos c1] at h1; exact br_t c1 (h1 rfl)
      · rw [if_neg c1] at h1 h0
        refine br_f c1 ?_
        by_cases c2 : s i = 63
        · rw [if_pos c2] at h1; exact br_t c2 (h1 rfl)
        · rw [if_neg c2] at h1 h0
          refine br_f c2 ?_
          by_cases c3 : s i = 59
          · rw [if_pos c3] at h0; exact br_t c3 (h0 rfl)
          · rw [if_neg c3] at h1 h0
            refine br_f c3 ?_
            by_cases c4 : s i = 35
            · rw [if_pos c4] at h0; exact br_t c4 (h0 rfl)
            · rw [if_neg c4] at h1 h0
              refine br_f c4 ?_
              by_cases c5 : s i = 123
              · rw [if_pos c5] at h0; exact br_t c5 (h0 rfl)
              · rw [if_neg c5] at h1 h0
                refine br_f c5 ?_
                by_cases c6 : s i = 125
                · rw [if_pos c6] at h0; exact br_t c6 (h0 rfl)
                · rw [if_neg c6] at h1 h0
                  exact br_f c6 (nm_e (ih fuel (by omega) (by omega) h1 h0))
theorem qy_inSum {post : Int32 → Prop} {s : Nat → Int32} {i : Nat} (hi : i ≤ 80) (h1 : qm_is s i = true → post 1) (h0 : qm_is s i = false → post 0) : wpY_inSum post (f_size, f_end, f_good, f_count, s, a_text, a_vars, a_kinds, a_vals, a_begins, a_times) (nI i) := by
  unfold wpY_inSum
  refine nm_r (e' := nI i + (-1)) ?_ ⟨i + 1, qy_is_l i _ (by omega) hi h1 h0⟩
  grind
end
end
section
/-! the reference's compile() -/
theorem qm_gr_012 {s : Nat → Int32} : ∀ (k i st : Nat) (cl : Int32) (o d b dp : Nat), qm_gr s k i st cl o d b dp = 0 ∨ qm_gr s k i st cl o d b dp = 1 ∨ qm_gr s k i st cl o d b dp = 2
  | 0, i, st, cl, o, d, b, dp => by
    unfold qm_gr
    (repeat' split) <;> simp
  | k + 1, i, st, cl, o, d, b, dp => by
    cases h : qm_nx st (s i) cl o d with
    | none => rw [qm_gr_n h]; exact Or.inr (Or.inl rfl)
    | some t =>
      by_cases hb : s i = 125 ∧ b = 0
      · rw [hb.2, qm_gr_b hb.1]; exact Or.inr (Or.inl rfl)
      · rw [qm_gr_s h hb]; exact qm_gr_012 k _ _ _ _ _ _ _
section
variable {f_size f_end f_good f_count : Int32} {a_source a_text a_vars a_kinds a_vals a_begins a_times : Nat → Int32}
theorem qy_depth {post : Int32 → Prop} {s : Nat → Int32} {i : Nat} (hi : i < 80) (hp : post (nI (qm_dep s i))) : wpY_depth post (f_size, f_end, f_good, f_count, s, a_text, a_vars, a_kinds, a_vals, a_begins, a_times) (nI i) := by
  unfold wpY_depth
  have := qm_neg_le s i
  exact qy_neg (by omega) ⟨i + 3, qy_depth_l i _ 0 _ (by omega) (by omega) (by omega) hp⟩
theorem qy_copy_l {post : Int32 → SY → Prop} {s : Nat → Int32} {n : Nat} {x1 : Int32} (hn : n ≤ 80) (hc : qm_ck s n)
    (hp : ∀ a_text, (∀ j, j < n → a_text j = s j) → post x1 (nI n, nI n, 1, f_count, s, a_text, a_vars, a_kinds, a_vals, a_begins, a_times)) :
    ∀ (fuel i : Nat) (a_text : Nat → Int32), n - i < fuel → i ≤ n → (∀ j, j < i → a_text j = s j) → wY_compile_82 post x1 (nI n) f_end f_good f_count fuel (nI i) s a_text a_vars a_kinds a_vals a_begins a_times := by
  intro fuel
  induction fuel with
  | zero => intro i t h; omega
  | succ fuel ih =>
    intro i t hf hi h
    by_cases z : i = n
    · subst z
      exact br_t (nI_le (Nat.le_refl _) (by omega)) (hp t h)
    · refine br_f (nI_ge (by omega) (by omega)) ?_
      rw [nI_clamp (show i < 2 ^ 31 by omega), hc i (by omega)]
      have v : vp_in (nI i) 80 := vp_in_nI (by omega) (by omega)
      refine ⟨v, v, nm_e (nm_r (nI_1 i) (ih (i + 1) _ (by omega) (by omega) ?_))⟩
      intro j hj
      by_cases y : j = i
      · rw [y, pk_us]
      · rw [pk_un y]; exact h j (by omega)
theorem qy_deep_l {post : Int32 → SY → Prop} {s : Nat → Int32} {n : Nat} (hn : n ≤ 80) (hc : qm_ck s n) {a0 : Nat} (ha0 : a0 = 0 ∨ a0 = 2)
    (h2 : (a0 = 2 ∨ ∃ i, i < n ∧ qm_dq s i) → post 2 (nI n, f_end, f_good, f_count, s, a_text, a_vars, a_kinds, a_vals, a_begins, a_times))
    (h0 : a0 = 0 → (∀ i, i < n → ¬ qm_dq s i) → ∀ a_text, (∀ j, j < n → a_text j = s j) → post 0 (nI n, nI n, 1, f_count, s, a_text, a_vars, a_kinds, a_vals, a_begins, a_times)) :
    ∀ (k fuel i a : Nat), i + k = n → k < fuel → (a = 0 ∨ a = 2) → (a = 2 ↔ (a0 = 2 ∨ ∃ j, j < i ∧ qm_dq s j)) → wY_compile_19 post (nI n) f_end f_good f_count s a_text a_vars a_kinds a_vals a_begins a_times fuel (nI a) (nI i) := by
  intro k
  induction k with
  | zero =>
    intro fuel i a e hf ha hA
    cases fuel with
    | zero => omega
    | succ fuel =>
      obtain rfl : i = n := by omega
      refine br_t (nI_le (Nat.le_refl _) (by omega)) ?_
      rcases ha with rfl | rfl
      · refine br_t rfl ⟨i + 1, qy_copy_l hn hc ?_ _ 0 a_text (by omega) (Nat.zero_le _) (fun j hj => absurd hj (Nat.not_lt_zero j))⟩
        refine h0 ?_ ?_
        · rcases ha0 with z | z
          · exact z
          · exact absurd (hA.mpr (Or.inl z)) (by omega)
        · intro j hj z
          exact absurd (hA.mpr (Or.inr ⟨j, hj, z⟩)) (by omega)
      · exact br_f (by decide) (h2 (hA.mp rfl))
  | succ k ih =>
    intro fuel i a e hf ha hA
    cases fuel with
    | zero => omega
    | succ fuel =>
      refine br_f (nI_ge (by omega) (by omega)) ?_
      rw [nI_clamp (show i < 2 ^ 31 by omega)]
      refine ⟨vp_in_nI (by omega) (by omega), nm_e ?_⟩
      have keep : ¬ qm_dq s i → wY_compile_19 post (nI n) f_end f_good f_count s a_text a_vars a_kinds a_vals a_begins a_times fuel (nI a) (nI (i + 1)) := by
        intro nq
        refine ih fuel (i + 1) a (by omega) (by omega) ha ?_
        rw [hA]
        constructor
        · rintro (z | ⟨j, j1, j2⟩)
          · exact Or.inl z
          · exact Or.inr ⟨j, by omega, j2⟩
        · rintro (z | ⟨j, j1, j2⟩)
          · exact Or.inl z
          · by_cases y : j = i
            · rw [y] at j2; exact absurd j2 nq
            · exact Or.inr ⟨j, by omega, j2⟩
      have opd : (qm_dg (s i) = true ∨ qm_lt (s i) = true) → wY_compile_50 post (wY_compile_19 post (nI n) f_end f_good f_count s a_text a_vars a_kinds a_vals a_begins a_times fuel) (nI a) (nI i) (nI n) f_end f_good f_count s a_text a_vars a_kinds a_vals a_begins a_times := by
        intro ho
        unfold wY_compile_50
        refine qy_inSum (by omega) (fun y => ?_) (fun y => ?_)
        · refine br_f (by decide) (qy_depth (by omega) ?_)
          by_cases z : 8 < qm_dep s i
          · have db : qm_dep s i < 2 ^ 31 := by
              have h1 := qm_neg_le s i
              have h2 := qm_dr_le (s := s) (i + 1) i (by omega)
              unfold qm_dep; omega
            refine br_f (nI_ge (a := 8) z db) (nm_r (nI_1 i) ?_)
            exact ih fuel (i + 1) 2 (by omega) (by omega) (Or.inr rfl) ⟨fun _ => Or.inr ⟨i, by omega, ho, y, z⟩, fun _ => rfl⟩
          · refine br_t (nI_le (b := 8) (by omega) (by decide)) (nm_r (nI_1 i) ?_)
            exact keep (fun q => z q.2.2)
        · refine br_t rfl (nm_r (nI_1 i) (keep (fun q => ?_)))
          have q1 := q.2.1; rw [y] at q1; exact absurd q1 (by decide)
      cases g : qm_dg (s i) with
      | true => exact qy_dg1 g (br_f (by decide) (opd (Or.inl g)))
      | false =>
        refine qy_dg0 g (br_t rfl ?_)
        cases l : qm_lt (s i) with
        | true => exact qy_lt1 l (br_f (by decide) (opd (Or.inr l)))
        | false =>
          refine qy_lt0 l (br_t rfl (nm_r (nI_1 i) (keep (fun q => ?_))))
          rcases q.1 with q | q
          · rw [g] at q; exact absurd q (by decide)
          · rw [l] at q; exact absurd q (by decide)
theorem qy_compile {post : Int32 → SY → Prop} {s : Nat → Int32} {n : Nat} (hn : n ≤ 80) (hc : qm_ck s n)
    (h1 : qm_gr s n 0 0 59 0 0 0 0 = 1 → post 1 (nI n, f_end, 0, f_count, s, a_text, a_vars, a_kinds, a_vals, a_begins, a_times))
    (h2 : qm_gr s n 0 0 59 0 0 0 0 ≠ 1 → (qm_gr s n 0 0 59 0 0 0 0 = 2 ∨ ∃ i, i < n ∧ qm_dq s i) → post 2 (nI n, f_end, 0, f_count, s, a_text, a_vars, a_kinds, a_vals, a_begins, a_times))
    (h0 : qm_gr s n 0 0 59 0 0 0 0 = 0 → (∀ i, i < n → ¬ qm_dq s i) → ∀ a_text, (∀ j, j < n → a_text j = s j) → post 0 (nI n, nI n, 1, f_count, s, a_text, a_vars, a_kinds, a_vals, a_begins, a_times)) : wpY_compile post (nI n, f_end, f_good, f_count, s, a_text, a_vars, a_kinds, a_vals, a_begins, a_times) := by
  unfold wpY_compile
  refine qy_grammar hn ?_
  have R := qm_gr_012 (s := s) n 0 0 59 0 0 0 0
  generalize qm_gr s n 0 0 59 0 0 0 0 = r at *
  rcases R with rfl | rfl | rfl
  · refine br_f (by decide) ⟨n + 1, ?_⟩
    exact qy_deep_l hn hc (a0 := 0) (Or.inl rfl) (fun z => h2 (by omega) (z.elim (fun y => Or.inl y) Or.inr)) (fun _ => h0 rfl) n _ 0 0 (by omega) (by omega) (Or.inl rfl) ⟨fun z => absurd z (by omega), fun z => by
      rcases z with z | ⟨j, hj, _⟩
      · omega
      · omega⟩
  · exact br_t rfl (h1 rfl)
  · refine br_f (by decide) ⟨n + 1, ?_⟩
    exact qy_deep_l hn hc (a0 := 2) (Or.inr rfl) (fun z => h2 (by omega) (Or.inl rfl)) (fun z => absurd z (by omega)) n _ 0 2 (by omega) (by omega) (Or.inr rfl) ⟨fun _ => Or.inl rfl, fun _ => rfl⟩
end
end
section
/-! what holds while a sum is read: the members so far -/
theorem qm_run_e {α : Type} {ng : α → α} {bn : Int32 → α → α → α} (K : Nat → Int32) (P : Nat → α) (i : Nat) : (qm_run ng bn K P (i + 1)).1 = true ↔ K i ≠ 118 ∧ K i ≠ 41 := by
  show (qm_st ng bn (qm_run ng bn K P i) (K i) (P i)).1 = true ↔ _
  unfold qm_st
  by_cases h1 : K i = 118
  · rw [if_pos h1]; constructor
    · intro z; exact absurd z (by simp)
    · intro z; exact absurd h1 z.1
  · rw [if_neg h1]
    by_cases h2 : K i = 40
    · rw [if_pos h2]; exact ⟨fun _ => ⟨h1, by rw [h2]; decide⟩, fun _ => rfl⟩
    · rw [if_neg h2]
      by_cases h3 : K i = 41
      · rw [if_pos h3]; constructor
        · intro z; exact absurd z (by simp)
        · intro z; exact absurd h3 z.2
      · rw [if_neg h3]
        by_cases h4 : (qm_run ng bn K P i).1 = true
        · rw [if_pos h4]; exact ⟨fun _ => ⟨h1, h3⟩, fun _ => rfl⟩
        · rw [if_neg h4]; exact ⟨fun _ => ⟨h1, h3⟩, fun _ => rfl⟩
/-- the members so far stand as they may -/
def qm_wp (K : Nat → Int32) (m : Nat) : Prop :=
  (∀ j, j < m → ((j = 0 ∨ (K (j - 1) ≠ 118 ∧ K (j - 1) ≠ 41)) → K j = 118 ∨ K j = 40 ∨ K j = 45) ∧ (j ≠ 0 → (K (j - 1) = 118 ∨ K (j - 1) = 41) → K j = 41 ∨ qm_io (K j)))
  ∧ (∀ j, j < m → K j = 41 → 0 < qm_bd K j)
def qm_pl (p : Int32 × Int32) : Prop := p.1 = 1 ∨ (p.1 = 2 ∧ ∃ k, k < 8 ∧ p.2 = nI k)
def qm_sA (s : Nat → Int32) (a d : Nat) (e : Bool) (vs : List qm_V) (ws : List Int32) (o : Nat) : Prop :=
  qm_run qm_ng qm_bn (qm_tb s a d).1 (fun j => qm_lf ((qm_tb s a d).2.1 j)) (qm_tb s a d).2.2 = (e, vs, ws) ∧ qm_wp (qm_tb s a d).1 (qm_tb s a d).2.2 ∧ (∀ j, j < (qm_tb s a d).2.2 → (qm_tb s a d).1 j = 118 → qm_pl ((qm_tb s a d).2.1 j)) ∧ qm_bd (qm_tb s a d).1 (qm_tb s a d).2.2 = o
theorem qm_sA_0 (s : Nat → Int32) (a : Nat) : qm_sA s a 0 true [] [] 0 :=
  ⟨rfl, ⟨fun j hj => absurd hj (Nat.not_lt_zero j), fun j hj => absurd hj (Nat.not_lt_zero j)⟩, fun j hj => absurd hj (Nat.not_lt_zero j), rfl⟩
theorem qm_sA_new {s : Nat → Int32} {a d d' : Nat} {e : Bool} {vs : List qm_V} {ws : List Int32} {o o' : Nat} (h : qm_sA s a d e vs ws o) {K' : Nat → Int32} {P' : Nat → Int32 × Int32} (ht : qm_tb s a d' = (K', P', (qm_tb s a d).2.2 + 1)) (hag : ∀ j, j < (qm_tb s a d).2.2 → K' j = (qm_tb s a d).1 j ∧ P' j = (qm_tb s a d).2.1 j)
    (h1 : e = true → K' (qm_tb s a d).2.2 = 118 ∨ K' (qm_tb s a d).2.2 = 40 ∨ K' (qm_tb s a d).2.2 = 45) (h2 : e = false → K' (qm_tb s a d).2.2 = 41 ∨ qm_io (K' (qm_tb s a d).2.2)) (h3 : K' (qm_tb s a d).2.2 = 118 → qm_pl (P' (qm_tb s a d).2.2))
    (ho : K' (qm_tb s a d).2.2 = 41 → 0 < o) (ho' : (o : Int) + (if K' (qm_tb s a d).2.2 = 40 then 1 else if K' (qm_tb s a d).2.2 = 41 then -1 else 0) = o') :
    qm_sA s a d' (qm_st qm_ng qm_bn (e, vs, ws) (K' (qm_tb s a d).2.2) (qm_lf (P' (qm_tb s a d).2.2))).1 (qm_st qm_ng qm_bn (e, vs, ws) (K' (qm_tb s a d).2.2) (qm_lf (P' (qm_tb s a d).2.2))).2.1 (qm_st qm_ng qm_bn (e, vs, ws) (K' (qm_tb s a d).2.2) (qm_lf (P' (qm_tb s a d).2.2))).2.2 o' := by
  obtain ⟨g1, g2, g3, g4⟩ := h
  generalize qm_tb s a d = T at *
  obtain ⟨K, P, m⟩ := T
  dsimp only at *
  unfold qm_sA
  rw [ht]
  dsimp only
  have bdK : qm_bd K' m = qm_bd K m := qm_bd_congr m (fun j hj => (hag j hj).1)
  have rn : qm_run qm_ng qm_bn K' (fun j => qm_lf (P' j)) m = (e, vs, ws) := by
    rw [← g1]
    exact qm_run_congr m (fun j hj => ⟨(hag j hj).1, congrArg qm_lf (hag j hj).2⟩)
  have el : e = true ↔ (m = 0 ∨ (K (m - 1) ≠ 118 ∧ K (m - 1) ≠ 41)) := by
    cases m with
    | zero =>
      have : (true, [], []) = (e, vs, ws) := g1
      cases this
      exact ⟨fun _ => Or.inl rfl, fun _ => rfl⟩
    | succ m =>
      have := qm_run_e (ng := qm_ng) (bn := qm_bn) K (fun j => qm_lf (P j)) m
      rw [g1] at this
      rw [Nat.add_sub_cancel]
      rw [this]
      exact ⟨Or.inr, fun z => z.resolve_left (by omega)⟩
  refine ⟨?_, ⟨?_, ?_⟩, ?_, ?_⟩
  · show qm_st qm_ng qm_bn (qm_run qm_ng qm_bn K' (fun j => qm_lf (P' j)) m) (K' m) (qm_lf (P' m)) = _
    rw [rn]
  · intro j hj
    by_cases z : j < m
    · rw [(hag j z).1]
      by_cases z0 : j = 0
      · subst z0; exact ⟨fun _ => (g2.1 0 z).1 (Or.inl rfl), fun y => absurd rfl y⟩
      · rw [(hag (j - 1) (by omega)).1]; exact g2.1 j z
    · obtain rfl : j = m := by omega
      by_cases z0 : j = 0
      · exact ⟨fun _ => h1 (el.mpr (Or.inl z0)), fun y => absurd z0 y⟩
      · rw [(hag (j - 1) (by omega)).1]
        refine ⟨fun y => h1 (el.mpr y), fun _ y => h2 ?_⟩
        cases e with
        | false => rfl
        | true =>
          exfalso
          rcases el.mp rfl with q | q
          · exact z0 q
          · rcases y with y | y
            · exact q.1 y
            · exact q.2 y
  · intro j hj hk
    by_cases z : j < m
    · rw [qm_bd_congr j (fun i hi => (hag i (by omega)).1)]
      rw [(hag j z).1] at hk
      exact g2.2 j z hk
    · obtain rfl : j = m := by omega
      rw [bdK, g4]
      have := ho hk
      omega
  · intro j hj hk
    by_cases z : j < m
    · rw [(hag j z).2]
      rw [(hag j z).1] at hk
      exact g3 j z hk
    · obtain rfl : j = m := by omega
      exact h3 hk
  · rw [qm_bd_s, bdK, g4]; exact ho'
theorem qm_dg_ne {c : Int32} (h : qm_dg c = true) {x : Int32} (hx : qm_dg x = false) : c ≠ x := by
  intro z; rw [z, hx] at h; exact absurd h (by decide)
theorem qm_lt_ne {c : Int32} (h : qm_lt c = true) {x : Int32} (hx : qm_lt x = false) : c ≠ x := by
  intro z; rw [z, hx] at h; exact absurd h (by decide)
theorem qm_lt_dg {c : Int32} (h : qm_lt c = true) : qm_dg c = false := by
  cases e : qm_dg c with
  | false => rfl
  | true => rw [qm_dg_lt e] at h; exact absurd h (by decide)
theorem qm_io_dg {c : Int32} (h : qm_io c) : qm_dg c = false ∧ qm_lt c = false := by
  have : c = 43 ∨ c = 45 ∨ c = 42 ∨ c = 60 ∨ c = 38 := by
    rcases qm_op2 h with ⟨h1, _⟩ | ⟨_, z | z | z⟩
    · rcases qm_op1 h1 with z | z
      · exact Or.inl z.1
      · refine Or.inr (Or.inl ?_)
        by_cases q : c = 45
        · exact q
        · exfalso
          have e := z.2
          unfold qm_oc at e
          rw [if_neg z.1, if_neg q] at e
          revert e
          (repeat' split) <;> intro e <;> exact absurd e (by decide)
    · exact Or.inr (Or.inr (Or.inl z.1))
    · exact Or.inr (Or.inr (Or.inr (Or.inl z.1)))
    · exact Or.inr (Or.inr (Or.inr (Or.inr z.1)))
  rcases this with rfl | rfl | rfl | rfl | rfl <;> exact ⟨by decide, by decide⟩
theorem qm_pl_lt {c : Int32} (h : qm_lt c = true) : qm_pl (2, c - 97) := by
  obtain ⟨k, hk, e⟩ := qm_lt_n h
  refine Or.inr ⟨rfl, k, by omega, ?_⟩
  show c - 97 = nI k
  rw [e, show (97 : Int32) = nI 97 from rfl, pk_sub (by omega)]
  exact congrArg nI (by omega)
/-- a letter -/
theorem qm_sA_lt {s : Nat → Int32} {a d : Nat} {vs : List qm_V} {ws : List Int32} {o : Nat} (h : qm_sA s a d true vs ws o) (hl : qm_lt (s (a + d)) = true) : qm_sA s a (d + 1) false (qm_fac qm_ng qm_bn (qm_lf (2, s (a + d) - 97) :: vs) ws).1 (qm_fac qm_ng qm_bn (qm_lf (2, s (a + d) - 97) :: vs) ws).2 o := by
  have ht : qm_tb s a (d + 1) = (upd (qm_tb s a d).1 (qm_tb s a d).2.2 118, qm_up (qm_tb s a d).2.1 (qm_tb s a d).2.2 (2, s (a + d) - 97), (qm_tb s a d).2.2 + 1) := by
    rw [qm_tb, if_neg (fun z => by rw [qm_lt_dg hl] at z; exact absurd z.1 (by decide)), if_neg (by rw [qm_lt_dg hl]; decide), if_pos hl]
  have := qm_sA_new (o' := o) h ht (fun j hj => ⟨pk_un (by omega), qm_un (by omega)⟩) (fun _ => Or.inl pk_us) (fun z => absurd z (by decide)) (fun _ => by rw [qm_us]; exact qm_pl_lt hl) (fun z => by rw [pk_us] at z; exact absurd z (by decide)) (by rw [pk_us, if_neg (by decide), if_neg (by decide)]; omega)
  rw [pk_us, qm_us] at this
  exact this
/-- an opening bracket, a negation -/
theorem qm_sA_psh {s : Nat → Int32} {a d : Nat} {vs : List qm_V} {ws : List Int32} {o o' : Nat} {w : Int32} (h : qm_sA s a d true vs ws o) (hc : (s (a + d) = 40 ∧ w = 9 ∧ o' = o + 1) ∨ (s (a + d) = 45 ∧ w = 8 ∧ o' = o)) : qm_sA s a (d + 1) true vs (w :: ws) o' := by
  have g : qm_dg (s (a + d)) = false := by
    rcases hc with ⟨z, _⟩ | ⟨z, _⟩ <;> rw [z] <;> decide
  have l : qm_lt (s (a + d)) = false := by
    rcases hc with ⟨z, _⟩ | ⟨z, _⟩ <;> rw [z] <;> decide
  have ht : qm_tb s a (d + 1) = (upd (qm_tb s a d).1 (qm_tb s a d).2.2 (s (a + d)), qm_up (qm_tb s a d).2.1 (qm_tb s a d).2.2 (1, 0), (qm_tb s a d).2.2 + 1) := by
    rw [qm_tb, if_neg (fun z => by rw [g] at z; exact absurd z.1 (by decide)), if_neg (by rw [g]; decide), if_neg (by rw [l]; decide)]
  have := qm_sA_new (o' := o') h ht (fun j hj => ⟨pk_un (by omega), qm_un (by omega)⟩) (fun _ => by rw [pk_us]; rcases hc with ⟨z, _⟩ | ⟨z, _⟩; exact Or.inr (Or.inl z); exact Or.inr (Or.inr z)) (fun z => absurd z (by decide)) (fun _ => Or.inl (by rw [qm_us])) (fun z => by rw [pk_us] at z; rcases hc with ⟨y, _⟩ | ⟨y, _⟩ <;> rw [y] at z <;> exact absurd z (by decide)) (by
    rw [pk_us]
    rcases hc with ⟨z, _, y⟩ | ⟨z, _, y⟩
    · rw [z, if_pos rfl, y]; omega
    · rw [z, if_neg (by decide), if_neg (by decide), y]; omega)
  rw [pk_us, qm_us] at this
  rcases hc with ⟨z, y, _⟩ | ⟨z, y, _⟩
  · rw [z] at this; rw [y]; exact this
  · rw [z] at this; rw [y]; exact this
/-- an operator between operands -/
theorem qm_sA_op {s : Nat → Int32} {a d : Nat} {vs : List qm_V} {ws : List Int32} {o : Nat} (h : qm_sA s a d false vs ws o) (hc : qm_io (s (a + d))) : qm_sA s a (d + 1) true (qm_to qm_ng qm_bn (qm_rk (qm_oc (s (a + d)))) vs ws).1 (qm_oc (s (a + d)) :: (qm_to qm_ng qm_bn (qm_rk (qm_oc (s (a + d)))) vs ws).2) o := by
  obtain ⟨g, l⟩ := qm_io_dg hc
  obtain ⟨n1, n2, n3⟩ := qm_io_n hc
  have ht : qm_tb s a (d + 1) = (upd (qm_tb s a d).1 (qm_tb s a d).2.2 (s (a + d)), qm_up (qm_tb s a d).2.1 (qm_tb s a d).2.2 (1, 0), (qm_tb s a d).2.2 + 1) := by
    rw [qm_tb, if_neg (fun z => by rw [g] at z; exact absurd z.1 (by decide)), if_neg (by rw [g]; decide), if_neg (by rw [l]; decide)]
  have := qm_sA_new (o' := o) h ht (fun j hj => ⟨pk_un (by omega), qm_un (by omega)⟩) (fun z => absurd z (by decide)) (fun _ => by rw [pk_us]; exact Or.inr hc) (fun _ => Or.inl (by rw [qm_us])) (fun z => by rw [pk_us] at z; exact absurd z n3) (by rw [pk_us, if_neg n2, if_neg n3]; omega)
  rw [pk_us, qm_us] at this
  unfold qm_st at this
  rw [if_neg n1, if_neg n2, if_neg n3] at this
  rw [if_neg (show ¬ ((false, vs, ws) : Bool × List qm_V × List Int32).1 = true from fun z => Bool.noConfusion z)] at this
  exact this
/-- a closing bracket -/
theorem qm_sA_cl {s : Nat → Int32} {a d : Nat} {vs : List qm_V} {ws : List Int32} {o : Nat} (h : qm_sA s a d false vs ws (o + 1)) (hc : s (a + d) = 41) : qm_sA s a (d + 1) false (qm_fac qm_ng qm_bn (qm_to qm_ng qm_bn 1 vs ws).1 (qm_to qm_ng qm_bn 1 vs ws).2.tail).1 (qm_fac qm_ng qm_bn (qm_to qm_ng qm_bn 1 vs ws).1 (qm_to qm_ng qm_bn 1 vs ws).2.tail).2 o := by
  have g : qm_dg (s (a + d)) = false := by rw [hc]; decide
  have l : qm_lt (s (a + d)) = false := by rw [hc]; decide
  have ht : qm_tb s a (d + 1) = (upd (qm_tb s a d).1 (qm_tb s a d).2.2 (s (a + d)), qm_up (qm_tb s a d).2.1 (qm_tb s a d).2.2 (1, 0), (qm_tb s a d).2.2 + 1) := by
    rw [qm_tb, if_neg (fun z => by rw [g] at z; exact absurd z.1 (by decide)), if_neg (by rw [g]; decide), if_neg (by rw [l]; decide)]
  have := qm_sA_new (o' := o) h ht (fun j hj => ⟨pk_un (by omega), qm_un (by omega)⟩) (fun z => absurd z (by decide)) (fun _ => by rw [pk_us]; exact Or.inl hc) (fun _ => Or.inl (by rw [qm_us])) (fun _ => by omega) (by rw [pk_us, hc, if_neg (by decide), if_pos rfl]; omega)
  rw [pk_us, qm_us, hc] at this
  exact this
/-- the members of a number's digits -/
theorem qm_tb_num {s : Nat → Int32} {a d : Nat} (h0 : qm_dg (s (a + d - 1)) = false) : ∀ t, (∀ k, k ≤ t → qm_dg (s (a + d + k)) = true) → ∃ P' : Nat → Int32 × Int32, qm_tb s a (d + (t + 1)) = (upd (qm_tb s a d).1 (qm_tb s a d).2.2 118, P', (qm_tb s a d).2.2 + 1) ∧ P' (qm_tb s a d).2.2 = (1, qm_nv s (a + d) (t + 1)) ∧ ∀ j, j < (qm_tb s a d).2.2 → P' j = (qm_tb s a d).2.1 j := by
  intro t
  induction t with
  | zero =>
    intro h
    have hd := h 0 (Nat.le_refl 0)
    rw [Nat.add_zero] at hd
    refine ⟨qm_up (qm_tb s a d).2.1 (qm_tb s a d).2.2 (1, s (a + d) - 48), ?_, ?_, fun j hj => qm_un (by omega)⟩
    · rw [show d + (0 + 1) = d + 1 from rfl, qm_tb, if_neg (fun z => by rw [h0] at z; exact absurd z.2 (by decide)), if_pos hd]
    · rw [qm_us]
      show _ = ((1 : Int32), 0 * 10 + (s (a + d + 0) - 48))
      rw [Nat.add_zero]
      congr 1
      grind
  | succ t ih =>
    intro h
    obtain ⟨P', e1, e2, e3⟩ := ih (fun k hk => h k (by omega))
    refine ⟨qm_up P' (qm_tb s a d).2.2 (1, qm_nv s (a + d) (t + 1 + 1)), ?_, qm_us, fun j hj => by rw [qm_un (by omega)]; exact e3 j hj⟩
    have c1 : qm_dg (s (a + (d + (t + 1)))) = true := by
      have := h (t + 1) (Nat.le_refl _)
      rw [show a + (d + (t + 1)) = a + d + (t + 1) from by omega]; exact this
    have c2 : qm_dg (s (a + (d + (t + 1)) - 1)) = true := by
      have := h t (by omega)
      rw [show a + (d + (t + 1)) - 1 = a + d + t from by omega]; exact this
    rw [show d + (t + 1 + 1) = (d + (t + 1)) + 1 from by omega, qm_tb, if_pos ⟨c1, c2⟩, e1]
    dsimp only
    rw [Nat.add_sub_cancel, e2]
    rw [show a + (d + (t + 1)) = a + d + (t + 1) from by omega]
    rfl
theorem qm_sA_dg {s : Nat → Int32} {a d t : Nat} {vs : List qm_V} {ws : List Int32} {o : Nat} (h : qm_sA s a d true vs ws o) (h0 : qm_dg (s (a + d - 1)) = false) (hd : ∀ k, k ≤ t → qm_dg (s (a + d + k)) = true) : qm_sA s a (d + (t + 1)) false (qm_fac qm_ng qm_bn (qm_lf (1, qm_nv s (a + d) (t + 1)) :: vs) ws).1 (qm_fac qm_ng qm_bn (qm_lf (1, qm_nv s (a + d) (t + 1)) :: vs) ws).2 o := by
  obtain ⟨P', ht, e2, e3⟩ := qm_tb_num h0 t hd
  have := qm_sA_new (o' := o) h ht (fun j hj => ⟨pk_un (by omega), e3 j hj⟩) (fun _ => Or.inl pk_us) (fun z => absurd z (by decide)) (fun _ => Or.inl (by rw [e2])) (fun z => by rw [pk_us] at z; exact absurd z (by decide)) (by rw [pk_us, if_neg (by decide), if_neg (by decide)]; omega)
  rw [pk_us, e2] at this
  exact this
end
section
/-! what holds while a sum is read: brackets, negations, depth -/
def qm_sm (s : Nat → Int32) : List Nat → Nat
  | [] => 0
  | b :: bs => 1 + qm_neg s b + qm_sm s bs
/-- the waiting operators ws: c negations on top, then operators, then the bracket at the first of bs, before it its negations, .. -/
def qm_sw (s : Nat → Int32) : List Int32 → List Nat → Nat → Prop
  | [], bs, c => bs = [] ∧ c = 0
  | w :: ws, bs, c => (w = 8 ∧ ∃ c', c = c' + 1 ∧ qm_sw s ws bs c') ∨ (w = 9 ∧ c = 0 ∧ ∃ b bs', bs = b :: bs' ∧ qm_sw s ws bs' (qm_neg s b)) ∨ (1 ≤ qm_rk w ∧ c = 0 ∧ qm_sw s ws bs 0)
def qm_cn (s : Nat → Int32) : List Nat → Prop
  | [] => True
  | b :: bs => (∀ k, qm_arf s b k = bs[k]?) ∧ qm_cn s bs
theorem qm_sw_in {s : Nat → Int32} : ∀ {ws : List Int32} {bs : List Nat} {c : Nat}, qm_sw s ws bs c → qm_in ws = c + qm_sm s bs
  | [], bs, c, h => by rw [h.1, h.2]; rfl
  | w :: ws, bs, c, h => by
    rcases h with ⟨rfl, c', rfl, h⟩ | ⟨rfl, rfl, b, bs', rfl, h⟩ | ⟨hr, rfl, h⟩
    · rw [qm_in_c (Or.inl rfl), qm_sw_in h]; omega
    · rw [qm_in_c (Or.inr rfl), qm_sw_in h]; show _ = 0 + (1 + qm_neg s b + qm_sm s bs'); omega
    · rw [qm_in_b hr, qm_sw_in h]
theorem qm_sw_fac {s : Nat → Int32} {α : Type} {ng : α → α} {bn : Int32 → α → α → α} : ∀ {ws : List Int32} {bs : List Nat} {c : Nat} (vs : List α), qm_sw s ws bs c → qm_sw s (qm_fac ng bn vs ws).2 bs 0
  | [], bs, c, vs, h => ⟨h.1, rfl⟩
  | w :: ws, bs, c, vs, h => by
    have h' := h
    unfold qm_fac
    rcases h with ⟨rfl, c', rfl, h⟩ | ⟨rfl, rfl, b, bs', rfl, h⟩ | ⟨hr, rfl, h⟩
    · rw [if_pos rfl]; exact qm_sw_fac _ h
    · rw [if_neg (by decide)]; exact h'
    · rw [if_neg (fun z => by rw [z] at hr; exact absurd hr (by decide))]; exact h'
theorem qm_sw_to {s : Nat → Int32} {α : Type} {ng : α → α} {bn : Int32 → α → α → α} {l : Nat} (hl : 1 ≤ l) : ∀ {ws : List Int32} {bs : List Nat} (vs : List α), qm_sw s ws bs 0 → qm_sw s (qm_to ng bn l vs ws).2 bs 0
  | [], bs, vs, h => h
  | w :: ws, bs, vs, h => by
    have h' := h
    unfold qm_to
    by_cases z : l ≤ qm_rk w
    · rw [if_pos z]
      rcases h with ⟨rfl, c', e, h⟩ | ⟨rfl, _, b, bs', rfl, h⟩ | ⟨hr, _, h⟩
      · omega
      · rw [show qm_rk 9 = 0 from rfl] at z; omega
      · exact qm_sw_to hl _ h
    · rw [if_neg z]; exact h'
theorem qm_sw_to1 {s : Nat → Int32} {α : Type} {ng : α → α} {bn : Int32 → α → α → α} {ws : List Int32} {bs : List Nat} (vs : List α) (h : qm_sw s ws bs 0) : ((qm_to ng bn 1 vs ws).2 = [] ∧ bs = []) ∨ ∃ ws2 b bs', (qm_to ng bn 1 vs ws).2 = 9 :: ws2 ∧ bs = b :: bs' ∧ qm_sw s ws2 bs' (qm_neg s b) := by
  have h1 := qm_sw_to (ng := ng) (bn := bn) (Nat.le_refl 1) vs h
  cases e : (qm_to ng bn 1 vs ws).2 with
  | nil =>
    rw [e] at h1
    exact Or.inl ⟨rfl, h1.1⟩
  | cons w t =>
    rw [e] at h1
    have hr := qm_to_top ws vs e
    rcases h1 with ⟨rfl, c', e', h9⟩ | ⟨rfl, _, b, bs', rfl, h9⟩ | ⟨hr', _, h9⟩
    · omega
    · exact Or.inr ⟨t, b, bs', rfl, rfl, h9⟩
    · omega

theorem qm_neg_s {s : Nat → Int32} {i : Nat} (hi : 1 ≤ i) : (s i = 45 → qm_pr (s (i - 1)) → qm_neg s (i + 1) = qm_neg s i + 1) ∧ (¬ (s i = 45 ∧ qm_pr (s (i - 1))) → qm_neg s (i + 1) = 0) := by
  obtain ⟨j, rfl⟩ : ∃ j, i = j + 1 := ⟨i - 1, by omega⟩
  rw [Nat.add_sub_cancel]
  exact ⟨fun h1 h2 => qm_neg_t h1 h2, fun h => qm_neg_f h⟩
theorem qm_arf_k {s : Nat → Int32} {i : Nat} (h1 : s i ≠ 61) (h2 : s i ≠ 63) (h3 : s i ≠ 41) (h4 : s i ≠ 40) (k : Nat) : qm_arf s (i + 1) k = qm_arf s i k := by
  rw [qm_arf, if_neg h1, if_neg h2, if_neg h3, if_neg h4]
theorem qm_is_k {s : Nat → Int32} {i : Nat} (h3 : s i ≠ 59) (h4 : s i ≠ 35) (h5 : s i ≠ 123) (h6 : s i ≠ 125) (h : qm_is s i = true) : qm_is s (i + 1) = true := by
  unfold qm_is
  by_cases h1 : s i = 61
  · rw [if_pos h1]
  · rw [if_neg h1]
    by_cases h2 : s i = 63
    · rw [if_pos h2]
    · rw [if_neg h2, if_neg h3, if_neg h4, if_neg h5, if_neg h6]; exact h
/-- characters of a sum: a digit, a letter, an operator, a bracket -/
def qm_sc (c : Int32) : Prop := qm_dg c = true ∨ qm_lt c = true ∨ qm_io c ∨ c = 40 ∨ c = 41
theorem qm_sc_ne {c x : Int32} (h : qm_sc c) (h1 : qm_dg x = false) (h2 : qm_lt x = false) (h3 : ¬ 1 ≤ qm_rk (qm_oc x)) (h4 : x ≠ 40) (h5 : x ≠ 41) : c ≠ x := by
  intro z; subst z
  rcases h with h | h | h | h | h
  · rw [h1] at h; exact absurd h (by decide)
  · rw [h2] at h; exact absurd h (by decide)
  · exact h3 h
  · exact h4 h
  · exact h5 h
theorem qm_sc_st {c : Int32} (h : qm_sc c) : c ≠ 59 ∧ c ≠ 35 ∧ c ≠ 123 ∧ c ≠ 125 ∧ c ≠ 61 ∧ c ≠ 63 :=
  ⟨qm_sc_ne h (by decide) (by decide) (by decide) (by decide) (by decide), qm_sc_ne h (by decide) (by decide) (by decide) (by decide) (by decide), qm_sc_ne h (by decide) (by decide) (by decide) (by decide) (by decide), qm_sc_ne h (by decide) (by decide) (by decide) (by decide) (by decide), qm_sc_ne h (by decide) (by decide) (by decide) (by decide) (by decide), qm_sc_ne h (by decide) (by decide) (by decide) (by decide) (by decide)⟩
/-- an operand's character -/
def qm_oo (c : Int32) : Prop := qm_dg c = true ∨ qm_lt c = true
theorem qm_oo_ne {c : Int32} (h : qm_oo c) : c ≠ 61 ∧ c ≠ 63 ∧ c ≠ 41 ∧ c ≠ 40 ∧ c ≠ 45 := by
  refine ⟨?_, ?_, ?_, ?_, ?_⟩ <;> (intro z; subst z; rcases h with h | h <;> exact absurd h (by decide))
theorem qm_oo_pr {c : Int32} (h : qm_oo c) : ¬ qm_pr c := by
  intro z
  rcases z with z | z | z | z
  · have := qm_io_dg (c := c) z
    rcases h with h | h
    · rw [this.1] at h; exact absurd h (by decide)
    · rw [this.2] at h; exact absurd h (by decide)
  · exact (qm_oo_ne h).2.2.2.1 z
  · exact (qm_oo_ne h).1 z
  · exact (qm_oo_ne h).2.1 z
theorem qm_io_ne {c : Int32} (h : qm_io c) : c ≠ 61 ∧ c ≠ 63 ∧ c ≠ 41 ∧ c ≠ 40 := by
  unfold qm_io at h
  refine ⟨?_, ?_, ?_, ?_⟩ <;> (intro z; subst z; exact absurd h (by decide))

theorem qm_dr_sm {s : Nat → Int32} : ∀ (bs : List Nat) (i f : Nat), i < f → (∀ k, qm_arf s i k = bs[k]?) → qm_cn s bs → qm_dr s f i = qm_sm s bs
  | [], i, f, hf, h, _ => by
    cases f with
    | zero => omega
    | succ f => rw [qm_dr_0 (h 0)]; rfl
  | b :: bs, i, f, hf, h, hc => by
    cases f with
    | zero => omega
    | succ f =>
      have h0 : qm_arf s i 0 = some b := h 0
      have := qm_arf_lt h0
      rw [qm_dr_1 h0, qm_dr_sm bs b f (by omega) hc.1 hc.2]; rfl
theorem qm_dep_sm {s : Nat → Int32} {bs : List Nat} {i : Nat} (h : ∀ k, qm_arf s i k = bs[k]?) (hc : qm_cn s bs) : qm_dep s i = qm_neg s i + qm_sm s bs := by
  unfold qm_dep; rw [qm_dr_sm bs i (i + 1) (by omega) h hc]

def qm_sB (s : Nat → Int32) (i : Nat) (c : Nat) (ws : List Int32) (bs : List Nat) : Prop := qm_sw s ws bs c ∧ (∀ k, qm_arf s i k = bs[k]?) ∧ qm_cn s bs ∧ qm_is s i = true
def qm_sE (s : Nat → Int32) (i : Nat) (e : Bool) (bs : List Nat) (dp : Nat) (fd : Int32) : Prop :=
  (fd = 0 ∨ fd = 1) ∧ (fd = 1 ↔ (3 < dp ∨ (∃ j, j < i ∧ qm_dq s j) ∨ (e = true ∧ 8 < qm_neg s i + qm_sm s bs))) ∧ (e = false → 8 < qm_sm s bs → ∃ j, j < i ∧ qm_dq s j)

/-- an operand of t + 1 characters -/
theorem qm_B_opnd {s : Nat → Int32} {i t c : Nat} {ws : List Int32} {bs : List Nat} (vs : List qm_V) (h : qm_sB s i c ws bs) (ho : ∀ k, k ≤ t → qm_oo (s (i + k))) : qm_sB s (i + (t + 1)) 0 (qm_fac qm_ng qm_bn vs ws).2 bs := by
  refine ⟨qm_sw_fac vs h.1, ?_, h.2.2.1, ?_⟩
  · intro k
    induction t with
    | zero =>
      obtain ⟨n1, n2, n3, n4, _⟩ := qm_oo_ne (ho 0 (Nat.le_refl 0))
      rw [show i + (0 + 1) = i + 0 + 1 from rfl, qm_arf_k n1 n2 n3 n4]; exact h.2.1 k
    | succ t ih =>
      obtain ⟨n1, n2, n3, n4, _⟩ := qm_oo_ne (ho (t + 1) (Nat.le_refl _))
      rw [show i + (t + 1 + 1) = i + (t + 1) + 1 from rfl, qm_arf_k n1 n2 n3 n4]; exact ih (fun k hk => ho k (by omega))
  · induction t with
    | zero =>
      obtain ⟨m1, m2, m3, m4, _, _⟩ := qm_sc_st (c := s (i + 0)) (by rcases ho 0 (Nat.le_refl 0) with z | z; exact Or.inl z; exact Or.inr (Or.inl z))
      exact qm_is_k (i := i + 0) m1 m2 m3 m4 h.2.2.2
    | succ t ih =>
      obtain ⟨m1, m2, m3, m4, _, _⟩ := qm_sc_st (c := s (i + (t + 1))) (by rcases ho (t + 1) (Nat.le_refl _) with z | z; exact Or.inl z; exact Or.inr (Or.inl z))
      exact qm_is_k (i := i + (t + 1)) m1 m2 m3 m4 (ih (fun k hk => ho k (by omega)))
theorem qm_E_opnd {s : Nat → Int32} {i t : Nat} {ws : List Int32} {bs : List Nat} {dp : Nat} {fd : Int32} (hi : 1 ≤ i) (hB : qm_sB s i (qm_neg s i) ws bs) (h : qm_sE s i true bs dp fd) (ho : ∀ k, k ≤ t → qm_oo (s (i + k))) : qm_sE s (i + (t + 1)) false bs dp fd := by
  have D0 : qm_dep s i = qm_neg s i + qm_sm s bs := qm_dep_sm hB.2.1 hB.2.2.1
  have key : (∃ j, j < i + (t + 1) ∧ qm_dq s j) ↔ ((∃ j, j < i ∧ qm_dq s j) ∨ 8 < qm_neg s i + qm_sm s bs) := by
    constructor
    · rintro ⟨j, j1, j2⟩
      by_cases z : j < i
      · exact Or.inl ⟨j, z, j2⟩
      · by_cases z2 : j = i
        · subst z2
          have := j2.2.2
          rw [D0] at this; exact Or.inr this
        · obtain ⟨q, rfl⟩ : ∃ q, j = i + (q + 1) := ⟨j - i - 1, by omega⟩
          have hb := qm_B_opnd (t := q) [] hB (fun k hk => ho k (by omega))
          have dd := qm_dep_sm hb.2.1 hb.2.2.1
          have nn : qm_neg s (i + (q + 1)) = 0 := by
            refine (qm_neg_s (s := s) (i := i + q) (by omega)).2 (fun z => ?_)
            exact (qm_oo_ne (ho q (by omega))).2.2.2.2 z.1
          have := j2.2.2
          rw [dd, nn] at this
          exact Or.inr (by omega)
    · rintro (⟨j, j1, j2⟩ | z)
      · exact ⟨j, by omega, j2⟩
      · exact ⟨i, by omega, ho 0 (Nat.zero_le _), hB.2.2.2, by rw [D0]; exact z⟩
  obtain ⟨e1, e2, e3⟩ := h
  refine ⟨e1, ?_, fun _ z => key.mpr (Or.inr (by omega))⟩
  rw [e2, key]
  constructor
  · rintro (z | z | ⟨_, z⟩)
    · exact Or.inl z
    · exact Or.inr (Or.inl (Or.inl z))
    · exact Or.inr (Or.inl (Or.inr z))
  · rintro (z | (z | z) | ⟨z, _⟩)
    · exact Or.inl z
    · exact Or.inr (Or.inl z)
    · exact Or.inr (Or.inr ⟨rfl, z⟩)
    · exact absurd z (by decide)
theorem qm_dq_not {s : Nat → Int32} {i : Nat} (h1 : qm_dg (s i) = false) (h2 : qm_lt (s i) = false) : (∃ j, j < i + 1 ∧ qm_dq s j) ↔ (∃ j, j < i ∧ qm_dq s j) := by
  constructor
  · rintro ⟨j, j1, j2⟩
    by_cases z : j = i
    · subst z
      rcases j2.1 with y | y
      · rw [h1] at y; exact absurd y (by decide)
      · rw [h2] at y; exact absurd y (by decide)
    · exact ⟨j, by omega, j2⟩
  · rintro ⟨j, j1, j2⟩
    exact ⟨j, by omega, j2⟩
theorem qm_B_open {s : Nat → Int32} {i : Nat} {ws : List Int32} {bs : List Nat} (h : qm_sB s i (qm_neg s i) ws bs) (hc : s i = 40) (hi : 1 ≤ i) : qm_sB s (i + 1) (qm_neg s (i + 1)) (9 :: ws) (i :: bs) := by
  have n0 : qm_neg s (i + 1) = 0 := (qm_neg_s hi).2 (fun z => by rw [hc] at z; exact absurd z.1 (by decide))
  refine ⟨Or.inr (Or.inl ⟨rfl, n0, i, bs, rfl, h.1⟩), ?_, ⟨h.2.1, h.2.2.1⟩, ?_⟩
  · intro k
    rw [qm_arf, if_neg (by rw [hc]; decide), if_neg (by rw [hc]; decide), if_neg (by rw [hc]; decide), if_pos hc]
    cases k with
    | zero => rfl
    | succ k => rw [if_neg (by omega), Nat.add_sub_cancel, h.2.1]; rfl
  · exact qm_is_k (by rw [hc]; decide) (by rw [hc]; decide) (by rw [hc]; decide) (by rw [hc]; decide) h.2.2.2
theorem qm_E_open {s : Nat → Int32} {i : Nat} {ws : List Int32} {bs : List Nat} {dp : Nat} {fd : Int32} (hB : qm_sB s i (qm_neg s i) ws bs) (h : qm_sE s i true bs dp fd) (hc : s i = 40) (hi : 1 ≤ i) : qm_sE s (i + 1) true (i :: bs) dp (if 8 < qm_in (9 :: ws) then 1 else fd) := by
  have n0 : qm_neg s (i + 1) = 0 := (qm_neg_s hi).2 (fun z => by rw [hc] at z; exact absurd z.1 (by decide))
  have e0 : qm_sm s (i :: bs) = 1 + qm_neg s i + qm_sm s bs := rfl
  rw [qm_in_c (Or.inr rfl), qm_sw_in hB.1]
  obtain ⟨e1, e2, e3⟩ := h
  refine ⟨?_, ?_, fun z => absurd z (by decide)⟩
  · split
    · exact Or.inr rfl
    · exact e1
  · rw [qm_dq_not (by rw [hc]; decide) (by rw [hc]; decide), n0, e0]
    by_cases z : 8 < qm_neg s i + qm_sm s bs + 1
    · rw [if_pos z]
      exact ⟨fun _ => Or.inr (Or.inr ⟨rfl, by omega⟩), fun _ => rfl⟩
    · rw [if_neg z, e2]
      constructor
      · rintro (y | y | y)
        · exact Or.inl y
        · exact Or.inr (Or.inl y)
        · omega
      · rintro (y | y | y)
        · exact Or.inl y
        · exact Or.inr (Or.inl y)
        · omega
theorem qm_B_minus {s : Nat → Int32} {i : Nat} {ws : List Int32} {bs : List Nat} (h : qm_sB s i (qm_neg s i) ws bs) (hc : s i = 45) (hi : 1 ≤ i) (hp : qm_pr (s (i - 1))) : qm_sB s (i + 1) (qm_neg s (i + 1)) (8 :: ws) bs := by
  refine ⟨Or.inl ⟨rfl, qm_neg s i, (qm_neg_s hi).1 hc hp, h.1⟩, ?_, h.2.2.1, ?_⟩
  · intro k
    rw [qm_arf_k (by rw [hc]; decide) (by rw [hc]; decide) (by rw [hc]; decide) (by rw [hc]; decide)]; exact h.2.1 k
  · exact qm_is_k (by rw [hc]; decide) (by rw [hc]; decide) (by rw [hc]; decide) (by rw [hc]; decide) h.2.2.2
theorem qm_E_minus {s : Nat → Int32} {i : Nat} {ws : List Int32} {bs : List Nat} {dp : Nat} {fd : Int32} (hB : qm_sB s i (qm_neg s i) ws bs) (h : qm_sE s i true bs dp fd) (hc : s i = 45) (hi : 1 ≤ i) (hp : qm_pr (s (i - 1))) : qm_sE s (i + 1) true bs dp (if 8 < qm_in (8 :: ws) then 1 else fd) := by
  have n0 := (qm_neg_s (s := s) hi).1 hc hp
  rw [qm_in_c (Or.inl rfl), qm_sw_in hB.1]
  obtain ⟨e1, e2, e3⟩ := h
  refine ⟨?_, ?_, fun z => absurd z (by decide)⟩
  · split
    · exact Or.inr rfl
    · exact e1
  · rw [qm_dq_not (by rw [hc]; decide) (by rw [hc]; decide), n0]
    by_cases z : 8 < qm_neg s i + qm_sm s bs + 1
    · rw [if_pos z]
      exact ⟨fun _ => Or.inr (Or.inr ⟨rfl, by omega⟩), fun _ => rfl⟩
    · rw [if_neg z, e2]
      constructor
      · rintro (y | y | y)
        · exact Or.inl y
        · exact Or.inr (Or.inl y)
        · omega
      · rintro (y | y | y)
        · exact Or.inl y
        · exact Or.inr (Or.inl y)
        · omega
theorem qm_B_op {s : Nat → Int32} {i : Nat} {ws : List Int32} {bs : List Nat} (vs : List qm_V) (h : qm_sB s i 0 ws bs) (hc : qm_io (s i)) (hi : 1 ≤ i) (hp : ¬ qm_pr (s (i - 1))) : qm_sB s (i + 1) (qm_neg s (i + 1)) (qm_oc (s i) :: (qm_to qm_ng qm_bn (qm_rk (qm_oc (s i))) vs ws).2) bs := by
  have n0 : qm_neg s (i + 1) = 0 := (qm_neg_s hi).2 (fun z => hp z.2)
  obtain ⟨n1, n2, n3, n4⟩ := qm_io_ne hc
  obtain ⟨m1, m2, m3, m4, _, _⟩ := qm_sc_st (c := s i) (Or.inr (Or.inr (Or.inl hc)))
  refine ⟨Or.inr (Or.inr ⟨hc, n0, qm_sw_to hc vs h.1⟩), ?_, h.2.2.1, qm_is_k m1 m2 m3 m4 h.2.2.2⟩
  intro k
  rw [qm_arf_k n1 n2 n3 n4]; exact h.2.1 k
theorem qm_E_op {s : Nat → Int32} {i : Nat} {bs : List Nat} {dp : Nat} {fd : Int32} (h : qm_sE s i false bs dp fd) (hc : qm_io (s i)) (hi : 1 ≤ i) (hp : ¬ qm_pr (s (i - 1))) : qm_sE s (i + 1) true bs dp fd := by
  have n0 : qm_neg s (i + 1) = 0 := (qm_neg_s hi).2 (fun z => hp z.2)
  obtain ⟨g, l⟩ := qm_io_dg hc
  obtain ⟨e1, e2, e3⟩ := h
  refine ⟨e1, ?_, fun z => absurd z (by decide)⟩
  rw [qm_dq_not g l, n0, e2]
  constructor
  · rintro (y | y | ⟨y, _⟩)
    · exact Or.inl y
    · exact Or.inr (Or.inl y)
    · exact absurd y (by decide)
  · rintro (y | y | ⟨_, y⟩)
    · exact Or.inl y
    · exact Or.inr (Or.inl y)
    · exact Or.inr (Or.inl (e3 rfl (by omega)))
theorem qm_B_close {s : Nat → Int32} {i b : Nat} {ws ws2 : List Int32} {bs : List Nat} (vs : List qm_V) (h : qm_sB s i 0 ws (b :: bs)) (hc : s i = 41) (h2 : qm_sw s ws2 bs (qm_neg s b)) : qm_sB s (i + 1) 0 (qm_fac qm_ng qm_bn vs ws2).2 bs := by
  refine ⟨qm_sw_fac vs h2, ?_, h.2.2.1.2, ?_⟩
  · intro k
    rw [qm_arf, if_neg (by rw [hc]; decide), if_neg (by rw [hc]; decide), if_pos hc, h.2.1]; rfl
  · exact qm_is_k (by rw [hc]; decide) (by rw [hc]; decide) (by rw [hc]; decide) (by rw [hc]; decide) h.2.2.2
theorem qm_E_close {s : Nat → Int32} {i b : Nat} {bs : List Nat} {dp : Nat} {fd : Int32} (h : qm_sE s i false (b :: bs) dp fd) (hc : s i = 41) : qm_sE s (i + 1) false bs dp fd := by
  obtain ⟨e1, e2, e3⟩ := h
  have e0 : qm_sm s (b :: bs) = 1 + qm_neg s b + qm_sm s bs := rfl
  refine ⟨e1, ?_, fun _ z => (qm_dq_not (by rw [hc]; decide) (by rw [hc]; decide)).mpr (e3 rfl (by omega))⟩
  rw [qm_dq_not (by rw [hc]; decide) (by rw [hc]; decide), e2]
  constructor
  · rintro (y | y | ⟨y, _⟩)
    · exact Or.inl y
    · exact Or.inr (Or.inl y)
    · exact absurd y (by decide)
  · rintro (y | y | ⟨y, _⟩)
    · exact Or.inl y
    · exact Or.inr (Or.inl y)
    · exact absurd y (by decide)
end
section
/-! the automaton's steps, one lemma each -/
theorem qm_gr_t {s : Nat → Int32} {n i st t : Nat} {cl : Int32} {o d b dp : Nat} (hi : i < n) (h : qm_nx st (s i) cl o d = some t) (hb : ¬ (s i = 125 ∧ b = 0)) : qm_gr s (n - i) i st cl o d b dp = qm_gr s (n - (i + 1)) (i + 1) t (qm_gc st (s i) cl) (qm_go st (s i) o) (qm_gg st (s i) d) (qm_gb (s i) b) (qm_gm dp (qm_gb (s i) b)) := by
  rw [show n - i = (n - (i + 1)) + 1 from by omega]; exact qm_gr_s h hb
theorem qm_gr_f {s : Nat → Int32} {n i st : Nat} {cl : Int32} {o d b dp : Nat} (hi : i < n) (h : qm_nx st (s i) cl o d = none) : qm_gr s (n - i) i st cl o d b dp = 1 := by
  rw [show n - i = (n - (i + 1)) + 1 from by omega]; exact qm_gr_n h
theorem qm_gr_z {s : Nat → Int32} {n i st : Nat} {cl : Int32} {o d b dp : Nat} (hi : n ≤ i) (h : st ≠ 0) : qm_gr s (n - i) i st cl o d b dp = 1 := by
  rw [show n - i = 0 from by omega]; exact qm_gr_e h
theorem qm_gm_le {dp b : Nat} (h : b ≤ dp) : qm_gm dp b = dp := if_pos h
/-- a character of a sum that is no bracket changes neither the open brackets nor the blocks -/
theorem qm_g_keep {c : Int32} (h : qm_sc c) (h1 : c ≠ 40) (h2 : c ≠ 41) (st : Nat) (hst : 2 ≤ st) (cl : Int32) (o b : Nat) : qm_gc st c cl = cl ∧ qm_go st c o = o ∧ qm_gb c b = b := by
  obtain ⟨_, _, m3, m4, _, _⟩ := qm_sc_st h
  refine ⟨if_neg (by omega), ?_, ?_⟩
  · unfold qm_go qm_g1; rw [if_neg h1, if_neg h2, if_neg (by omega)]
  · unfold qm_gb; rw [if_neg m3, if_neg m4]
section
variable {s : Nat → Int32} {n i : Nat} {cl : Int32} {o d b dp : Nat}
theorem qm_D_lt (hi : i < n) (hl : qm_lt (s i) = true) (hb : b ≤ dp) : qm_gr s (n - i) i 2 cl o d b dp = qm_gr s (n - (i + 1)) (i + 1) 3 cl o 0 b dp := by
  have g := qm_lt_dg hl
  have sc : qm_sc (s i) := Or.inr (Or.inl hl)
  obtain ⟨_, _, _, n4, n5⟩ := qm_oo_ne (c := s i) (Or.inr hl)
  obtain ⟨k1, k2, k3⟩ := qm_g_keep sc (qm_oo_ne (c := s i) (Or.inr hl)).2.2.2.1 (qm_oo_ne (c := s i) (Or.inr hl)).2.2.1 2 (Nat.le_refl 2) cl o b
  rw [qm_gr_t (t := 3) hi (by simp [qm_nx, g, hl]) (fun z => (qm_sc_st sc).2.2.2.1 z.1), k1, k2, k3, qm_gm_le hb]
  simp [qm_gg, g]
theorem qm_D_dg2 (hi : i < n) (hl : qm_dg (s i) = true) (hb : b ≤ dp) : qm_gr s (n - i) i 2 cl o d b dp = qm_gr s (n - (i + 1)) (i + 1) 3 cl o (d + 1) b dp := by
  have sc : qm_sc (s i) := Or.inl hl
  obtain ⟨k1, k2, k3⟩ := qm_g_keep sc (qm_oo_ne (c := s i) (Or.inl hl)).2.2.2.1 (qm_oo_ne (c := s i) (Or.inl hl)).2.2.1 2 (Nat.le_refl 2) cl o b
  rw [qm_gr_t (t := 3) hi (by simp [qm_nx, hl]) (fun z => (qm_sc_st sc).2.2.2.1 z.1), k1, k2, k3, qm_gm_le hb]
  simp [qm_gg, hl]
theorem qm_D_dg3 (hi : i < n) (hl : qm_dg (s i) = true) (hb : b ≤ dp) (h0 : 0 < d) (h9 : d < 9) : qm_gr s (n - i) i 3 cl o d b dp = qm_gr s (n - (i + 1)) (i + 1) 3 cl o (d + 1) b dp := by
  have sc : qm_sc (s i) := Or.inl hl
  obtain ⟨k1, k2, k3⟩ := qm_g_keep sc (qm_oo_ne (c := s i) (Or.inl hl)).2.2.2.1 (qm_oo_ne (c := s i) (Or.inl hl)).2.2.1 3 (by omega) cl o b
  rw [qm_gr_t (t := 3) hi (by simp [qm_nx, hl, show ¬ d = 0 by omega, show ¬ 9 ≤ d by omega]) (fun z => (qm_sc_st sc).2.2.2.1 z.1), k1, k2, k3, qm_gm_le hb]
  simp [qm_gg, hl]
theorem qm_D_dgx (hi : i < n) (hl : qm_dg (s i) = true) (h : d = 0 ∨ 9 ≤ d) : qm_gr s (n - i) i 3 cl o d b dp = 1 := by
  refine qm_gr_f hi ?_
  rcases h with h | h
  · simp [qm_nx, hl, h]
  · simp [qm_nx, hl, h, show ¬ d = 0 by omega]
theorem qm_D_run (hb : b ≤ dp) : ∀ t, i + t < n → (∀ k, k ≤ t → qm_dg (s (i + k)) = true) → (t + 1 ≤ 9 → qm_gr s (n - i) i 2 cl o 0 b dp = qm_gr s (n - (i + (t + 1))) (i + (t + 1)) 3 cl o (t + 1) b dp) ∧ (9 < t + 1 → qm_gr s (n - i) i 2 cl o 0 b dp = 1) := by
  intro t
  induction t with
  | zero =>
    intro hi h
    refine ⟨fun _ => ?_, fun z => by omega⟩
    exact qm_D_dg2 (by omega) (h 0 (Nat.le_refl 0)) hb
  | succ t ih =>
    intro hi h
    have I := ih (by omega) (fun k hk => h k (by omega))
    refine ⟨fun z => ?_, fun z => ?_⟩
    · rw [I.1 (by omega), qm_D_dg3 (by omega) (h (t + 1) (Nat.le_refl _)) hb (by omega) (by omega)]
      rfl
    · by_cases y : 9 < t + 1
      · exact I.2 y
      · rw [I.1 (by omega)]
        exact qm_D_dgx (by omega) (h (t + 1) (Nat.le_refl _)) (Or.inr (by omega))
theorem qm_D_open (hi : i < n) (hc : s i = 40) (hb : b ≤ dp) : qm_gr s (n - i) i 2 cl o d b dp = qm_gr s (n - (i + 1)) (i + 1) 2 cl (o + 1) 0 b dp := by
  have g : qm_dg 40 = false := by decide
  have l : qm_lt 40 = false := by decide
  rw [qm_gr_t (t := 2) hi (by rw [hc]; simp [qm_nx, g, l]) (fun z => by rw [hc] at z; exact absurd z.1 (by decide)), hc]
  simp [qm_gc, qm_go, qm_g1, qm_gg, qm_gb, g, qm_gm_le hb]
theorem qm_D_minus (hi : i < n) (hc : s i = 45) (hb : b ≤ dp) : qm_gr s (n - i) i 2 cl o d b dp = qm_gr s (n - (i + 1)) (i + 1) 2 cl o 0 b dp := by
  have g : qm_dg 45 = false := by decide
  have l : qm_lt 45 = false := by decide
  rw [qm_gr_t (t := 2) hi (by rw [hc]; simp [qm_nx, g, l]) (fun z => by rw [hc] at z; exact absurd z.1 (by decide)), hc]
  simp [qm_gc, qm_go, qm_g1, qm_gg, qm_gb, g, qm_gm_le hb]
theorem qm_D_bad2 (h1 : qm_dg (qm_ch s n i) = false) (h2 : qm_lt (qm_ch s n i) = false) (h3 : qm_ch s n i ≠ 40) (h4 : qm_ch s n i ≠ 45) : qm_gr s (n - i) i 2 cl o d b dp = 1 := by
  by_cases hi : i < n
  · rw [qm_ch_lt hi] at h1 h2 h3 h4
    exact qm_gr_f hi (by simp [qm_nx, h1, h2, h3, h4])
  · exact qm_gr_z (by omega) (by omega)
theorem qm_D_op (hi : i < n) (hc : qm_io (s i)) (hb : b ≤ dp) : qm_gr s (n - i) i 3 cl o d b dp = qm_gr s (n - (i + 1)) (i + 1) 2 cl o 0 b dp := by
  obtain ⟨g, l⟩ := qm_io_dg hc
  have sc : qm_sc (s i) := Or.inr (Or.inr (Or.inl hc))
  obtain ⟨n1, n2, n3⟩ := qm_io_n hc
  obtain ⟨k1, k2, k3⟩ := qm_g_keep sc n2 n3 3 (by omega) cl o b
  unfold qm_io at hc
  rw [qm_gr_t (t := 2) hi (by simp [qm_nx, g, hc]) (fun z => (qm_sc_st sc).2.2.2.1 z.1), k1, k2, k3, qm_gm_le hb]
  simp [qm_gg, g]
theorem qm_D_close (hi : i < n) (hc : s i = 41) (hb : b ≤ dp) : qm_gr s (n - i) i 3 cl (o + 1) d b dp = qm_gr s (n - (i + 1)) (i + 1) 3 cl o 0 b dp := by
  have g : qm_dg 41 = false := by decide
  have r : qm_rk (qm_oc 41) = 0 := by decide
  rw [qm_gr_t (t := 3) hi (by rw [hc]; simp [qm_nx, g, r]) (fun z => by rw [hc] at z; exact absurd z.1 (by decide)), hc]
  simp [qm_gc, qm_go, qm_g1, qm_gg, qm_gb, g, qm_gm_le hb]
theorem qm_D_close0 (hi : i < n) (hc : s i = 41) : qm_gr s (n - i) i 3 cl 0 d b dp = 1 := by
  have g : qm_dg 41 = false := by decide
  have r : qm_rk (qm_oc 41) = 0 := by decide
  exact qm_gr_f hi (by rw [hc]; simp [qm_nx, g, r])
/-- what ends a sum -/
theorem qm_D_bad3 (hio : ¬ qm_io (qm_ch s n i)) (h41 : qm_ch s n i ≠ 41) (hd : d = 0 ∨ qm_dg (qm_ch s n i) = false) (h : o ≠ 0 ∨ qm_ch s n i ≠ cl) : qm_gr s (n - i) i 3 cl o d b dp = 1 := by
  by_cases hi : i < n
  · rw [qm_ch_lt hi] at *
    unfold qm_io at hio
    cases g : qm_dg (s i) with
    | true =>
      rcases hd with z | z
      · exact qm_D_dgx hi g (Or.inl z)
      · rw [g] at z; exact absurd z (by decide)
    | false =>
      refine qm_gr_f hi ?_
      rcases h with h | h
      · simp [qm_nx, g, hio, h41, h]
      · simp [qm_nx, g, hio, h41, h]
  · exact qm_gr_z (by omega) (by omega)
theorem qm_D_fin (hi : i < n) (hcl : cl = 59 ∨ cl = 123) (hc : s i = cl) : qm_gr s (n - i) i 3 cl 0 d b dp = qm_gr s (n - (i + 1)) (i + 1) 0 cl 0 0 (qm_gb cl b) (qm_gm dp (qm_gb cl b)) := by
  have g : qm_dg cl = false := by rcases hcl with z | z <;> rw [z] <;> decide
  have r : qm_rk (qm_oc cl) = 0 := by rcases hcl with z | z <;> rw [z] <;> decide
  have e41 : cl ≠ 41 := by rcases hcl with z | z <;> rw [z] <;> decide
  have e40 : cl ≠ 40 := by rcases hcl with z | z <;> rw [z] <;> decide
  have e125 : cl ≠ 125 := by rcases hcl with z | z <;> rw [z] <;> decide
  rw [qm_gr_t (t := 0) hi (by rw [hc]; simp [qm_nx, g, r, e41]) (fun z => by rw [hc] at z; exact e125 z.1), hc]
  simp [qm_gc, qm_go, qm_g1, qm_gg, g, e40, e41]
/-! statements -/
theorem qm_D_let (hi : i < n) (hl : qm_lt (s i) = true) (hb : b ≤ dp) : qm_gr s (n - i) i 0 cl o d b dp = qm_gr s (n - (i + 1)) (i + 1) 1 59 0 0 b dp := by
  have g := qm_lt_dg hl
  have sc : qm_sc (s i) := Or.inr (Or.inl hl)
  obtain ⟨m1, m2, m3, m4, m5, m6⟩ := qm_sc_st sc
  obtain ⟨_, _, n3, n4, _⟩ := qm_oo_ne (c := s i) (Or.inr hl)
  rw [qm_gr_t (t := 1) hi (by simp [qm_nx, hl]) (fun z => m4 z.1)]
  simp [qm_gc, qm_go, qm_g1, qm_gg, qm_gb, g, m3, m4, m6, n3, n4, qm_gm_le hb]
theorem qm_D_eq (hi : i < n) (hc : s i = 61) (hb : b ≤ dp) : qm_gr s (n - i) i 1 cl o d b dp = qm_gr s (n - (i + 1)) (i + 1) 2 59 0 0 b dp := by
  have g : qm_dg 61 = false := by decide
  rw [qm_gr_t (t := 2) hi (by rw [hc]; simp [qm_nx]) (fun z => by rw [hc] at z; exact absurd z.1 (by decide)), hc]
  simp [qm_gc, qm_go, qm_g1, qm_gg, qm_gb, g, qm_gm_le hb]
theorem qm_D_eqx (h : qm_ch s n i ≠ 61) : qm_gr s (n - i) i 1 cl o d b dp = 1 := by
  by_cases hi : i < n
  · rw [qm_ch_lt hi] at h
    exact qm_gr_f hi (by simp [qm_nx, h])
  · exact qm_gr_z (by omega) (by omega)
theorem qm_D_q (hi : i < n) (hc : s i = 63) (hb : b ≤ dp) : qm_gr s (n - i) i 0 cl o d b dp = qm_gr s (n - (i + 1)) (i + 1) 2 123 0 0 b dp := by
  have g : qm_dg 63 = false := by decide
  have l : qm_lt 63 = false := by decide
  rw [qm_gr_t (t := 2) hi (by rw [hc]; simp [qm_nx, l]) (fun z => by rw [hc] at z; exact absurd z.1 (by decide)), hc]
  simp [qm_gc, qm_go, qm_g1, qm_gg, qm_gb, g, qm_gm_le hb]
theorem qm_D_h (hi : i < n) (hc : s i = 35) (hb : b ≤ dp) : ∃ cl' o' d', qm_gr s (n - i) i 0 cl o d b dp = qm_gr s (n - (i + 1)) (i + 1) 4 cl' o' d' b dp := by
  have l : qm_lt 35 = false := by decide
  have := qm_gr_t (s := s) (cl := cl) (o := o) (d := d) (b := b) (dp := dp) (st := 0) (t := 4) hi (by rw [hc]; simp [qm_nx, l]) (fun z => by rw [hc] at z; exact absurd z.1 (by decide))
  rw [hc, show qm_gb 35 b = b from rfl, qm_gm_le hb] at this
  exact ⟨_, _, _, this⟩
theorem qm_D_h4 (hi : i < n) (hl : qm_dg (s i) = true) (hb : b ≤ dp) : ∃ cl' o' d', qm_gr s (n - i) i 4 cl o d b dp = qm_gr s (n - (i + 1)) (i + 1) 5 cl' o' d' b dp := by
  have sc : qm_sc (s i) := Or.inl hl
  obtain ⟨k1, k2, k3⟩ := qm_g_keep sc (qm_oo_ne (c := s i) (Or.inl hl)).2.2.2.1 (qm_oo_ne (c := s i) (Or.inl hl)).2.2.1 4 (by omega) cl o b
  have := qm_gr_t (s := s) (cl := cl) (o := o) (d := d) (b := b) (dp := dp) (st := 4) (t := 5) hi (by simp [qm_nx, hl]) (fun z => (qm_sc_st sc).2.2.2.1 z.1)
  rw [k3, qm_gm_le hb] at this
  exact ⟨_, _, _, this⟩
theorem qm_D_h4x (h : qm_dg (qm_ch s n i) = false) : qm_gr s (n - i) i 4 cl o d b dp = 1 := by
  by_cases hi : i < n
  · rw [qm_ch_lt hi] at h
    exact qm_gr_f hi (by simp [qm_nx, h])
  · exact qm_gr_z (by omega) (by omega)
theorem qm_D_h5 (hi : i < n) (hc : s i = 123) : ∃ cl' o' d', qm_gr s (n - i) i 5 cl o d b dp = qm_gr s (n - (i + 1)) (i + 1) 0 cl' o' d' (b + 1) (qm_gm dp (b + 1)) := by
  have := qm_gr_t (s := s) (cl := cl) (o := o) (d := d) (b := b) (dp := dp) (st := 5) (t := 0) hi (by rw [hc]; simp [qm_nx]) (fun z => by rw [hc] at z; exact absurd z.1 (by decide))
  rw [hc, show qm_gb 123 b = b + 1 from rfl] at this
  exact ⟨_, _, _, this⟩
theorem qm_D_h5x (h : qm_ch s n i ≠ 123) : qm_gr s (n - i) i 5 cl o d b dp = 1 := by
  by_cases hi : i < n
  · rw [qm_ch_lt hi] at h
    exact qm_gr_f hi (by simp [qm_nx, h])
  · exact qm_gr_z (by omega) (by omega)
theorem qm_D_cb (hi : i < n) (hc : s i = 125) (hb : b ≤ dp) (h0 : b ≠ 0) : ∃ cl' o' d', qm_gr s (n - i) i 0 cl o d b dp = qm_gr s (n - (i + 1)) (i + 1) 0 cl' o' d' (b - 1) dp := by
  have l : qm_lt 125 = false := by decide
  have := qm_gr_t (s := s) (cl := cl) (o := o) (d := d) (b := b) (dp := dp) (st := 0) (t := 0) hi (by rw [hc]; simp [qm_nx, l]) (fun z => h0 z.2)
  rw [hc, show qm_gb 125 b = b - 1 from rfl, qm_gm_le (show b - 1 ≤ dp by omega)] at this
  exact ⟨_, _, _, this⟩
theorem qm_D_cb0 (hi : i < n) (hc : s i = 125) : qm_gr s (n - i) i 0 cl o d 0 dp = 1 := by
  rw [show n - i = (n - (i + 1)) + 1 from by omega]; exact qm_gr_b hc
theorem qm_D_bad0 (hi : i < n) (h1 : qm_lt (s i) = false) (h2 : s i ≠ 63) (h3 : s i ≠ 35) (h4 : s i ≠ 125) : qm_gr s (n - i) i 0 cl o d b dp = 1 :=
  qm_gr_f hi (by simp [qm_nx, h1, h2, h3, h4])
end
end
section
/-! what holds while a sum is read, all together -/
def qm_SI (s : Nat → Int32) (n a : Nat) (cl : Int32) (b dp R : Nat) (e : Bool) (i : Nat) (vs : List qm_V) (ws : List Int32) (bs : List Nat) (fd : Int32) : Prop :=
  (a ≤ i ∧ i ≤ n ∧ 1 ≤ i ∧ b ≤ dp) ∧ qm_sA s a (i - a) e vs ws bs.length ∧ qm_sB s i (if e = true then qm_neg s i else 0) ws bs ∧ qm_sE s i e bs dp fd
  ∧ (e = true → qm_pr (s (i - 1)) ∧ qm_dg (s (i - 1)) = false) ∧ (e = false → ¬ qm_pr (s (i - 1)))
  ∧ (∃ d, R = qm_gr s (n - i) i (if e = true then 2 else 3) cl bs.length d b dp ∧ (e = true → d = 0) ∧ (e = false → d = 0 ∨ qm_dg (qm_ch s n i) = false))
  ∧ (∀ t, a ≤ t → t < i → qm_sc (s t))
section
variable {s : Nat → Int32} {n a : Nat} {cl : Int32} {b dp R i : Nat} {vs : List qm_V} {ws : List Int32} {bs : List Nat} {fd : Int32}
theorem qm_sc_ext {t : Nat} (h : ∀ k, a ≤ k → k < i → qm_sc (s k)) (h2 : ∀ k, k ≤ t → qm_sc (s (i + k))) : ∀ k, a ≤ k → k < i + (t + 1) → qm_sc (s k) := by
  intro k h1 h3
  by_cases z : k < i
  · exact h k h1 z
  · have := h2 (k - i) (by omega)
    rw [show i + (k - i) = k from by omega] at this
    exact this
theorem qm_sc_one (h : qm_sc (s i)) : ∀ k, k ≤ 0 → qm_sc (s (i + k)) := by
  intro k hk
  obtain rfl : k = 0 := by omega
  exact h
theorem qm_SI_lt (h : qm_SI s n a cl b dp R true i vs ws bs fd) (hi : i < n) (hl : qm_lt (s i) = true) : qm_SI s n a cl b dp R false (i + 1) (qm_fac qm_ng qm_bn (qm_lf (2, s i - 97) :: vs) ws).1 (qm_fac qm_ng qm_bn (qm_lf (2, s i - 97) :: vs) ws).2 bs fd := by
  obtain ⟨⟨a1, a2, a3, a4⟩, A, B, E, P1, P2, ⟨d, g1, g2, g3⟩, S⟩ := h
  have e1 : a + (i - a) = i := by omega
  have ho : ∀ k, k ≤ 0 → qm_oo (s (i + k)) := fun k hk => by
    obtain rfl : k = 0 := by omega
    exact Or.inr hl
  have A' := qm_sA_lt A (by rw [e1]; exact hl)
  rw [e1, show i - a + 1 = i + 1 - a from by omega] at A'
  refine ⟨⟨by omega, by omega, by omega, a4⟩, A', ?_, ?_, fun z => absurd z (by decide), fun _ => ?_, ⟨0, ?_, fun _ => rfl, fun _ => Or.inl rfl⟩, ?_⟩
  · exact qm_B_opnd (t := 0) _ B ho
  · exact qm_E_opnd (t := 0) a3 B E ho
  · rw [Nat.add_sub_cancel]; exact qm_oo_pr (Or.inr hl)
  · rw [g1]; exact qm_D_lt hi hl a4
  · exact qm_sc_ext (t := 0) S (fun k hk => by rcases ho k hk with z | z; exact Or.inl z; exact Or.inr (Or.inl z))
theorem qm_SI_dg {t : Nat} (h : qm_SI s n a cl b dp R true i vs ws bs fd) (hi : i + t < n) (hl : ∀ k, k ≤ t → qm_dg (s (i + k)) = true) (hx : qm_dg (qm_ch s n (i + (t + 1))) = false) (h9 : t + 1 ≤ 9) : qm_SI s n a cl b dp R false (i + (t + 1)) (qm_fac qm_ng qm_bn (qm_lf (1, qm_nv s i (t + 1)) :: vs) ws).1 (qm_fac qm_ng qm_bn (qm_lf (1, qm_nv s i (t + 1)) :: vs) ws).2 bs fd := by
  obtain ⟨⟨a1, a2, a3, a4⟩, A, B, E, P1, P2, ⟨d, g1, g2, g3⟩, S⟩ := h
  have e1 : a + (i - a) = i := by omega
  have ho : ∀ k, k ≤ t → qm_oo (s (i + k)) := fun k hk => Or.inl (hl k hk)
  have A' := qm_sA_dg (t := t) A (by rw [e1]; exact (P1 rfl).2) (by rw [e1]; exact hl)
  rw [e1, show i - a + (t + 1) = i + (t + 1) - a from by omega] at A'
  refine ⟨⟨by omega, by omega, by omega, a4⟩, A', ?_, ?_, fun z => absurd z (by decide), fun _ => ?_, ⟨t + 1, ?_, fun z => absurd z (by decide), fun _ => Or.inr hx⟩, ?_⟩
  · exact qm_B_opnd (t := t) _ B ho
  · exact qm_E_opnd (t := t) a3 B E ho
  · rw [show i + (t + 1) - 1 = i + t from by omega]; exact qm_oo_pr (ho t (Nat.le_refl t))
  · rw [g1, g2 rfl]; exact (qm_D_run a4 t hi hl).1 h9
  · exact qm_sc_ext (t := t) S (fun k hk => Or.inl (hl k hk))
theorem qm_SI_dgx {t : Nat} (h : qm_SI s n a cl b dp R true i vs ws bs fd) (hi : i + t < n) (hl : ∀ k, k ≤ t → qm_dg (s (i + k)) = true) (h9 : 9 < t + 1) : R = 1 := by
  obtain ⟨⟨a1, a2, a3, a4⟩, A, B, E, P1, P2, ⟨d, g1, g2, g3⟩, S⟩ := h
  rw [g1, g2 rfl]; exact (qm_D_run a4 t hi hl).2 h9
theorem qm_SI_open (h : qm_SI s n a cl b dp R true i vs ws bs fd) (hi : i < n) (hc : s i = 40) : qm_SI s n a cl b dp R true (i + 1) vs (9 :: ws) (i :: bs) (if 8 < qm_in (9 :: ws) then 1 else fd) := by
  obtain ⟨⟨a1, a2, a3, a4⟩, A, B, E, P1, P2, ⟨d, g1, g2, g3⟩, S⟩ := h
  have e1 : a + (i - a) = i := by omega
  have A' := qm_sA_psh (w := 9) (o' := bs.length + 1) A (Or.inl ⟨by rw [e1]; exact hc, rfl, rfl⟩)
  rw [show i - a + 1 = i + 1 - a from by omega] at A'
  refine ⟨⟨by omega, by omega, by omega, a4⟩, A', qm_B_open B hc a3, qm_E_open B E hc a3, fun _ => ?_, fun z => absurd z (by decide), ⟨0, ?_, fun _ => rfl, fun z => absurd z (by decide)⟩, ?_⟩
  · rw [Nat.add_sub_cancel, hc]; exact ⟨Or.inr (Or.inl rfl), by decide⟩
  · rw [g1]; exact qm_D_open hi hc a4
  · exact qm_sc_ext (t := 0) S (qm_sc_one (Or.inr (Or.inr (Or.inr (Or.inl hc)))))
theorem qm_SI_minus (h : qm_SI s n a cl b dp R true i vs ws bs fd) (hi : i < n) (hc : s i = 45) : qm_SI s n a cl b dp R true (i + 1) vs (8 :: ws) bs (if 8 < qm_in (8 :: ws) then 1 else fd) := by
  obtain ⟨⟨a1, a2, a3, a4⟩, A, B, E, P1, P2, ⟨d, g1, g2, g3⟩, S⟩ := h
  have e1 : a + (i - a) = i := by omega
  have io : qm_io (s i) := by rw [hc]; unfold qm_io; decide
  have A' := qm_sA_psh (w := 8) (o' := bs.length) A (Or.inr ⟨by rw [e1]; exact hc, rfl, rfl⟩)
  rw [show i - a + 1 = i + 1 - a from by omega] at A'
  refine ⟨⟨by omega, by omega, by omega, a4⟩, A', qm_B_minus B hc a3 (P1 rfl).1, qm_E_minus B E hc a3 (P1 rfl).1, fun _ => ?_, fun z => absurd z (by decide), ⟨0, ?_, fun _ => rfl, fun z => absurd z (by decide)⟩, ?_⟩
  · rw [Nat.add_sub_cancel]; exact ⟨Or.inl io, (qm_io_dg io).1⟩
  · rw [g1]; exact qm_D_minus hi hc a4
  · exact qm_sc_ext (t := 0) S (qm_sc_one (Or.inr (Or.inr (Or.inl io))))
theorem qm_SI_bad2 (h : qm_SI s n a cl b dp R true i vs ws bs fd) (h1 : qm_dg (qm_ch s n i) = false) (h2 : qm_lt (qm_ch s n i) = false) (h3 : qm_ch s n i ≠ 40) (h4 : qm_ch s n i ≠ 45) : R = 1 := by
  obtain ⟨⟨a1, a2, a3, a4⟩, A, B, E, P1, P2, ⟨d, g1, g2, g3⟩, S⟩ := h
  rw [g1]; exact qm_D_bad2 h1 h2 h3 h4
theorem qm_SI_op (h : qm_SI s n a cl b dp R false i vs ws bs fd) (hi : i < n) (hc : qm_io (s i)) : qm_SI s n a cl b dp R true (i + 1) (qm_to qm_ng qm_bn (qm_rk (qm_oc (s i))) vs ws).1 (qm_oc (s i) :: (qm_to qm_ng qm_bn (qm_rk (qm_oc (s i))) vs ws).2) bs fd := by
  obtain ⟨⟨a1, a2, a3, a4⟩, A, B, E, P1, P2, ⟨d, g1, g2, g3⟩, S⟩ := h
  have e1 : a + (i - a) = i := by omega
  have A' := qm_sA_op A (by rw [e1]; exact hc)
  rw [e1, show i - a + 1 = i + 1 - a from by omega] at A'
  refine ⟨⟨by omega, by omega, by omega, a4⟩, A', qm_B_op vs B hc a3 (P2 rfl), qm_E_op E hc a3 (P2 rfl), fun _ => ?_, fun z => absurd z (by decide), ⟨0, ?_, fun _ => rfl, fun z => absurd z (by decide)⟩, ?_⟩
  · rw [Nat.add_sub_cancel]; exact ⟨Or.inl hc, (qm_io_dg hc).1⟩
  · rw [g1]; exact qm_D_op hi hc a4
  · exact qm_sc_ext (t := 0) S (qm_sc_one (Or.inr (Or.inr (Or.inl hc))))
theorem qm_SI_close0 (h : qm_SI s n a cl b dp R false i vs ws bs fd) (hi : i < n) (hc : s i = 41) (ht : (qm_to qm_ng qm_bn 1 vs ws).2 = []) : R = 1 := by
  obtain ⟨⟨a1, a2, a3, a4⟩, A, B, E, P1, P2, ⟨d, g1, g2, g3⟩, S⟩ := h
  rcases qm_sw_to1 (ng := qm_ng) (bn := qm_bn) vs B.1 with ⟨_, z⟩ | ⟨w2, b2, bs2, z, _⟩
  · subst z; rw [g1]; exact qm_D_close0 hi hc
  · rw [ht] at z; cases z
theorem qm_SI_close {w2 : Int32} {ws2 : List Int32} (h : qm_SI s n a cl b dp R false i vs ws bs fd) (hi : i < n) (hc : s i = 41) (ht : (qm_to qm_ng qm_bn 1 vs ws).2 = w2 :: ws2) : ∃ bs', qm_SI s n a cl b dp R false (i + 1) (qm_fac qm_ng qm_bn (qm_to qm_ng qm_bn 1 vs ws).1 ws2).1 (qm_fac qm_ng qm_bn (qm_to qm_ng qm_bn 1 vs ws).1 ws2).2 bs' fd := by
  obtain ⟨⟨a1, a2, a3, a4⟩, A, B, E, P1, P2, ⟨d, g1, g2, g3⟩, S⟩ := h
  have e1 : a + (i - a) = i := by omega
  rcases qm_sw_to1 (ng := qm_ng) (bn := qm_bn) vs B.1 with ⟨z, _⟩ | ⟨ws3, b2, bs2, z, rfl, z2⟩
  · rw [ht] at z; cases z
  · rw [ht] at z
    cases z
    refine ⟨bs2, ?_⟩
    have A' := qm_sA_cl (o := bs2.length) A (by rw [e1]; exact hc)
    rw [ht, show i - a + 1 = i + 1 - a from by omega] at A'
    refine ⟨⟨by omega, by omega, by omega, a4⟩, A', qm_B_close _ B hc z2, qm_E_close E hc, fun z => absurd z (by decide), fun _ => ?_, ⟨0, ?_, fun _ => rfl, fun _ => Or.inl rfl⟩, ?_⟩
    · rw [Nat.add_sub_cancel, hc]; unfold qm_pr; decide
    · rw [g1]; exact qm_D_close hi hc a4
    · exact qm_sc_ext (t := 0) S (qm_sc_one (Or.inr (Or.inr (Or.inr (Or.inr hc)))))
/-- an operation of a sum: a number, a variable, a negation, an operator -/
def qm_ok (o : Int32 × Int32) : Prop := o.1 = 1 ∨ (o.1 = 2 ∧ ∃ k, k < 8 ∧ o.2 = nI k) ∨ qm_un1 o.1
def qm_okV (l : qm_V) (_ : Unit) : Prop := ∀ t, t ∈ l → qm_ok (t.1, t.2.1)
theorem qm_okV_sh {l : qm_V} (h : qm_okV l ()) : qm_okV (qm_sh l) () := by
  intro t ht
  obtain ⟨x, x1, x2⟩ := List.mem_map.mp ht
  rw [← x2]; exact h x x1
theorem qm_okV_ng {l : qm_V} (h : qm_okV l ()) : qm_okV (qm_ng l) () := by
  intro t ht
  rcases List.mem_append.mp ht with z | z
  · exact qm_okV_sh h t z
  · rw [List.mem_singleton.mp z]; exact Or.inr (Or.inr (Or.inl rfl))
theorem qm_okV_bn {k : Int32} {l m : qm_V} (hk : 1 ≤ qm_rk k) (h : qm_okV l ()) (g : qm_okV m ()) : qm_okV (qm_bn k l m) () := by
  intro t ht
  rcases List.mem_append.mp ht with z | z
  · exact qm_okV_sh h t z
  · rcases List.mem_append.mp z with z | z
    · exact qm_okV_sh g t z
    · rw [List.mem_singleton.mp z]; exact Or.inr (Or.inr (Or.inr hk))
theorem qm_okV_lf {p : Int32 × Int32} (h : qm_pl p) : qm_okV (qm_lf p) () := by
  intro t ht
  rw [List.mem_singleton.mp ht]
  rcases h with h | h
  · exact Or.inl h
  · exact Or.inr (Or.inl h)
theorem qm_okV_cd {l : qm_V} (h : qm_okV l ()) (d : Nat) : ∀ o, o ∈ qm_cd l d → qm_ok o := by
  intro o ho
  unfold qm_cd at ho
  obtain ⟨x, x1, x2⟩ := List.mem_map.mp ho
  rw [← x2]; exact h x (List.mem_filter.mp x1).1
theorem qm_okV_cds {l : qm_V} (h : qm_okV l ()) : ∀ D, ∀ o, o ∈ qm_cds l D → qm_ok o := by
  intro D
  induction D with
  | zero => exact qm_okV_cd h 0
  | succ D ih =>
    intro o ho
    rcases List.mem_append.mp ho with z | z
    · exact qm_okV_cd h _ o z
    · exact ih o z
theorem qm_okV_fin {K : Nat → Int32} {P : Nat → Int32 × Int32} {m : Nat} {t : qm_V} (h1 : ∀ i, i < m → K i = 118 ∨ K i = 40 ∨ K i = 41 ∨ 1 ≤ qm_rk (qm_oc (K i))) (h2 : ∀ i, i < m → K i = 118 → qm_pl (P i)) (ht : qm_fin qm_ng qm_bn (qm_run qm_ng qm_bn K (fun j => qm_lf (P j)) m) = [t]) : qm_okV t () := by
  have hn : ∀ (l : qm_V) (e : Unit), qm_okV l e → qm_okV (qm_ng l) (id e) := fun l e g => qm_okV_ng g
  have hb : ∀ (w : Int32) (l : qm_V) (e : Unit) (l' : qm_V) (e' : Unit), 1 ≤ qm_rk w → qm_okV l e → qm_okV l' e' → qm_okV (qm_bn w l l') ((fun _ _ _ => ()) w e e') := fun w l e l' e' g1 g2 g3 => qm_okV_bn g1 g2 g3
  have SR := qm_run_R (R := qm_okV) (ng := qm_ng) (bn := qm_bn) (ng' := (id : Unit → Unit)) (bn' := fun _ _ _ => ()) hn hb (K := K) (P := fun j => qm_lf (P j)) (P' := fun _ => ()) m h1 (fun j hj hk => qm_okV_lf (h2 j hj hk))
  have FR := qm_fin_R (R := qm_okV) (ng := qm_ng) (bn := qm_bn) (ng' := (id : Unit → Unit)) (bn' := fun _ _ _ => ()) hn hb SR
  rw [ht] at FR
  generalize qm_fin (id : Unit → Unit) (fun _ _ _ => ()) (qm_run (id : Unit → Unit) (fun _ _ _ => ()) K (fun _ => ()) m) = F at FR
  match F, FR with
  | _ :: _, FR => exact FR.1
/-- code of a sum: it runs to the value that the members have -/
def qm_EX (s : Nat → Int32) (a q : Nat) (C : List (Int32 × Int32)) : Prop := qm_wf (qm_tb s a (q - a)).1 (qm_tb s a (q - a)).2.2 ∧ C.length ≤ q - a ∧ (∀ o, o ∈ C → qm_ok o) ∧ ∀ va, ∃ v, qm_F (qm_R (qm_tb s a (q - a)).1 (fun j => qm_ev va ((qm_tb s a (q - a)).2.1 j)) (qm_tb s a (q - a)).2.2) = [v] ∧ qm_ex va C [] = some [v]
theorem qm_wf_of {K : Nat → Int32} {P : Nat → qm_V} {m : Nat} (h : qm_wp K m) (hb : qm_bd K m = 0) (he : (qm_run qm_ng qm_bn K P m).1 = false) : qm_wf K m := by
  cases m with
  | zero => exact absurd he (by show ¬ true = false; decide)
  | succ m =>
    refine ⟨Nat.succ_pos m, ?_, h.1, h.2, hb⟩
    rw [Nat.add_sub_cancel]
    have := qm_run_e (ng := qm_ng) (bn := qm_bn) K P m
    rw [he] at this
    by_cases z : K m = 118
    · exact Or.inl z
    · by_cases z2 : K m = 41
      · exact Or.inr z2
      · exact absurd (this.mpr ⟨z, z2⟩) (by decide)
theorem qm_SI_end {t : qm_V} {D : Nat} (h : qm_SI s n a cl b dp R false i vs ws [] fd) (ht : (qm_to qm_ng qm_bn 1 vs ws).1 = [t]) (hD : ∀ x, x ∈ t → x.2.2 < D + 1) (hl : t.length ≤ i - a) : qm_EX s a i (qm_cds t D) := by
  obtain ⟨⟨a1, a2, a3, a4⟩, ⟨A1, A2, A3, A4⟩, B, E, P1, P2, ⟨d, g1, g2, g3⟩, S⟩ := h
  have tok : ∀ j, j < (qm_tb s a (i - a)).2.2 → (qm_tb s a (i - a)).1 j = 118 ∨ (qm_tb s a (i - a)).1 j = 40 ∨ (qm_tb s a (i - a)).1 j = 41 ∨ 1 ≤ qm_rk (qm_oc ((qm_tb s a (i - a)).1 j)) := by
    intro j hj
    obtain ⟨q1, q2⟩ := A2.1 j hj
    by_cases z : j = 0 ∨ ((qm_tb s a (i - a)).1 (j - 1) ≠ 118 ∧ (qm_tb s a (i - a)).1 (j - 1) ≠ 41)
    · rcases q1 z with y | y | y
      · exact Or.inl y
      · exact Or.inr (Or.inl y)
      · exact Or.inr (Or.inr (Or.inr (by rw [y]; decide)))
    · have z0 : j ≠ 0 := fun y => z (Or.inl y)
      have z1 : (qm_tb s a (i - a)).1 (j - 1) = 118 ∨ (qm_tb s a (i - a)).1 (j - 1) = 41 := by
        by_cases y : (qm_tb s a (i - a)).1 (j - 1) = 118
        · exact Or.inl y
        · by_cases y2 : (qm_tb s a (i - a)).1 (j - 1) = 41
          · exact Or.inr y2
          · exact absurd (Or.inr ⟨y, y2⟩) z
      rcases q2 z0 z1 with y | y
      · exact Or.inr (Or.inr (Or.inl y))
      · exact Or.inr (Or.inr (Or.inr y))
  refine ⟨qm_wf_of A2 A4 (by rw [A1]), Nat.le_trans (qm_cds_len t D) hl, qm_okV_cds (qm_okV_fin tok A3 (by rw [A1]; exact ht)) D, fun va => ?_⟩
  have hn : ∀ l e, qm_gd va l e → qm_gd va (qm_ng l) (-e) := fun l e g => qm_gd_ng g
  have hb : ∀ w l e l' e', 1 ≤ qm_rk w → qm_gd va l e → qm_gd va l' e' → qm_gd va (qm_bn w l l') (qm_b w e e') := fun w l e l' e' g1 g2 g3 => qm_gd_bn g1 g2 g3
  have SR := qm_run_R (R := qm_gd va) (ng := qm_ng) (bn := qm_bn) (ng' := fun x => -x) (bn' := qm_b) hn hb (K := (qm_tb s a (i - a)).1) (P := fun j => qm_lf ((qm_tb s a (i - a)).2.1 j)) (P' := fun j => qm_ev va ((qm_tb s a (i - a)).2.1 j)) (qm_tb s a (i - a)).2.2 tok (fun j hj hk => qm_gd_lf ((A3 j hj hk).imp_right And.left))
  have FR := qm_fin_R (R := qm_gd va) (ng := qm_ng) (bn := qm_bn) (ng' := fun x => -x) (bn' := qm_b) hn hb SR
  rw [A1] at FR
  have e2 : qm_fin qm_ng qm_bn (false, vs, ws) = [t] := ht
  rw [e2] at FR
  have e3 : qm_F (qm_R (qm_tb s a (i - a)).1 (fun j => qm_ev va ((qm_tb s a (i - a)).2.1 j)) (qm_tb s a (i - a)).2.2) = qm_fin (fun x => -x) qm_b (qm_run (fun x => -x) qm_b (qm_tb s a (i - a)).1 (fun j => qm_ev va ((qm_tb s a (i - a)).2.1 j)) (qm_tb s a (i - a)).2.2) := rfl
  rw [e3]
  generalize qm_fin (fun x => -x) qm_b (qm_run (fun x => -x) qm_b (qm_tb s a (i - a)).1 (fun j => qm_ev va ((qm_tb s a (i - a)).2.1 j)) (qm_tb s a (i - a)).2.2) = F at FR
  match F, FR with
  | [v], FR => exact ⟨v, rfl, qm_gd_all FR.1 hD⟩
  | v :: v2 :: F, FR => exact absurd FR.2 (by intro z; exact z)
end
end
section
/-! the component reads a sum -/
theorem qm_digits {s : Nat → Int32} {n : Nat} : ∀ m i, n - i ≤ m → i < n → qm_dg (s i) = true → ∃ t, i + t < n ∧ (∀ k, k ≤ t → qm_dg (s (i + k)) = true) ∧ qm_dg (qm_ch s n (i + (t + 1))) = false := by
  intro m
  induction m with
  | zero => intro i h1 h2; omega
  | succ m ih =>
    intro i h1 h2 h3
    cases g : qm_dg (qm_ch s n (i + 1)) with
    | false =>
      refine ⟨0, h2, fun k hk => ?_, g⟩
      obtain rfl : k = 0 := by omega
      exact h3
    | true =>
      have h4 : i + 1 < n := by
        by_cases z : i + 1 < n
        · exact z
        · rw [qm_ch_ge (by omega)] at g; exact absurd g (by decide)
      rw [qm_ch_lt h4] at g
      obtain ⟨t, t1, t2, t3⟩ := ih (i + 1) (by omega) h4 g
      refine ⟨t + 1, by omega, fun k hk => ?_, ?_⟩
      · cases k with
        | zero => exact h3
        | succ k =>
          have := t2 k (by omega)
          rw [show i + 1 + k = i + (k + 1) from by omega] at this
          exact this
      · rw [show i + 1 + (t + 1) = i + (t + 1 + 1) from by omega] at t3
        exact t3
theorem qm_xs_mono {B B' : Nat} (f_nodes f_trees f_waiting f_inside : Int32) (a_kind a_left a_right a_tree a_waits : Nat → Int32) {vs : List qm_V} {ws : List Int32} (h : qm_xs B f_nodes f_trees f_waiting f_inside a_kind a_left a_right a_tree a_waits vs ws) (hb : B ≤ B') : qm_xs B' f_nodes f_trees f_waiting f_inside a_kind a_left a_right a_tree a_waits vs ws := by
  obtain ⟨N, fo, e1, e2, e3, e4, wa, wv, bd⟩ := h
  exact ⟨N, fo, e1, e2, e3, e4, wa, wv, by omega⟩
section
variable {f_size f_at f_wrong f_deep f_nodes f_trees f_waiting f_inside f_blocks f_ready f_length f_head f_tail f_running f_stored : Int32} {a_source a_kind a_left a_right a_level a_tree a_waits a_block a_op a_arg a_ring a_turnsLeft a_var : Nat → Int32}
theorem qx_sum_bad {post : SX → Prop} {fuel : Nat} {x1 x2 : Int32} {k : Nat} (hk : k < 160) (hp : post (f_size, f_at, 1, f_deep, f_nodes, f_trees, f_waiting, f_inside, f_blocks, f_ready, f_length, f_head, f_tail, f_running, f_stored, a_source, a_kind, a_left, a_right, a_level, a_tree, a_waits, a_block, a_op, a_arg, a_ring, a_turnsLeft, a_var)) : wX_sum_26 post (fuel + 1) x1 x2 (nI k) f_size f_at 1 f_deep f_nodes f_trees f_waiting f_inside f_blocks f_ready f_length f_head f_tail f_running f_stored a_source a_kind a_left a_right a_level a_tree a_waits a_block a_op a_arg a_ring a_turnsLeft a_var := by
  have e : wX_sum_91 post f_size f_at 1 f_deep f_nodes f_trees f_waiting f_inside f_blocks f_ready f_length f_head f_tail f_running f_stored a_source a_kind a_left a_right a_level a_tree a_waits a_block a_op a_arg a_ring a_turnsLeft a_var := br_f (by decide) hp
  refine br_f (nI_ge (b := 160) hk (by decide)) ?_
  by_cases z : x2 = 0
  · exact br_t z e
  · exact br_f z (br_f (by decide) e)

theorem qx_sum_end {post : SX → Prop} {n a b dp R L q : Nat} {cl : Int32} {vs : List qm_V} {ws : List Int32} {bs : List Nat} {fd : Int32} (hn : n ≤ 80) (hLa : L ≤ a)
    (hbad : R = 1 → ∀ (i' : Nat) (fd : Int32) (f_nodes f_trees f_waiting f_inside : Int32) (a_kind a_left a_right a_tree a_waits : Nat → Int32), i' ≤ n + 1 → post (nI n, nI i', 1, fd, f_nodes, f_trees, f_waiting, f_inside, f_blocks, f_ready, nI L, f_head, f_tail, f_running, f_stored, a_source, a_kind, a_left, a_right, a_level, a_tree, a_waits, a_block, a_op, a_arg, a_ring, a_turnsLeft, a_var))
    (hgood : ∀ (q : Nat) (C : List (Int32 × Int32)) (fd : Int32) (vs : List qm_V) (ws : List Int32) (a_level op' arg' : Nat → Int32) (f_nodes f_trees f_waiting f_inside : Int32) (a_kind a_left a_right a_tree a_waits : Nat → Int32), qm_SI a_source n a cl b dp R false q vs ws [] fd → ¬ qm_io (qm_ch a_source n q) → qm_ch a_source n q ≠ 41 → qm_EX a_source a q C → qm_em a_op a_arg L C op' arg' → post (nI n, nI q, 0, fd, f_nodes, f_trees, f_waiting, f_inside, f_blocks, f_ready, nI (L + C.length), f_head, f_tail, f_running, f_stored, a_source, a_kind, a_left, a_right, a_level, a_tree, a_waits, a_block, op', arg', a_ring, a_turnsLeft, a_var))
    (h : qm_SI a_source n a cl b dp R false q vs ws bs fd) (h1 : ¬ qm_io (qm_ch a_source n q)) (h2 : qm_ch a_source n q ≠ 41) (hx : qm_xs (q - a) f_nodes f_trees f_waiting f_inside a_kind a_left a_right a_tree a_waits vs ws) (hv : vs.length = qm_nb ws + 1) :
    wX_sum_91 post (nI n) (nI q) 0 fd f_nodes f_trees f_waiting f_inside f_blocks f_ready (nI L) f_head f_tail f_running f_stored a_source a_kind a_left a_right a_level a_tree a_waits a_block a_op a_arg a_ring a_turnsLeft a_var := by
  have h' := h
  obtain ⟨⟨a1, a2, a3, a4⟩, A, B, E, P1, P2, ⟨d, g1, g2, g3⟩, S⟩ := h'
  unfold wX_sum_91
  refine br_t rfl ?_
  refine qx_reduceTo (l := 1) (by omega) (Nat.le_refl 1) (by omega) hx hv ?_
  intro f_nodes f_trees f_waiting f_inside a_kind a_left a_right a_tree a_waits x1 x2
  rcases qm_sw_to1 (ng := qm_ng) (bn := qm_bn) vs B.1 with ⟨z, rfl⟩ | ⟨ws3, b2, bs2, z, rfl, _⟩
  · rw [z] at x1 x2
    generalize hT : (qm_to qm_ng qm_bn 1 vs ws).1 = T at x1 x2
    match T, x2, x1, hT with
    | [t], _, x1, hT =>
      obtain ⟨N, fo, rfl, rfl, rfl, rfl, wa, wv, bd⟩ := x1
      obtain ⟨lo, rfl, ly, ht, rfl⟩ := fo
      rw [Nat.zero_add] at *
      have tl : t.length ≤ q - a := bd
      refine br_t (by decide) ?_
      refine qx_emitTree (l := t) (L0 := L) (by omega) (by omega) ly ht ?_
      intro D lev op' arg' hD hem
      exact hgood q (qm_cds t D) fd vs ws lev op' arg' _ _ _ _ _ _ _ _ _ h h1 h2 (qm_SI_end h hT hD tl) hem
  · rw [z] at x1
    obtain ⟨N, fo, e1, e2, rfl, e4, wa, wv, bd⟩ := x1
    rw [List.length_cons] at bd
    refine br_f (nI_nle (by rw [List.length_cons]; omega) (by rw [List.length_cons]; omega)) ?_
    refine hbad ?_ q fd _ _ _ _ _ _ _ _ _ (by omega)
    rw [g1]
    exact qm_D_bad3 h1 h2 (g3 rfl) (Or.inl (by rw [List.length_cons]; omega))

theorem qx_sum_l {post : SX → Prop} {n a b dp R L : Nat} {cl : Int32} (hn : n ≤ 80) (hc : qm_ck a_source n) (hLa : L ≤ a)
    (hbad : R = 1 → ∀ (i' : Nat) (fd : Int32) (f_nodes f_trees f_waiting f_inside : Int32) (a_kind a_left a_right a_tree a_waits : Nat → Int32), i' ≤ n + 1 → post (nI n, nI i', 1, fd, f_nodes, f_trees, f_waiting, f_inside, f_blocks, f_ready, nI L, f_head, f_tail, f_running, f_stored, a_source, a_kind, a_left, a_right, a_level, a_tree, a_waits, a_block, a_op, a_arg, a_ring, a_turnsLeft, a_var))
    (hgood : ∀ (q : Nat) (C : List (Int32 × Int32)) (fd : Int32) (vs : List qm_V) (ws : List Int32) (a_level op' arg' : Nat → Int32) (f_nodes f_trees f_waiting f_inside : Int32) (a_kind a_left a_right a_tree a_waits : Nat → Int32), qm_SI a_source n a cl b dp R false q vs ws [] fd → ¬ qm_io (qm_ch a_source n q) → qm_ch a_source n q ≠ 41 → qm_EX a_source a q C → qm_em a_op a_arg L C op' arg' → post (nI n, nI q, 0, fd, f_nodes, f_trees, f_waiting, f_inside, f_blocks, f_ready, nI (L + C.length), f_head, f_tail, f_running, f_stored, a_source, a_kind, a_left, a_right, a_level, a_tree, a_waits, a_block, op', arg', a_ring, a_turnsLeft, a_var)) :
    ∀ (fuel i k : Nat) (e : Bool) (vs : List qm_V) (ws : List Int32) (bs : List Nat) (fd : Int32) (f_nodes f_trees f_waiting f_inside : Int32) (a_kind a_left a_right a_tree a_waits : Nat → Int32), n + 2 - i < fuel → k ≤ i - a → qm_SI a_source n a cl b dp R e i vs ws bs fd → qm_xs (i - a) f_nodes f_trees f_waiting f_inside a_kind a_left a_right a_tree a_waits vs ws → vs.length = qm_nb ws + (if e = true then 0 else 1) →
    wX_sum_26 post fuel (if e = true then 1 else 0) 1 (nI k) (nI n) (nI i) 0 fd f_nodes f_trees f_waiting f_inside f_blocks f_ready (nI L) f_head f_tail f_running f_stored a_source a_kind a_left a_right a_level a_tree a_waits a_block a_op a_arg a_ring a_turnsLeft a_var := by
  intro fuel
  induction fuel with
  | zero => intro i k e vs ws bs fd f_nodes f_trees f_waiting f_inside a_kind a_left a_right a_tree a_waits h; omega
  | succ fuel ih =>
    intro i k e vs ws bs fd f_nodes f_trees f_waiting f_inside a_kind a_left a_right a_tree a_waits hf hk h hx hv
    have hii := h.1
    obtain ⟨fuel, rfl⟩ : ∃ q, fuel = q + 1 := ⟨fuel - 1, by omega⟩
    refine br_f (nI_ge (b := 160) (by omega) (by decide)) (br_f (by decide) (br_t rfl ?_))
    cases e with
    | true =>
      refine br_f (by decide) ?_
      have hv : vs.length = qm_nb ws := hv
      by_cases hin : i < n
      · cases g : qm_dg (a_source i) with
        | true =>
          obtain ⟨t, t1, t2, t3⟩ := qm_digits (n - i) i (Nat.le_refl _) hin g
          refine qx_opnd_digit (j := i + (t + 1)) hn hc (B := i - a) (by omega) (by omega) (by omega) (fun q q1 q2 => by
            have := t2 (q - i) (by omega)
            rw [show i + (q - i) = q from by omega] at this
            exact this) t3 hx hv ?_
          intro f_nodes f_trees f_waiting f_inside a_kind a_left a_right a_tree a_waits x1 x2
          rw [show i + (t + 1) - i = t + 1 from by omega] at x1 x2 ⊢
          refine br_f (by decide) (nm_r (nI_1 k) ?_)
          by_cases z : 9 < t + 1
          · rw [if_pos z]
            exact qx_sum_bad (by omega) (hbad (qm_SI_dgx h t1 t2 z) (i + (t + 1)) fd _ _ _ _ _ _ _ _ _ (by omega))
          · rw [if_neg z]
            exact ih (i + (t + 1)) (k + 1) false _ _ bs fd _ _ _ _ _ _ _ _ _ (by omega) (by omega) (qm_SI_dg h t1 t2 t3 (by omega)) (qm_xs_mono _ _ _ _ _ _ _ _ _ x1 (by omega)) x2
        | false =>
          cases l : qm_lt (a_source i) with
          | true =>
            refine qx_opnd_letter hn hc (B := i - a) (by omega) hin l hx hv ?_
            intro f_nodes f_trees f_waiting f_inside a_kind a_left a_right a_tree a_waits x1 x2
            refine br_f (by decide) (nm_r (nI_1 k) ?_)
            exact ih (i + 1) (k + 1) false _ _ bs fd _ _ _ _ _ _ _ _ _ (by omega) (by omega) (qm_SI_lt h hin l) (qm_xs_mono _ _ _ _ _ _ _ _ _ x1 (by omega)) x2
          | false =>
            by_cases c1 : a_source i = 40
            · refine qx_opnd_push (w := 9) hn hc (B := i - a) (by omega) hin (Or.inl ⟨c1, rfl⟩) hx ?_
              intro f_nodes f_trees f_waiting f_inside a_kind a_left a_right a_tree a_waits x1
              refine br_t rfl (nm_r (nI_1 k) ?_)
              exact ih (i + 1) (k + 1) true _ _ (i :: bs) _ _ _ _ _ _ _ _ _ _ (by omega) (by omega) (qm_SI_open h hin c1) (qm_xs_mono _ _ _ _ _ _ _ _ _ x1 (by omega)) (by rw [qm_nb_0 (by decide)]; exact hv)
            · by_cases c2 : a_source i = 45
              · refine qx_opnd_push (w := 8) hn hc (B := i - a) (by omega) hin (Or.inr ⟨c2, rfl⟩) hx ?_
                intro f_nodes f_trees f_waiting f_inside a_kind a_left a_right a_tree a_waits x1
                refine br_t rfl (nm_r (nI_1 k) ?_)
                exact ih (i + 1) (k + 1) true _ _ bs _ _ _ _ _ _ _ _ _ _ (by omega) (by omega) (qm_SI_minus h hin c2) (qm_xs_mono _ _ _ _ _ _ _ _ _ x1 (by omega)) (by rw [qm_nb_0 (by decide)]; exact hv)
              · have e0 := qm_ch_lt (s := a_source) hin
                rw [← e0] at g l c1 c2
                refine qx_opnd_bad hn (by omega) hc g l c1 c2 ?_
                refine br_t rfl (nm_r (nI_1 k) ?_)
                exact qx_sum_bad (by omega) (hbad (qm_SI_bad2 h g l c1 c2) (i + 1) fd _ _ _ _ _ _ _ _ _ (by omega))
      · have e0 : qm_ch a_source n i = 0 := qm_ch_ge (by omega)
        have g : qm_dg (qm_ch a_source n i) = false := by rw [e0]; decide
        have l : qm_lt (qm_ch a_source n i) = false := by rw [e0]; decide
        have c1 : qm_ch a_source n i ≠ 40 := by rw [e0]; decide
        have c2 : qm_ch a_source n i ≠ 45 := by rw [e0]; decide
        refine qx_opnd_bad hn (by omega) hc g l c1 c2 ?_
        refine br_t rfl (nm_r (nI_1 k) ?_)
        exact qx_sum_bad (by omega) (hbad (qm_SI_bad2 h g l c1 c2) (i + 1) fd _ _ _ _ _ _ _ _ _ (by omega))
    | false =>
      refine br_t rfl ?_
      have hv : vs.length = qm_nb ws + 1 := hv
      have stop : ¬ qm_io (qm_ch a_source n i) → qm_ch a_source n i ≠ 41 → wpX_readOperator (fun r_65 u => match u with | (f_size, f_at, f_wrong, f_deep, f_nodes, f_trees, f_waiting, f_inside, f_blocks, f_ready, f_length, f_head, f_tail, f_running, f_stored, a_source, a_kind, a_left, a_right, a_level, a_tree, a_waits, a_block, a_op, a_arg, a_ring, a_turnsLeft, a_var) => (((r_65 = 1 → (wX_sum_78 post (wX_sum_26 post (fuel + 1)) 1 1 (nI k) r_65 f_size f_at f_wrong f_deep f_nodes f_trees f_waiting f_inside f_blocks f_ready f_length f_head f_tail f_running f_stored a_source a_kind a_left a_right a_level a_tree a_waits a_block a_op a_arg a_ring a_turnsLeft a_var)) ∧ (¬ r_65 = 1 → (wX_sum_78 post (wX_sum_26 post (fuel + 1)) 0 1 (nI k) r_65 f_size f_at f_wrong f_deep f_nodes f_trees f_waiting f_inside f_blocks f_ready f_length f_head f_tail f_running f_stored a_source a_kind a_left a_right a_level a_tree a_waits a_block a_op a_arg a_ring a_turnsLeft a_var))))) (nI n, nI i, 0, fd, f_nodes, f_trees, f_waiting, f_inside, f_blocks, f_ready, nI L, f_head, f_tail, f_running, f_stored, a_source, a_kind, a_left, a_right, a_level, a_tree, a_waits, a_block, a_op, a_arg, a_ring, a_turnsLeft, a_var) := by
        intro h1 h2
        refine qx_oper_end hn (by omega) hc h1 h2 ?_
        refine br_f (by decide) ?_
        unfold wX_sum_78
        refine br_f (by decide) (nm_r (nI_1 k) ?_)
        refine br_f (nI_ge (b := 160) (by omega) (by decide)) (br_t rfl ?_)
        exact qx_sum_end hn hLa hbad hgood h h1 h2 hx hv
      by_cases hin : i < n
      · by_cases ho : qm_io (a_source i)
        · refine qx_oper_op hn hc (B := i - a) (by omega) hin ho hx hv ?_
          intro f_nodes f_trees f_waiting f_inside a_kind a_left a_right a_tree a_waits x1 x2
          refine br_t rfl ?_
          unfold wX_sum_78
          refine br_t (by decide) (nm_r (nI_1 k) ?_)
          refine ih (i + 1) (k + 1) true _ _ bs fd _ _ _ _ _ _ _ _ _ (by omega) (by omega) (qm_SI_op h hin ho) (qm_xs_mono _ _ _ _ _ _ _ _ _ x1 (by omega)) ?_
          rw [qm_nb_1 ho]; exact x2
        · by_cases c41 : a_source i = 41
          · refine qx_oper_close hn hc (B := i - a) (by omega) hin c41 hx hv ?_ ?_
            · intro z f_nodes f_trees f_waiting f_inside a_kind a_left a_right a_tree a_waits
              refine br_f (by decide) ?_
              unfold wX_sum_78
              refine br_f (by decide) (nm_r (nI_1 k) ?_)
              exact qx_sum_bad (by omega) (hbad (qm_SI_close0 h hin c41 z) i fd _ _ _ _ _ _ _ _ _ (by omega))
            · intro w2 ws2 z f_nodes f_trees f_waiting f_inside a_kind a_left a_right a_tree a_waits x1 x2
              obtain ⟨bs', h'⟩ := qm_SI_close h hin c41 z
              refine br_f (by decide) ?_
              unfold wX_sum_78
              refine br_t (by decide) (nm_r (nI_1 k) ?_)
              exact ih (i + 1) (k + 1) false _ _ bs' fd _ _ _ _ _ _ _ _ _ (by omega) (by omega) h' (qm_xs_mono _ _ _ _ _ _ _ _ _ x1 (by omega)) x2
          · rw [← qm_ch_lt (s := a_source) hin] at ho c41
            exact stop ho c41
      · have e0 : qm_ch a_source n i = 0 := qm_ch_ge (by omega)
        exact stop (by rw [e0]; unfold qm_io; decide) (by rw [e0]; decide)

theorem qx_sum {post : SX → Prop} {n a b dp R L : Nat} {cl fd : Int32} (hn : n ≤ 80) (hc : qm_ck a_source n) (hLa : L ≤ a)
    (hbad : R = 1 → ∀ (i' : Nat) (fd : Int32) (f_nodes f_trees f_waiting f_inside : Int32) (a_kind a_left a_right a_tree a_waits : Nat → Int32), i' ≤ n + 1 → post (nI n, nI i', 1, fd, f_nodes, f_trees, f_waiting, f_inside, f_blocks, f_ready, nI L, f_head, f_tail, f_running, f_stored, a_source, a_kind, a_left, a_right, a_level, a_tree, a_waits, a_block, a_op, a_arg, a_ring, a_turnsLeft, a_var))
    (hgood : ∀ (q : Nat) (C : List (Int32 × Int32)) (fd : Int32) (vs : List qm_V) (ws : List Int32) (a_level op' arg' : Nat → Int32) (f_nodes f_trees f_waiting f_inside : Int32) (a_kind a_left a_right a_tree a_waits : Nat → Int32), qm_SI a_source n a cl b dp R false q vs ws [] fd → ¬ qm_io (qm_ch a_source n q) → qm_ch a_source n q ≠ 41 → qm_EX a_source a q C → qm_em a_op a_arg L C op' arg' → post (nI n, nI q, 0, fd, f_nodes, f_trees, f_waiting, f_inside, f_blocks, f_ready, nI (L + C.length), f_head, f_tail, f_running, f_stored, a_source, a_kind, a_left, a_right, a_level, a_tree, a_waits, a_block, op', arg', a_ring, a_turnsLeft, a_var))
    (h : qm_SI a_source n a cl b dp R true a [] [] [] fd) : wpX_sum post (nI n, nI a, 0, fd, f_nodes, f_trees, f_waiting, f_inside, f_blocks, f_ready, nI L, f_head, f_tail, f_running, f_stored, a_source, a_kind, a_left, a_right, a_level, a_tree, a_waits, a_block, a_op, a_arg, a_ring, a_turnsLeft, a_var) := by
  unfold wpX_sum
  refine ⟨n + 3, qx_sum_l hn hc hLa hbad hgood (n + 3) a 0 true [] [] [] fd _ _ _ _ _ _ _ _ _ (by have := h.1; omega) (by omega) h ?_ rfl⟩
  exact ⟨0, rfl, rfl, rfl, rfl, rfl, trivial, fun w hw => absurd hw (List.not_mem_nil), by exact Nat.zero_le _⟩
end
end
section
/-! the code of statements -/
def qm_bst (s : Nat → Int32) : Nat → List Nat
  | 0 => []
  | i + 1 => if s i = 123 then i :: qm_bst s i else if s i = 125 then (qm_bst s i).tail else qm_bst s i
theorem qm_bst_o {s : Nat → Int32} {i : Nat} (h : s i = 123) : qm_bst s (i + 1) = i :: qm_bst s i := if_pos h
theorem qm_bst_c {s : Nat → Int32} {i : Nat} (h : s i = 125) : qm_bst s (i + 1) = (qm_bst s i).tail := by
  rw [qm_bst, if_neg (by rw [h]; decide), if_pos h]
theorem qm_bst_n {s : Nat → Int32} {i : Nat} (h : s i ≠ 123) (h2 : s i ≠ 125) : qm_bst s (i + 1) = qm_bst s i := by
  rw [qm_bst, if_neg h, if_neg h2]
theorem qm_bst_k {s : Nat → Int32} {i : Nat} : ∀ m, (∀ t, i ≤ t → t < i + m → s t ≠ 123 ∧ s t ≠ 125) → qm_bst s (i + m) = qm_bst s i := by
  intro m
  induction m with
  | zero => intro _; rfl
  | succ m ih =>
    intro h
    rw [← Nat.add_assoc, qm_bst_n (h (i + m) (by omega) (by omega)).1 (h (i + m) (by omega) (by omega)).2]
    exact ih (fun t t1 t2 => h t t1 (by omega))
def qm_dec : List Nat → Prop
  | [] => True
  | q :: qs => (∀ x, x ∈ qs → x < q) ∧ qm_dec qs
theorem qm_dec_t : ∀ {l : List Nat}, qm_dec l → qm_dec l.tail
  | [], _ => trivial
  | _ :: _, h => h.2
theorem qm_bst_mem {s : Nat → Int32} : ∀ (i : Nat), (∀ q, q ∈ qm_bst s i → q < i ∧ s q = 123) ∧ qm_dec (qm_bst s i) := by
  intro i
  induction i with
  | zero => exact ⟨fun q hq => absurd hq List.not_mem_nil, trivial⟩
  | succ i ih =>
    by_cases h1 : s i = 123
    · rw [qm_bst_o h1]
      refine ⟨fun q hq => ?_, fun x hx => (ih.1 x hx).1, ih.2⟩
      rcases List.mem_cons.mp hq with z | z
      · rw [z]; exact ⟨by omega, h1⟩
      · have := ih.1 q z; exact ⟨by omega, this.2⟩
    · by_cases h2 : s i = 125
      · rw [qm_bst_c h2]
        refine ⟨fun q hq => ?_, qm_dec_t ih.2⟩
        have := ih.1 q (List.mem_of_mem_tail hq); exact ⟨by omega, this.2⟩
      · rw [qm_bst_n h1 h2]
        refine ⟨fun q hq => ?_, ih.2⟩
        have := ih.1 q hq; exact ⟨by omega, this.2⟩
/-- a block that has been closed isn't open again -/
theorem qm_bst_gone {s : Nat → Int32} {m q : Nat} {t : List Nat} (hm : s m = 125) (h : qm_bst s m = q :: t) : ∀ k, q ∉ qm_bst s (m + 1 + k) := by
  have M := qm_bst_mem (s := s) m
  rw [h] at M
  have qm : q < m := (M.1 q List.mem_cons_self).1
  intro k
  induction k with
  | zero =>
    rw [Nat.add_zero, qm_bst_c hm, h]
    intro z
    have := M.2.1 q z
    omega
  | succ k ih =>
    rw [← Nat.add_assoc]
    by_cases h1 : s (m + 1 + k) = 123
    · rw [qm_bst_o h1]
      intro z
      rcases List.mem_cons.mp z with y | y
      · omega
      · exact ih y
    · by_cases h2 : s (m + 1 + k) = 125
      · rw [qm_bst_c h2]
        exact fun z => ih (List.mem_of_mem_tail z)
      · rw [qm_bst_n h1 h2]; exact ih

/-- the code of the statement at i, read as far as p -/
def qm_LS (s : Nat → Int32) (AD : Nat → Nat) (SS : Nat → Prop) (op arg : Nat → Int32) (p i : Nat) : Prop :=
  (qm_lt (s i) = true ∧ ∃ q C, i + 2 ≤ q ∧ q < p ∧ s q = 59 ∧ s (i + 1) = 61 ∧ (∀ t, i + 2 ≤ t → t < q → qm_sc (s t)) ∧ qm_EX s (i + 2) q C ∧ qm_cm op arg (AD i) C ∧ op (AD i + C.length) = 10 ∧ arg (AD i + C.length) = s i - 97 ∧ AD (q + 1) = AD i + C.length + 1 ∧ SS (q + 1))
  ∨ (s i = 63 ∧ ∃ q C, i + 1 ≤ q ∧ q < p ∧ s q = 123 ∧ (∀ t, i + 1 ≤ t → t < q → qm_sc (s t)) ∧ qm_EX s (i + 1) q C ∧ qm_cm op arg (AD i) C ∧ op (AD i + C.length) = 11 ∧ AD (q + 1) = AD i + C.length + 1 ∧ SS (q + 1))
  ∨ (s i = 35 ∧ ∃ d, d ≤ 9 ∧ s (i + 1) = nI (48 + d) ∧ s (i + 2) = 123 ∧ i + 2 < p ∧ op (AD i) = 12 ∧ arg (AD i) = nI d ∧ AD (i + 3) = AD i + 1 ∧ SS (i + 3))
  ∨ (s i = 125 ∧ i < p ∧ SS (i + 1))
/-- the block that is closed at m -/
def qm_CL (s : Nat → Int32) (AD : Nat → Nat) (op arg : Nat → Int32) (m : Nat) : Prop := ∃ q t, qm_bst s m = q :: t
  ∧ (op (AD (q + 1) - 1) = 11 → arg (AD (q + 1) - 1) = nI (AD (m + 1)) ∧ AD (m + 1) = AD m)
  ∧ (op (AD (q + 1) - 1) = 12 → AD m < AD (m + 1) ∧ op (AD m) = 13 ∧ arg (AD m) = nI (AD (q + 1) - 1) ∧ AD (m + 1) = AD m + 1 ∧ (∀ c, c < AD m → op c = 13 → arg c ≠ nI (AD (q + 1) - 1)))
/-- the code of all statements before p: L operations -/
def qm_CP (s : Nat → Int32) (AD : Nat → Nat) (SS : Nat → Prop) (op arg : Nat → Int32) (p L : Nat) : Prop :=
  (SS 0 ∧ SS p ∧ AD 0 = 0 ∧ AD p = L ∧ L ≤ p)
  ∧ (∀ i, i < p → SS i → qm_LS s AD SS op arg p i)
  ∧ (∀ m, m < p → s m = 125 → SS m ∧ SS (m + 1) ∧ qm_CL s AD op arg m)
  ∧ (∀ q, q < p → s q = 123 → SS (q + 1) ∧ 1 ≤ AD (q + 1) ∧ (op (AD (q + 1) - 1) = 11 ∨ op (AD (q + 1) - 1) = 12))
  ∧ (∀ q q', q < q' → q' < p → s q = 123 → s q' = 123 → AD (q + 1) < AD (q' + 1))
  ∧ (∀ c, c < L → op c = 13 → ∃ z, z < L ∧ arg c = nI z ∧ ∀ q, q ∈ qm_bst s p → z ≠ AD (q + 1) - 1)
  ∧ (∀ i, SS i → i ≤ p ∧ AD i ≤ L)
  ∧ (∀ i j, SS i → SS j → i ≤ j → AD i ≤ AD j)
def qm_bl (blk : Nat → Int32) (AD : Nat → Nat) : List Nat → Prop
  | [] => True
  | q :: qs => blk qs.length = nI (AD (q + 1) - 1) ∧ qm_bl blk AD qs
theorem qm_bl_keep {blk blk' : Nat → Int32} {AD AD' : Nat → Nat} : ∀ {l : List Nat}, qm_bl blk AD l → (∀ j, j < l.length → blk' j = blk j) → (∀ q, q ∈ l → AD' (q + 1) = AD (q + 1)) → qm_bl blk' AD' l
  | [], _, _, _ => trivial
  | q :: qs, h, g, a => ⟨by rw [g _ (by rw [List.length_cons]; omega), a q List.mem_cons_self]; exact h.1, qm_bl_keep h.2 (fun j hj => g j (by rw [List.length_cons]; omega)) (fun x hx => a x (List.mem_cons_of_mem _ hx))⟩
theorem qm_CP_0 (s op arg : Nat → Int32) : qm_CP s (fun _ => 0) (fun i => i = 0) op arg 0 0 :=
  ⟨⟨rfl, rfl, rfl, rfl, Nat.le_refl 0⟩, fun i hi => absurd hi (Nat.not_lt_zero i), fun i hi => absurd hi (Nat.not_lt_zero i), fun i hi => absurd hi (Nat.not_lt_zero i), fun _ i _ hi => absurd hi (Nat.not_lt_zero i), fun i hi => absurd hi (Nat.not_lt_zero i), fun i hi => ⟨by omega, Nat.le_refl 0⟩, fun _ _ _ _ _ => Nat.le_refl 0⟩

theorem qm_LS_keep {s : Nat → Int32} {AD AD' : Nat → Nat} {SS SS' : Nat → Prop} {op arg op' arg' : Nat → Int32} {p p' L i : Nat} (hp : p ≤ p') (hA : ∀ j, j ≤ p → AD' j = AD j) (hS : ∀ j, SS j → SS' j) (hL : ∀ j, SS j → AD j ≤ L) (ho : ∀ c, c < L → op' c = op c ∧ (op c ≠ 11 → arg' c = arg c)) (hi : i < p) (h : qm_LS s AD SS op arg p i) : qm_LS s AD' SS' op' arg' p' i := by
  have cmk : ∀ C : List (Int32 × Int32), AD i + C.length < L → qm_cm op arg (AD i) C → qm_cm op' arg' (AD i) C := by
    intro C hC hc
    refine qm_cm_keep hc (fun j j1 j2 => ⟨(ho j (by omega)).1, fun z => (ho j (by omega)).2 ?_⟩)
    rcases z with z | z <;> rw [z] <;> decide
  rcases h with ⟨c, q, C, h1, h2, h3, h4, h5, h6, h7, h8, h9, h10, h11⟩ | ⟨c, q, C, h1, h2, h3, h5, h6, h7, h8, h10, h11⟩ | ⟨c, d, h1, h2, h3, h4, h5, h6, h7, h8⟩ | ⟨c, h1, h2⟩
  · have l1 := hL _ h11
    refine Or.inl ⟨c, q, C, h1, by omega, h3, h4, h5, h6, ?_, ?_, ?_, ?_, hS _ h11⟩
    · rw [hA i (by omega)]; exact cmk C (by omega) h7
    · rw [hA i (by omega), (ho _ (by omega)).1]; exact h8
    · rw [hA i (by omega), (ho _ (by omega)).2 (by rw [h8]; decide)]; exact h9
    · rw [hA i (by omega), hA (q + 1) (by omega)]; exact h10
  · have l1 := hL _ h11
    refine Or.inr (Or.inl ⟨c, q, C, h1, by omega, h3, h5, h6, ?_, ?_, ?_, hS _ h11⟩)
    · rw [hA i (by omega)]; exact cmk C (by omega) h7
    · rw [hA i (by omega), (ho _ (by omega)).1]; exact h8
    · rw [hA i (by omega), hA (q + 1) (by omega)]; exact h10
  · have l1 := hL _ h8
    refine Or.inr (Or.inr (Or.inl ⟨c, d, h1, h2, h3, by omega, ?_, ?_, ?_, hS _ h8⟩))
    · rw [hA i (by omega), (ho _ (by omega)).1]; exact h5
    · rw [hA i (by omega), (ho _ (by omega)).2 (by rw [h5]; decide)]; exact h6
    · rw [hA i (by omega), hA (i + 3) (by omega)]; exact h7
  · exact Or.inr (Or.inr (Or.inr ⟨c, by omega, hS _ h2⟩))

/-- one more statement that isn't a closing bracket -/
theorem qm_CP_ext {s : Nat → Int32} {AD : Nat → Nat} {SS : Nat → Prop} {op arg op' arg' : Nat → Int32} {p p' L L' : Nat} (h : qm_CP s AD SS op arg p L) (hp : p < p') (ho : ∀ c, c < L → op' c = op c ∧ arg' c = arg c) (hL : L < L') (hL' : L' ≤ p') (hno : ∀ t, p ≤ t → t < p' → s t ≠ 125) (hno2 : ∀ t, p ≤ t → t + 1 < p' → s t ≠ 123)
    (hblk : s (p' - 1) = 123 → op' (L' - 1) = 11 ∨ op' (L' - 1) = 12) (h13 : ∀ c, L ≤ c → c < L' → op' c ≠ 13)
    (hls : qm_LS s (qm_up AD p' L') (fun j => SS j ∨ j = p') op' arg' p' p) : qm_CP s (qm_up AD p' L') (fun j => SS j ∨ j = p') op' arg' p' L' := by
  obtain ⟨⟨a1, a2, a3, a4, a5⟩, b, c, d, e, f, g, mo⟩ := h
  have hA : ∀ j, j ≤ p → qm_up AD p' L' j = AD j := fun j hj => qm_un (by omega)
  have hnew : qm_up AD p' L' p' = L' := qm_us
  have bst1 : s (p' - 1) ≠ 123 → qm_bst s p' = qm_bst s p := by
    intro z
    have := qm_bst_k (s := s) (i := p) (p' - p) (fun t t1 t2 => ⟨by
      by_cases y : t + 1 < p'
      · exact hno2 t t1 y
      · rw [show t = p' - 1 from by omega]; exact z, hno t t1 (by omega)⟩)
    rw [show p + (p' - p) = p' from by omega] at this
    exact this
  have bst2 : s (p' - 1) = 123 → qm_bst s p' = (p' - 1) :: qm_bst s p := by
    intro z
    have := qm_bst_k (s := s) (i := p) (p' - 1 - p) (fun t t1 t2 => ⟨hno2 t t1 (by omega), hno t t1 (by omega)⟩)
    rw [show p + (p' - 1 - p) = p' - 1 from by omega] at this
    have e2 := qm_bst_o z
    rw [show p' - 1 + 1 = p' from by omega, this] at e2
    exact e2
  refine ⟨⟨Or.inl a1, Or.inr rfl, by rw [hA 0 (by omega)]; exact a3, hnew, hL'⟩, ?_, ?_, ?_, ?_, ?_, ?_, ?_⟩
  · intro i hi hs
    rcases hs with hs | hs
    · by_cases z : i = p
      · rw [z]; exact hls
      · have := (g i hs).1
        exact qm_LS_keep (by omega) hA (fun j hj => Or.inl hj) (fun j hj => (g j hj).2) (fun c hc => ⟨(ho c hc).1, fun _ => (ho c hc).2⟩) (by omega) (b i (by omega) hs)
    · omega
  · intro m hm hs
    have mp : m < p := by
      by_cases z : m < p
      · exact z
      · exact absurd hs (hno m (by omega) hm)
    obtain ⟨c1, c2, q, t, c3, c4, c5⟩ := c m mp hs
    have M := (qm_bst_mem (s := s) m).1 q (by rw [c3]; exact List.mem_cons_self)
    have dq := d q (by omega) M.2
    have gq := g _ dq.1
    refine ⟨Or.inl c1, Or.inl c2, q, t, c3, ?_, ?_⟩
    · rw [hA (q + 1) (by omega), hA (m + 1) (by omega), hA m (by omega), (ho _ (by omega)).1, (ho _ (by omega)).2]; exact c4
    · rw [hA (q + 1) (by omega), hA (m + 1) (by omega), hA m (by omega), (ho _ (by omega)).1]
      intro z
      obtain ⟨y1, y2, y3, y4, y5⟩ := c5 z
      have gm := g _ c2
      refine ⟨y1, ?_, ?_, y4, fun c hc hc2 => ?_⟩
      · rw [(ho _ (by omega)).1]; exact y2
      · rw [(ho _ (by omega)).2]; exact y3
      · rw [(ho c (by omega)).1] at hc2
        rw [(ho c (by omega)).2]; exact y5 c hc hc2
  · intro q hq hs
    by_cases z : q < p
    · obtain ⟨d1, d2, d3⟩ := d q z hs
      have gq := g _ d1
      rw [hA (q + 1) (by omega), (ho _ (by omega)).1]
      exact ⟨Or.inl d1, d2, d3⟩
    · have qe : q = p' - 1 := by
        by_cases y : q + 1 < p'
        · exact absurd hs (hno2 q (by omega) y)
        · omega
      rw [show q + 1 = p' from by omega, hnew]
      exact ⟨Or.inr rfl, by omega, hblk (by rw [← qe]; exact hs)⟩
  · intro q q' h1 h2 h3 h4
    by_cases z : q' < p
    · rw [hA (q + 1) (by omega), hA (q' + 1) (by omega)]; exact e q q' h1 z h3 h4
    · have qe : q' = p' - 1 := by
        by_cases y : q' + 1 < p'
        · exact absurd h4 (hno2 q' (by omega) y)
        · omega
      have qp : q < p := by
        by_cases y : q < p
        · exact y
        · exact absurd h3 (hno2 q (by omega) (by omega))
      have gq := g _ (d q qp h3).1
      rw [hA (q + 1) (by omega), show q' + 1 = p' from by omega, hnew]; omega
  · intro c hc h3
    have cl : c < L := by
      by_cases z : c < L
      · exact z
      · exact absurd h3 (h13 c (by omega) hc)
    rw [(ho c cl).1] at h3
    obtain ⟨z, z1, z2, z3⟩ := f c cl h3
    refine ⟨z, by omega, by rw [(ho c cl).2]; exact z2, fun q hq => ?_⟩
    have old : q ∈ qm_bst s p → z ≠ qm_up AD p' L' (q + 1) - 1 := by
      intro y
      have := (qm_bst_mem (s := s) p).1 q y
      rw [hA (q + 1) (by omega)]; exact z3 q y
    by_cases y : s (p' - 1) = 123
    · rw [bst2 y] at hq
      rcases List.mem_cons.mp hq with w | w
      · rw [w, show p' - 1 + 1 = p' from by omega, hnew]; omega
      · exact old w
    · rw [bst1 y] at hq; exact old hq
  · intro i hs
    rcases hs with hs | hs
    · have := g i hs
      rw [hA i this.1]; exact ⟨by omega, by omega⟩
    · rw [hs, hnew]; exact ⟨Nat.le_refl _, Nat.le_refl _⟩
  · intro i j hi hj hij
    rcases hi with hi | hi
    · have gi := g i hi
      rcases hj with hj | hj
      · have gj := g j hj
        rw [hA i gi.1, hA j gj.1]; exact mo i j hi hj hij
      · rw [hj, hnew, hA i gi.1]; omega
    · rcases hj with hj | hj
      · have gj := g j hj; omega
      · rw [hi, hj]; exact Nat.le_refl _

/-- a closing bracket; arg' differs from arg at z alone, if it is a conditional block that ends -/
theorem qm_CP_close {s : Nat → Int32} {AD : Nat → Nat} {SS : Nat → Prop} {op arg op' arg' : Nat → Int32} {p L L' q : Nat} {t : List Nat} (h : qm_CP s AD SS op arg p L) (hs : s p = 125) (hb : qm_bst s p = q :: t) (hL8 : L < 2 ^ 31)
    (ho : ∀ c, c < L → op' c = op c ∧ (c ≠ AD (q + 1) - 1 → arg' c = arg c))
    (hk : (op (AD (q + 1) - 1) = 11 ∧ L' = L ∧ arg' (AD (q + 1) - 1) = nI L) ∨ (op (AD (q + 1) - 1) = 12 ∧ L' = L + 1 ∧ op' L = 13 ∧ arg' L = nI (AD (q + 1) - 1) ∧ arg' (AD (q + 1) - 1) = arg (AD (q + 1) - 1))) : qm_CP s (qm_up AD (p + 1) L') (fun j => SS j ∨ j = p + 1) op' arg' (p + 1) L' := by
  have h' := h
  obtain ⟨⟨a1, a2, a3, a4, a5⟩, b, c, d, e, f, g, mo⟩ := h'
  have Mq := (qm_bst_mem (s := s) p).1 q (by rw [hb]; exact List.mem_cons_self)
  have dq := d q Mq.1 Mq.2
  have gq := g _ dq.1
  have LL : L ≤ L' ∧ L' ≤ L + 1 := by rcases hk with ⟨_, z, _⟩ | ⟨_, z, _⟩ <;> omega
  have hA : ∀ j, j ≤ p → qm_up AD (p + 1) L' j = AD j := fun j hj => qm_un (by omega)
  have hnew : qm_up AD (p + 1) L' (p + 1) = L' := qm_us
  have bst1 : qm_bst s (p + 1) = t := by rw [qm_bst_c hs, hb]; rfl
  have ho2 : ∀ c, c < L → op' c = op c ∧ (op c ≠ 11 → arg' c = arg c) := by
    intro c hc
    refine ⟨(ho c hc).1, fun z => ?_⟩
    by_cases y : c = AD (q + 1) - 1
    · rcases hk with ⟨k1, _⟩ | ⟨k1, _, _, _, k5⟩
      · rw [y] at z; exact absurd k1 z
      · rw [y]; exact k5
    · exact (ho c hc).2 y
  refine ⟨⟨Or.inl a1, Or.inr rfl, by rw [hA 0 (by omega)]; exact a3, hnew, by omega⟩, ?_, ?_, ?_, ?_, ?_, ?_, ?_⟩
  · intro i hi hsi
    rcases hsi with hsi | hsi
    · by_cases z : i = p
      · rw [z]; exact Or.inr (Or.inr (Or.inr ⟨hs, by omega, Or.inr rfl⟩))
      · exact qm_LS_keep (by omega) hA (fun j hj => Or.inl hj) (fun j hj => (g j hj).2) ho2 (by omega) (b i (by omega) hsi)
    · omega
  · intro m hm hsm
    by_cases z : m = p
    · subst z
      refine ⟨Or.inl a2, Or.inr rfl, q, t, hb, ?_, ?_⟩
      · rw [hA (q + 1) (by omega), hnew, hA m (by omega), (ho _ (by omega)).1, a4]
        intro y
        rcases hk with ⟨k1, k2, k3⟩ | ⟨k1, _⟩
        · rw [k2]; exact ⟨k3, rfl⟩
        · rw [k1] at y; exact absurd y (by decide)
      · rw [hA (q + 1) (by omega), hnew, hA m (by omega), (ho _ (by omega)).1, a4]
        intro y
        rcases hk with ⟨k1, _⟩ | ⟨k1, k2, k3, k4, k5⟩
        · rw [k1] at y; exact absurd y (by decide)
        · refine ⟨by omega, k3, k4, k2, fun c hc hc2 => ?_⟩
          rw [(ho c hc).1] at hc2
          rw [(ho2 c hc).2 (by rw [hc2]; decide)]
          obtain ⟨w, w1, w2, w3⟩ := f c hc hc2
          rw [w2]
          intro v
          exact w3 q (by rw [hb]; exact List.mem_cons_self) ((nI_eq (by omega) (by omega)).mp v)
    · have mp : m < p := by omega
      obtain ⟨c1, c2, r, t', c3, c4, c5⟩ := c m mp hsm
      have M := (qm_bst_mem (s := s) m).1 r (by rw [c3]; exact List.mem_cons_self)
      have dr := d r (by omega) M.2
      have gr := g _ dr.1
      have rq : r ≠ q := by
        intro w
        have := qm_bst_gone hsm c3 (p - (m + 1))
        rw [show m + 1 + (p - (m + 1)) = p from by omega, hb, w] at this
        exact this List.mem_cons_self
      have ne : AD (r + 1) - 1 ≠ AD (q + 1) - 1 := by
        by_cases w : r < q
        · have := e r q w Mq.1 M.2 Mq.2; omega
        · have := e q r (by omega) (by omega) Mq.2 M.2; omega
      refine ⟨Or.inl c1, Or.inl c2, r, t', c3, ?_, ?_⟩
      · rw [hA (r + 1) (by omega), hA (m + 1) (by omega), hA m (by omega), (ho _ (by omega)).1, (ho _ (by omega)).2 ne]; exact c4
      · rw [hA (r + 1) (by omega), hA (m + 1) (by omega), hA m (by omega), (ho _ (by omega)).1]
        intro z
        obtain ⟨y1, y2, y3, y4, y5⟩ := c5 z
        have gm := g _ c2
        refine ⟨y1, ?_, ?_, y4, fun c hc hc2 => ?_⟩
        · rw [(ho _ (by omega)).1]; exact y2
        · rw [(ho2 _ (by omega)).2 (by rw [y2]; decide)]; exact y3
        · rw [(ho c (by omega)).1] at hc2
          rw [(ho2 c (by omega)).2 (by rw [hc2]; decide)]; exact y5 c hc hc2
  · intro r hr hsr
    have rp : r < p := by
      by_cases z : r = p
      · rw [z, hs] at hsr; exact absurd hsr (by decide)
      · omega
    obtain ⟨d1, d2, d3⟩ := d r rp hsr
    have gr := g _ d1
    rw [hA (r + 1) (by omega), (ho _ (by omega)).1]
    exact ⟨Or.inl d1, d2, d3⟩
  · intro r r' h1 h2 h3 h4
    have rp : r' < p := by
      by_cases z : r' = p
      · rw [z, hs] at h4; exact absurd h4 (by decide)
      · omega
    rw [hA (r + 1) (by omega), hA (r' + 1) (by omega)]; exact e r r' h1 rp h3 h4
  · intro x hx h3
    have D := (qm_bst_mem (s := s) p).2
    have MM := (qm_bst_mem (s := s) p).1
    rw [hb] at D MM
    by_cases z : x < L
    · rw [(ho x z).1] at h3
      obtain ⟨w, w1, w2, w3⟩ := f x z h3
      refine ⟨w, by omega, by rw [(ho2 x z).2 (by rw [h3]; decide)]; exact w2, fun r hr => ?_⟩
      rw [bst1] at hr
      have := MM r (List.mem_cons_of_mem _ hr)
      rw [hA (r + 1) (by omega)]
      exact w3 r (by rw [hb]; exact List.mem_cons_of_mem _ hr)
    · rcases hk with ⟨_, k2, _⟩ | ⟨k1, k2, k3, k4, k5⟩
      · omega
      · obtain rfl : x = L := by omega
        refine ⟨AD (q + 1) - 1, by omega, k4, fun r hr => ?_⟩
        rw [bst1] at hr
        have m1 := MM r (List.mem_cons_of_mem _ hr)
        have m2 := e r q (D.1 r hr) Mq.1 m1.2 Mq.2
        rw [hA (r + 1) (by omega)]
        have := (d r m1.1 m1.2).2.1
        omega
  · intro i hsi
    rcases hsi with hsi | hsi
    · have := g i hsi
      rw [hA i this.1]; exact ⟨by omega, by omega⟩
    · rw [hsi, hnew]; exact ⟨Nat.le_refl _, Nat.le_refl _⟩
  · intro i j hi hj hij
    rcases hi with hi | hi
    · have gi := g i hi
      rcases hj with hj | hj
      · have gj := g j hj
        rw [hA i gi.1, hA j gj.1]; exact mo i j hi hj hij
      · rw [hj, hnew, hA i gi.1]; omega
    · rcases hj with hj | hj
      · have gj := g j hj; omega
      · rw [hi, hj]; exact Nat.le_refl _
end
section
/-! the component compiles a statement -/
/-- at the head of a statement at p -/
def qm_SP (s : Nat → Int32) (n R : Nat) (op arg blk : Nat → Int32) (p dp L : Nat) (fd : Int32) : Prop :=
  (p ≤ n ∧ 3 * dp ≤ p ∧ (∀ i, i ≤ p → (qm_bst s i).length ≤ dp)) ∧ (∃ cl o d, R = qm_gr s (n - p) p 0 cl o d (qm_bst s p).length dp) ∧ (fd = 0 ∨ fd = 1) ∧ (fd = 1 ↔ (3 < dp ∨ ∃ j, j < p ∧ qm_dq s j)) ∧ qm_is s p = false
  ∧ ∃ AD SS, qm_bl blk AD (qm_bst s p) ∧ qm_CP s AD SS op arg p L
section
variable {f_size f_at f_wrong f_deep f_nodes f_trees f_waiting f_inside f_blocks f_ready f_length f_head f_tail f_running f_stored : Int32} {a_source a_kind a_left a_right a_level a_tree a_waits a_block a_op a_arg a_ring a_turnsLeft a_var : Nat → Int32}
theorem qx_open {post : SX → Prop} {b L : Nat} {k x : Int32} (hb : b < 40) (hL : L < 200) (hp : post (f_size, f_at, f_wrong, if 3 < b + 1 then 1 else f_deep, f_nodes, f_trees, f_waiting, f_inside, nI (b + 1), f_ready, nI (L + 1), f_head, f_tail, f_running, f_stored, a_source, a_kind, a_left, a_right, a_level, a_tree, a_waits, upd a_block b (nI L), upd a_op L k, upd a_arg L x, a_ring, a_turnsLeft, a_var)) : wpX_open post (f_size, f_at, f_wrong, f_deep, f_nodes, f_trees, f_waiting, f_inside, nI b, f_ready, nI L, f_head, f_tail, f_running, f_stored, a_source, a_kind, a_left, a_right, a_level, a_tree, a_waits, a_block, a_op, a_arg, a_ring, a_turnsLeft, a_var) k x := by
  unfold wpX_open
  refine br_f (nI_ge (b := 40) hb (by decide)) ?_
  rw [nI_clamp (show b < 2 ^ 31 by omega)]
  refine ⟨vp_in_nI hb (by omega), nm_e ?_⟩
  unfold wX_open_22
  refine nm_r (nI_1 b) ?_
  by_cases z : 3 < b + 1
  · rw [if_pos z] at hp
    refine br_f (nI_ge (a := 3) z (by omega)) ?_
    unfold wX_open_45
    exact qx_put hL hp
  · rw [if_neg z] at hp
    refine br_t (nI_le (b := 3) (by omega) (by decide)) ?_
    unfold wX_open_45
    exact qx_put hL hp
theorem qx_close {post : SX → Prop} {b z L : Nat} (hb : b < 40) (hz : z < 200) (hL : L < 200) (hs : a_block b = nI z)
    (h12 : a_op z = 12 → post (f_size, f_at, f_wrong, f_deep, f_nodes, f_trees, f_waiting, f_inside, nI b, f_ready, nI (L + 1), f_head, f_tail, f_running, f_stored, a_source, a_kind, a_left, a_right, a_level, a_tree, a_waits, a_block, upd a_op L 13, upd a_arg L (nI z), a_ring, a_turnsLeft, a_var)) (h11 : a_op z ≠ 12 → post (f_size, f_at, f_wrong, f_deep, f_nodes, f_trees, f_waiting, f_inside, nI b, f_ready, nI L, f_head, f_tail, f_running, f_stored, a_source, a_kind, a_left, a_right, a_level, a_tree, a_waits, a_block, a_op, upd a_arg z (nI L), a_ring, a_turnsLeft, a_var)) : wpX_close post (f_size, f_at, f_wrong, f_deep, f_nodes, f_trees, f_waiting, f_inside, nI (b + 1), f_ready, nI L, f_head, f_tail, f_running, f_stored, a_source, a_kind, a_left, a_right, a_level, a_tree, a_waits, a_block, a_op, a_arg, a_ring, a_turnsLeft, a_var) := by
  unfold wpX_close
  refine br_f (nI_ne0 (by omega) (by omega)) (nm_r (nI_pred b) ?_)
  refine br_f (nI_ge (b := 40) hb (by decide)) ?_
  unfold wX_close_45
  rw [nI_clamp (show b < 2 ^ 31 by omega), hs]
  refine ⟨vp_in_nI hb (by omega), nm_e ⟨vp_in_nI hz (by omega), ?_⟩⟩
  rw [nI_clamp (show z < 2 ^ 31 by omega)]
  exact br_c (fun y => qx_put hL (h12 y)) (fun y => ⟨vp_in_nI hz (by omega), nm_e (h11 y)⟩)
theorem qm_CP_blk {s : Nat → Int32} {AD : Nat → Nat} {SS : Nat → Prop} {op arg : Nat → Int32} {p L q : Nat} (h : qm_CP s AD SS op arg p L) (hq : q < p) (hs : s q = 123) : 1 ≤ AD (q + 1) ∧ AD (q + 1) ≤ L :=
  ⟨(h.2.2.2.1 q hq hs).2.1, (h.2.2.2.2.2.2.1 _ (h.2.2.2.1 q hq hs).1).2⟩
/-- a sum begins -/
theorem qm_SI_0 {s : Nat → Int32} {n a : Nat} {cl : Int32} {b dp R : Nat} {fd : Int32} (ha : 1 ≤ a) (han : a ≤ n) (hb : b ≤ dp) (hc : s (a - 1) = 61 ∨ s (a - 1) = 63) (hR : R = qm_gr s (n - a) a 2 cl 0 0 b dp) (f1 : fd = 0 ∨ fd = 1) (f2 : fd = 1 ↔ (3 < dp ∨ ∃ j, j < a ∧ qm_dq s j)) : qm_SI s n a cl b dp R true a [] [] [] fd := by
  obtain ⟨i, rfl⟩ : ∃ i, a = i + 1 := ⟨a - 1, by omega⟩
  rw [Nat.add_sub_cancel] at hc
  have n0 : qm_neg s (i + 1) = 0 := by
    cases i with
    | zero => rfl
    | succ i =>
      refine (qm_neg_s (s := s) (i := i + 1) (by omega)).2 (fun z => ?_)
      rcases hc with y | y <;> rw [y] at z <;> exact absurd z.1 (by decide)
  refine ⟨⟨Nat.le_refl _, han, ha, hb⟩, ?_, ?_, ⟨f1, ?_, fun z => absurd z (by decide)⟩, fun _ => ?_, fun z => absurd z (by decide), ⟨0, hR, fun _ => rfl, fun _ => Or.inl rfl⟩, fun t t1 t2 => by omega⟩
  · rw [Nat.sub_self]; exact qm_sA_0 s (i + 1)
  · rw [if_pos rfl, n0]
    refine ⟨⟨rfl, rfl⟩, fun k => ?_, trivial, ?_⟩
    · rw [qm_arf]
      rcases hc with y | y
      · rw [if_pos y]; rfl
      · rw [if_neg (by rw [y]; decide), if_pos y]; rfl
    · unfold qm_is
      rcases hc with y | y
      · rw [if_pos y]
      · rw [if_neg (by rw [y]; decide), if_pos y]
  · rw [f2, n0]
    constructor
    · rintro (z | z)
      · exact Or.inl z
      · exact Or.inr (Or.inl z)
    · rintro (z | z | ⟨_, z⟩)
      · exact Or.inl z
      · exact Or.inr z
      · exact absurd z (by show ¬ 8 < 0 + 0; decide)
  · rw [Nat.add_sub_cancel]
    rcases hc with y | y <;> rw [y] <;> exact ⟨by unfold qm_pr; decide, by decide⟩
theorem qm_dq_is {s : Nat → Int32} {i : Nat} (h : qm_is s i = false) : (∃ j, j < i + 1 ∧ qm_dq s j) ↔ (∃ j, j < i ∧ qm_dq s j) := by
  constructor
  · rintro ⟨j, j1, j2⟩
    by_cases z : j = i
    · subst z
      have := j2.2.1
      rw [h] at this; exact absurd this (by decide)
    · exact ⟨j, by omega, j2⟩
  · rintro ⟨j, j1, j2⟩
    exact ⟨j, by omega, j2⟩
theorem qm_EX_lt {s : Nat → Int32} {a q : Nat} {C : List (Int32 × Int32)} (h : qm_EX s a q C) : a < q := by
  have h1 := h.1.1
  have h2 := qm_tb_len s a (q - a)
  omega
theorem qm_cm_ok {op arg : Nat → Int32} : ∀ {C : List (Int32 × Int32)} {c : Nat}, qm_cm op arg c C → (∀ o, o ∈ C → qm_ok o) → ∀ j, c ≤ j → j < c + C.length → op j ≠ 13
  | [], c, _, _, j, h1, h2 => by rw [List.length_nil] at h2; omega
  | o :: C, c, h, g, j, h1, h2 => by
    rw [List.length_cons] at h2
    by_cases z : j = c
    · rw [z, h.1]
      rcases g o List.mem_cons_self with y | y | y
      · rw [y]; decide
      · rw [y.1]; decide
      · rcases y with y | y
        · rw [y]; decide
        · intro w; rw [w] at y; exact absurd y (by decide)
    · exact qm_cm_ok h.2.2 (fun x hx => g x (List.mem_cons_of_mem _ hx)) j (by omega) (by omega)
/-- the state behind an assignment -/
theorem qm_SP_let {s : Nat → Int32} {n R : Nat} {op arg blk op' arg' : Nat → Int32} {p dp L q : Nat} {fd fd' : Int32} {C : List (Int32 × Int32)} {vs : List qm_V} {ws : List Int32} (h : qm_SP s n R op arg blk p dp L fd) (hl : qm_lt (s p) = true) (he : s (p + 1) = 61) (hq : q < n) (hc : s q = 59) (hI : qm_SI s n (p + 2) 59 (qm_bst s p).length dp R false q vs ws [] fd') (hE : qm_EX s (p + 2) q C) (hm : qm_em op arg L C op' arg') : qm_SP s n R (upd op' (L + C.length) 10) (upd arg' (L + C.length) (s p - 97)) blk (q + 1) dp (L + C.length + 1) fd' := by
  obtain ⟨⟨p1, p2, p3⟩, ⟨cl, o, d, hR⟩, f1, f2, f3, AD, SS, bl, CP⟩ := h
  obtain ⟨⟨a1, a2, a3, a4⟩, A, B, E, P1, P2, ⟨dd, g1, g2, g3⟩, S⟩ := hI
  have lt := qm_EX_lt hE
  have LP := CP.1.2.2.2.2
  have oop : qm_oo (s p) := Or.inr hl
  have nb : ∀ t, p ≤ t → t < q + 1 → s t ≠ 123 ∧ s t ≠ 125 := by
    intro t t1 t2
    by_cases z : t = p
    · rw [z]; have := qm_sc_st (c := s p) (Or.inr (Or.inl hl)); exact ⟨this.2.2.1, this.2.2.2.1⟩
    · by_cases z2 : t = p + 1
      · rw [z2, he]; exact ⟨by decide, by decide⟩
      · by_cases z3 : t = q
        · rw [z3, hc]; exact ⟨by decide, by decide⟩
        · have := qm_sc_st (S t (by omega) (by omega)); exact ⟨this.2.2.1, this.2.2.2.1⟩
  have bst : ∀ m, p + m ≤ q + 1 → qm_bst s (p + m) = qm_bst s p := fun m hm => qm_bst_k m (fun t t1 t2 => nb t t1 (by omega))
  have bq : qm_bst s (q + 1) = qm_bst s p := by
    have := bst (q + 1 - p) (by omega)
    rw [show p + (q + 1 - p) = q + 1 from by omega] at this; exact this
  refine ⟨⟨by omega, by omega, ?_⟩, ⟨59, 0, 0, ?_⟩, E.1, ?_, ?_, qm_up AD (q + 1) (L + C.length + 1), (fun j => SS j ∨ j = q + 1), ?_, ?_⟩
  · intro i hi
    by_cases z : i ≤ p
    · exact p3 i z
    · have := bst (i - p) (by omega)
      rw [show p + (i - p) = i from by omega] at this
      rw [this]; exact p3 p (Nat.le_refl p)
  · rw [g1, bq]
    have := qm_D_fin (s := s) (n := n) (i := q) (cl := 59) (d := dd) (b := (qm_bst s p).length) (dp := dp) hq (Or.inl rfl) hc
    rw [show qm_gb 59 (qm_bst s p).length = (qm_bst s p).length from rfl, qm_gm_le a4] at this
    exact this
  · rw [E.2.1, qm_dq_not (by rw [hc]; decide) (by rw [hc]; decide)]
    constructor
    · rintro (z | z | ⟨z, _⟩)
      · exact Or.inl z
      · exact Or.inr z
      · exact absurd z (by decide)
    · rintro (z | z)
      · exact Or.inl z
      · exact Or.inr (Or.inl z)
  · rw [qm_is, if_neg (by rw [hc]; decide), if_neg (by rw [hc]; decide), if_pos hc]
  · rw [bq]
    exact qm_bl_keep bl (fun j _ => rfl) (fun x hx => qm_un (by have := (qm_bst_mem (s := s) p).1 x hx; omega))
  · refine qm_CP_ext CP (by omega) ?_ (by omega) (by have := hE.2.1; omega) (fun t t1 t2 => (nb t t1 t2).2) (fun t t1 t2 => (nb t t1 (by omega)).1) ?_ ?_ ?_
    · intro c hc'
      rw [pk_un (by omega), pk_un (by omega)]; exact hm.1 c hc'
    · intro z; rw [show q + 1 - 1 = q from rfl, hc] at z; exact absurd z (by decide)
    · intro c c1 c2
      by_cases z : c = L + C.length
      · rw [z, pk_us]; decide
      · rw [pk_un z]; exact qm_cm_ok hm.2 hE.2.2.1 c c1 (by omega)
    · have eA : qm_up AD (q + 1) (L + C.length + 1) p = L := by rw [qm_un (by omega)]; exact CP.1.2.2.2.1
      refine Or.inl ⟨hl, q, C, by omega, by omega, hc, he, S, hE, ?_, ?_, ?_, ?_, Or.inr rfl⟩
      · rw [eA]; exact qm_cm_keep hm.2 (fun j j1 j2 => ⟨pk_un (by omega), fun _ => pk_un (by omega)⟩)
      · rw [eA, pk_us]
      · rw [eA, pk_us]
      · rw [eA, qm_us]
/-- the state behind the opening bracket of a conditional block -/
theorem qm_SP_q {s : Nat → Int32} {n R : Nat} {op arg blk op' arg' : Nat → Int32} {p dp L q : Nat} {fd fd' x : Int32} {C : List (Int32 × Int32)} {vs : List qm_V} {ws : List Int32} (h : qm_SP s n R op arg blk p dp L fd) (hl : s p = 63) (hq : q < n) (hc : s q = 123) (hI : qm_SI s n (p + 1) 123 (qm_bst s p).length dp R false q vs ws [] fd') (hE : qm_EX s (p + 1) q C) (hm : qm_em op arg L C op' arg') : (qm_bst s (q + 1)).length = (qm_bst s p).length + 1 ∧ qm_SP s n R (upd op' (L + C.length) 11) (upd arg' (L + C.length) x) (upd blk (qm_bst s p).length (nI (L + C.length))) (q + 1) (qm_gm dp ((qm_bst s p).length + 1)) (L + C.length + 1) (if 3 < (qm_bst s p).length + 1 then 1 else fd') := by
  obtain ⟨⟨p1, p2, p3⟩, ⟨cl, o, d, hR⟩, f1, f2, f3, AD, SS, bl, CP⟩ := h
  obtain ⟨⟨a1, a2, a3, a4⟩, A, B, E, P1, P2, ⟨dd, g1, g2, g3⟩, S⟩ := hI
  have lt := qm_EX_lt hE
  have LP := CP.1.2.2.2.2
  have nb : ∀ t, p ≤ t → t < q → s t ≠ 123 ∧ s t ≠ 125 := by
    intro t t1 t2
    by_cases z : t = p
    · rw [z, hl]; exact ⟨by decide, by decide⟩
    · have := qm_sc_st (S t (by omega) (by omega)); exact ⟨this.2.2.1, this.2.2.2.1⟩
  have bst : ∀ m, p + m ≤ q → qm_bst s (p + m) = qm_bst s p := fun m hm => qm_bst_k m (fun t t1 t2 => nb t t1 (by omega))
  have bq : qm_bst s (q + 1) = q :: qm_bst s p := by
    have := bst (q - p) (by omega)
    rw [show p + (q - p) = q from by omega] at this
    rw [qm_bst_o hc, this]
  refine ⟨by rw [bq, List.length_cons], ⟨by omega, ?_, ?_⟩, ⟨123, 0, 0, ?_⟩, ?_, ?_, ?_, qm_up AD (q + 1) (L + C.length + 1), (fun j => SS j ∨ j = q + 1), ?_, ?_⟩
  · unfold qm_gm; split <;> omega
  · intro i hi
    by_cases z : i ≤ p
    · have := p3 i z
      unfold qm_gm; split <;> omega
    · by_cases z2 : i = q + 1
      · rw [z2, bq, List.length_cons]; unfold qm_gm; split <;> omega
      · have := bst (i - p) (by omega)
        rw [show p + (i - p) = i from by omega] at this
        rw [this]; unfold qm_gm; split <;> omega
  · rw [g1, bq, List.length_cons]
    have := qm_D_fin (s := s) (n := n) (i := q) (cl := 123) (d := dd) (b := (qm_bst s p).length) (dp := dp) hq (Or.inr rfl) hc
    rw [show qm_gb 123 (qm_bst s p).length = (qm_bst s p).length + 1 from rfl] at this
    exact this
  · split
    · exact Or.inr rfl
    · exact E.1
  · rw [qm_dq_not (by rw [hc]; decide) (by rw [hc]; decide)]
    by_cases z : 3 < (qm_bst s p).length + 1
    · rw [if_pos z]
      refine ⟨fun _ => Or.inl ?_, fun _ => rfl⟩
      unfold qm_gm; split <;> omega
    · rw [if_neg z, E.2.1]
      constructor
      · rintro (y | y | ⟨y, _⟩)
        · exact Or.inl (by unfold qm_gm; split <;> omega)
        · exact Or.inr y
        · exact absurd y (by decide)
      · rintro (y | y)
        · exact Or.inl (by unfold qm_gm at y; split at y <;> omega)
        · exact Or.inr (Or.inl y)
  · rw [qm_is, if_neg (by rw [hc]; decide), if_neg (by rw [hc]; decide), if_neg (by rw [hc]; decide), if_neg (by rw [hc]; decide), if_pos hc]
  · rw [bq]
    refine ⟨?_, qm_bl_keep bl (fun j hj => pk_un (by omega)) (fun x hx => qm_un (by have := (qm_bst_mem (s := s) p).1 x hx; omega))⟩
    rw [pk_us, qm_us]; rfl
  · refine qm_CP_ext CP (by omega) ?_ (by omega) (by have := hE.2.1; omega) ?_ (fun t t1 t2 => (nb t t1 (by omega)).1) ?_ ?_ ?_
    · intro c hc'
      rw [pk_un (by omega), pk_un (by omega)]; exact hm.1 c hc'
    · intro t t1 t2
      by_cases z : t = q
      · rw [z, hc]; decide
      · exact (nb t t1 (by omega)).2
    · intro _; left; exact pk_us
    · intro c c1 c2
      by_cases z : c = L + C.length
      · rw [z, pk_us]; decide
      · rw [pk_un z]; exact qm_cm_ok hm.2 hE.2.2.1 c c1 (by omega)
    · have eA : qm_up AD (q + 1) (L + C.length + 1) p = L := by rw [qm_un (by omega)]; exact CP.1.2.2.2.1
      refine Or.inr (Or.inl ⟨hl, q, C, by omega, by omega, hc, S, hE, ?_, ?_, ?_, Or.inr rfl⟩)
      · rw [eA]; exact qm_cm_keep hm.2 (fun j j1 j2 => ⟨pk_un (by omega), fun _ => pk_un (by omega)⟩)
      · rw [eA, pk_us]
      · rw [eA, qm_us]
/-- the state behind the opening bracket of a repeated block -/
theorem qm_SP_h {s : Nat → Int32} {n R : Nat} {op arg blk : Nat → Int32} {p dp L : Nat} {fd : Int32} (h : qm_SP s n R op arg blk p dp L fd) (hl : s p = 35) (hd : qm_dg (s (p + 1)) = true) (hq : p + 2 < n) (hc : s (p + 2) = 123) : (qm_bst s (p + 3)).length = (qm_bst s p).length + 1 ∧ qm_SP s n R (upd op L 12) (upd arg L (s (p + 1) - 48)) (upd blk (qm_bst s p).length (nI L)) (p + 3) (qm_gm dp ((qm_bst s p).length + 1)) (L + 1) (if 3 < (qm_bst s p).length + 1 then 1 else fd) := by
  obtain ⟨⟨p1, p2, p3⟩, ⟨cl, o, d, hR⟩, f1, f2, f3, AD, SS, bl, CP⟩ := h
  have LP := CP.1.2.2.2.2
  have ble := p3 p (Nat.le_refl p)
  have nb : ∀ t, p ≤ t → t < p + 2 → s t ≠ 123 ∧ s t ≠ 125 := by
    intro t t1 t2
    by_cases z : t = p
    · rw [z, hl]; exact ⟨by decide, by decide⟩
    · rw [show t = p + 1 from by omega]
      have := qm_sc_st (c := s (p + 1)) (Or.inl hd); exact ⟨this.2.2.1, this.2.2.2.1⟩
  have b1 : qm_bst s (p + 1) = qm_bst s p := qm_bst_k 1 (fun t t1 t2 => nb t t1 (by omega))
  have b2 : qm_bst s (p + 2) = qm_bst s p := qm_bst_k 2 (fun t t1 t2 => nb t t1 (by omega))
  have b3 : qm_bst s (p + 3) = (p + 2) :: qm_bst s p := by rw [show p + 3 = p + 2 + 1 from rfl, qm_bst_o hc, b2]
  have i1 : qm_is s (p + 1) = false := by
    rw [qm_is, if_neg (by rw [hl]; decide), if_neg (by rw [hl]; decide), if_neg (by rw [hl]; decide), if_pos hl]
  refine ⟨by rw [b3, List.length_cons], ⟨by omega, ?_, ?_⟩, ?_, ?_, ?_, ?_, qm_up AD (p + 3) (L + 1), (fun j => SS j ∨ j = p + 3), ?_, ?_⟩
  · unfold qm_gm; split <;> omega
  · intro i hi
    have g0 : dp ≤ qm_gm dp ((qm_bst s p).length + 1) ∧ (qm_bst s p).length + 1 ≤ qm_gm dp ((qm_bst s p).length + 1) := by unfold qm_gm; split <;> omega
    by_cases z : i ≤ p
    · have := p3 i z; omega
    · have : i = p + 1 ∨ i = p + 2 ∨ i = p + 3 := by omega
      rcases this with z | z | z
      · rw [z, b1]; omega
      · rw [z, b2]; omega
      · rw [z, b3, List.length_cons]; omega
  · obtain ⟨cl1, o1, d1, e1⟩ := qm_D_h (s := s) (n := n) (i := p) (cl := cl) (o := o) (d := d) (by omega) hl ble
    obtain ⟨cl2, o2, d2, e2⟩ := qm_D_h4 (s := s) (n := n) (i := p + 1) (cl := cl1) (o := o1) (d := d1) (by omega) hd ble
    obtain ⟨cl3, o3, d3, e3⟩ := qm_D_h5 (s := s) (n := n) (i := p + 2) (cl := cl2) (o := o2) (d := d2) (b := (qm_bst s p).length) (dp := dp) hq hc
    refine ⟨cl3, o3, d3, ?_⟩
    rw [hR, e1, e2, e3, b3, List.length_cons]
  · split
    · exact Or.inr rfl
    · exact f1
  · rw [show p + 3 = p + 2 + 1 from rfl, qm_dq_not (by rw [hc]; decide) (by rw [hc]; decide), show p + 2 = p + 1 + 1 from rfl, qm_dq_is i1, qm_dq_not (by rw [hl]; decide) (by rw [hl]; decide)]
    by_cases z : 3 < (qm_bst s p).length + 1
    · rw [if_pos z]
      refine ⟨fun _ => Or.inl ?_, fun _ => rfl⟩
      unfold qm_gm; split <;> omega
    · rw [if_neg z, f2]
      constructor
      · rintro (y | y)
        · exact Or.inl (by unfold qm_gm; split <;> omega)
        · exact Or.inr y
      · rintro (y | y)
        · exact Or.inl (by unfold qm_gm at y; split at y <;> omega)
        · exact Or.inr y
  · rw [show p + 3 = p + 2 + 1 from rfl, qm_is, if_neg (by rw [hc]; decide), if_neg (by rw [hc]; decide), if_neg (by rw [hc]; decide), if_neg (by rw [hc]; decide), if_pos hc]
  · rw [b3]
    refine ⟨?_, qm_bl_keep bl (fun j hj => pk_un (by omega)) (fun x hx => qm_un (by have := (qm_bst_mem (s := s) p).1 x hx; omega))⟩
    rw [pk_us, show p + 2 + 1 = p + 3 from rfl, qm_us]; rfl
  · refine qm_CP_ext CP (by omega) (fun c hc' => ⟨pk_un (by omega), pk_un (by omega)⟩) (by omega) (by omega) ?_ (fun t t1 t2 => (nb t t1 (by omega)).1) ?_ ?_ ?_
    · intro t t1 t2
      by_cases z : t = p + 2
      · rw [z, hc]; decide
      · exact (nb t t1 (by omega)).2
    · intro _; right; exact pk_us
    · intro c c1 c2
      obtain rfl : c = L := by omega
      rw [pk_us]; decide
    · obtain ⟨k, k1, k2⟩ := qm_dg_n hd
      have eA : qm_up AD (p + 3) (L + 1) p = L := by rw [qm_un (by omega)]; exact CP.1.2.2.2.1
      refine Or.inr (Or.inr (Or.inl ⟨hl, k, k1, k2, hc, by omega, ?_, ?_, ?_, Or.inr rfl⟩))
      · rw [eA, pk_us]
      · rw [eA, pk_us, k2, show (48 : Int32) = nI 48 from rfl, pk_sub (by omega)]
        exact congrArg nI (by omega)
      · rw [eA, qm_us]
/-- the state behind a closing bracket -/
theorem qm_SP_c {s : Nat → Int32} {n R : Nat} {op arg blk op' arg' : Nat → Int32} {p dp L L' : Nat} {fd : Int32} {q : Nat} {t : List Nat} (h : qm_SP s n R op arg blk p dp L fd) (hs : s p = 125) (hp : p < n) (hb : qm_bst s p = q :: t) (hn : n ≤ 80)
    (hk : ∀ z, blk t.length = nI z → z < L → (op z = 12 ∧ L' = L + 1 ∧ op' = upd op L 13 ∧ arg' = upd arg L (nI z)) ∨ (op z ≠ 12 ∧ L' = L ∧ op' = op ∧ arg' = upd arg z (nI L))) : qm_bst s (p + 1) = t ∧ qm_SP s n R op' arg' blk (p + 1) dp L' fd := by
  obtain ⟨⟨p1, p2, p3⟩, ⟨cl, o, d, hR⟩, f1, f2, f3, AD, SS, bl, CP⟩ := h
  have LP := CP.1.2.2.2.2
  have ble := p3 p (Nat.le_refl p)
  have b1 : qm_bst s (p + 1) = t := by rw [qm_bst_c hs, hb]; rfl
  rw [hb] at bl
  have Mq := (qm_bst_mem (s := s) p).1 q (by rw [hb]; exact List.mem_cons_self)
  have bk := qm_CP_blk CP Mq.1 Mq.2
  have kind := (CP.2.2.2.1 q Mq.1 Mq.2).2.2
  refine ⟨b1, ⟨by omega, by omega, ?_⟩, ?_, f1, ?_, ?_, qm_up AD (p + 1) L', (fun j => SS j ∨ j = p + 1), ?_, ?_⟩
  · intro i hi
    by_cases z : i ≤ p
    · exact p3 i z
    · rw [show i = p + 1 from by omega, b1]
      rw [hb, List.length_cons] at ble
      omega
  · obtain ⟨cl1, o1, d1, e1⟩ := qm_D_cb (s := s) (n := n) (i := p) (cl := cl) (o := o) (d := d) hp hs ble (by rw [hb, List.length_cons]; omega)
    refine ⟨cl1, o1, d1, ?_⟩
    rw [hR, e1, b1, hb, List.length_cons, Nat.add_sub_cancel]
  · rw [qm_dq_not (by rw [hs]; decide) (by rw [hs]; decide)]; exact f2
  · rw [qm_is, if_neg (by rw [hs]; decide), if_neg (by rw [hs]; decide), if_neg (by rw [hs]; decide), if_neg (by rw [hs]; decide), if_neg (by rw [hs]; decide), if_pos hs]
  · rw [b1]
    exact qm_bl_keep bl.2 (fun j _ => rfl) (fun x hx => qm_un (by have := (qm_bst_mem (s := s) p).1 x (by rw [hb]; exact List.mem_cons_of_mem _ hx); omega))
  · rcases hk (AD (q + 1) - 1) bl.1 (by omega) with ⟨k1, k2, k3, k4⟩ | ⟨k1, k2, k3, k4⟩
    · subst k3 k4
      refine qm_CP_close CP hs hb (by omega) (fun c hc => ⟨pk_un (by omega), fun _ => pk_un (by omega)⟩) (Or.inr ⟨k1, k2, pk_us, pk_us, pk_un (by omega)⟩)
    · subst k3 k4
      have k11 : op' (AD (q + 1) - 1) = 11 := by
        rcases kind with z | z
        · exact z
        · exact absurd z k1
      exact qm_CP_close CP hs hb (by omega) (fun c hc => ⟨rfl, fun z => pk_un z⟩) (Or.inl ⟨k11, k2, pk_us⟩)
end
end
section
/-! the component's statement() and compile() -/
section
variable {f_size f_at f_wrong f_deep f_nodes f_trees f_waiting f_inside f_blocks f_ready f_length f_head f_tail f_running f_stored : Int32} {a_source a_kind a_left a_right a_level a_tree a_waits a_block a_op a_arg a_ring a_turnsLeft a_var : Nat → Int32}
theorem qx_acc_bad {post : Int32 → SX → Prop} {n i : Nat} {c : Int32} (hn : n ≤ 80) (hi : i < 2 ^ 31 - 1) (hc : qm_ck a_source n) (hp : ∀ (r f_at : Int32), post r (nI n, f_at, 1, f_deep, f_nodes, f_trees, f_waiting, f_inside, f_blocks, f_ready, f_length, f_head, f_tail, f_running, f_stored, a_source, a_kind, a_left, a_right, a_level, a_tree, a_waits, a_block, a_op, a_arg, a_ring, a_turnsLeft, a_var)) : wpX_accept post (nI n, nI i, 1, f_deep, f_nodes, f_trees, f_waiting, f_inside, f_blocks, f_ready, f_length, f_head, f_tail, f_running, f_stored, a_source, a_kind, a_left, a_right, a_level, a_tree, a_waits, a_block, a_op, a_arg, a_ring, a_turnsLeft, a_var) c := by
  by_cases z : qm_ch a_source n i = c
  · exact qx_acc1 hn (by omega) hc z (hp 1 (nI (i + 1)))
  · exact qx_acc0 hn (by omega) hc z (hp 0 (nI i))
theorem qx_statement {post : SX → Prop} {n R p dp L : Nat} {fd : Int32} (hn : n ≤ 80) (hc : qm_ck a_source n) (hp : p < n) (h : qm_SP a_source n R a_op a_arg a_block p dp L fd)
    (hbad : R = 1 → ∀ (f_at f_deep f_nodes f_trees f_waiting f_inside f_blocks f_length : Int32) (a_kind a_left a_right a_level a_tree a_waits a_block a_op a_arg : Nat → Int32), post (nI n, f_at, 1, f_deep, f_nodes, f_trees, f_waiting, f_inside, f_blocks, f_ready, f_length, f_head, f_tail, f_running, f_stored, a_source, a_kind, a_left, a_right, a_level, a_tree, a_waits, a_block, a_op, a_arg, a_ring, a_turnsLeft, a_var))
    (hgood : ∀ (p' dp' L' : Nat) (fd' : Int32) (f_nodes f_trees f_waiting f_inside : Int32) (a_kind a_left a_right a_level a_tree a_waits a_block a_op a_arg : Nat → Int32), p < p' → qm_SP a_source n R a_op a_arg a_block p' dp' L' fd' → post (nI n, nI p', 0, fd', f_nodes, f_trees, f_waiting, f_inside, nI (qm_bst a_source p').length, f_ready, nI L', f_head, f_tail, f_running, f_stored, a_source, a_kind, a_left, a_right, a_level, a_tree, a_waits, a_block, a_op, a_arg, a_ring, a_turnsLeft, a_var)) :
    wpX_statement post (nI n, nI p, 0, fd, f_nodes, f_trees, f_waiting, f_inside, nI (qm_bst a_source p).length, f_ready, nI L, f_head, f_tail, f_running, f_stored, a_source, a_kind, a_left, a_right, a_level, a_tree, a_waits, a_block, a_op, a_arg, a_ring, a_turnsLeft, a_var) := by
  have h' := h
  obtain ⟨⟨p1, p2, p3⟩, ⟨cl, o, d, hR⟩, f1, f2, f3, AD, SS, bl, CP⟩ := h'
  have LP := CP.1.2.2.2.2
  have ble := p3 p (Nat.le_refl p)
  unfold wpX_statement
  refine qx_peek hn (by omega) hc ?_
  rw [qm_ch_lt hp]
  refine nm_r (nI_1 p) ?_
  cases l : qm_lt (a_source p) with
  | true =>
    refine qx_lt1 l (br_f (by decide) ?_)
    have R1 : R = qm_gr a_source (n - (p + 1)) (p + 1) 1 59 0 0 (qm_bst a_source p).length dp := by rw [hR]; exact qm_D_let hp l ble
    by_cases z : qm_ch a_source n (p + 1) = 61
    · have hp1 : p + 1 < n := by
        by_cases y : p + 1 < n
        · exact y
        · rw [qm_ch_ge (by omega)] at z; exact absurd z (by decide)
      have z' := z
      rw [qm_ch_lt hp1] at z'
      refine qx_acc1 hn (by omega) hc z (br_t rfl ?_)
      have R2 : R = qm_gr a_source (n - (p + 1 + 1)) (p + 1 + 1) 2 59 0 0 (qm_bst a_source p).length dp := by rw [R1]; exact qm_D_eq hp1 z' ble
      have SI := qm_SI_0 (s := a_source) (n := n) (a := p + 1 + 1) (cl := 59) (b := (qm_bst a_source p).length) (dp := dp) (R := R) (fd := fd) (by omega) (by omega) ble (Or.inl z') R2 f1 (by
        rw [f2, qm_dq_not (by rw [z']; decide) (by rw [z']; decide), qm_dq_is f3])
      refine qx_sum (b := (qm_bst a_source p).length) (dp := dp) (R := R) (cl := 59) hn hc (by omega) ?_ ?_ SI
      · intro r1 i' fd f_nodes f_trees f_waiting f_inside a_kind a_left a_right a_tree a_waits hi'
        refine qx_put (by omega) ?_
        refine qx_acc_bad hn (by omega) hc (fun r f_at => ?_)
        exact hbad r1 _ _ _ _ _ _ _ _ _ _ _ _ _ _ _ _ _
      · intro q C fd' vs ws a_level op' arg' f_nodes f_trees f_waiting f_inside a_kind a_left a_right a_tree a_waits I h1 h2 hE hm
        have hlt := qm_EX_lt hE
        have hCl := hE.2.1
        have hqn := I.1.2.1
        refine qx_put (by omega) ?_
        by_cases y : qm_ch a_source n q = 59
        · have hq : q < n := by
            by_cases w : q < n
            · exact w
            · rw [qm_ch_ge (by omega)] at y; exact absurd y (by decide)
          refine qx_acc1 hn (by omega) hc y ?_
          rw [qm_ch_lt hq] at y
          have SP' := qm_SP_let h l z' hq y I hE hm
          have bq : qm_bst a_source (q + 1) = qm_bst a_source p := by
            have S := I.2.2.2.2.2.2.2
            have := qm_bst_k (s := a_source) (i := p) (q + 1 - p) (fun t t1 t2 => by
              by_cases e1 : t = p
              · rw [e1]; have := qm_sc_st (c := a_source p) (Or.inr (Or.inl l)); exact ⟨this.2.2.1, this.2.2.2.1⟩
              · by_cases e2 : t = p + 1
                · rw [e2, z']; exact ⟨by decide, by decide⟩
                · by_cases e3 : t = q
                  · rw [e3, y]; exact ⟨by decide, by decide⟩
                  · have := qm_sc_st (S t (by omega) (by omega)); exact ⟨this.2.2.1, this.2.2.2.1⟩)
            rw [show p + (q + 1 - p) = q + 1 from by omega] at this
            exact this
          have := hgood (q + 1) dp (L + C.length + 1) fd' f_nodes f_trees f_waiting f_inside a_kind a_left a_right a_level a_tree a_waits a_block _ _ (by omega) SP'
          rw [bq] at this
          exact this
        · refine qx_acc0 hn (by omega) hc y ?_
          obtain ⟨dd, g1, g2, g3⟩ := I.2.2.2.2.2.2.1
          refine hbad ?_ _ _ _ _ _ _ _ _ _ _ _ _ _ _ _ _ _
          rw [g1]; exact qm_D_bad3 h1 h2 (g3 rfl) (Or.inr y)
    · refine qx_acc0 hn (by omega) hc z (br_f (by decide) ?_)
      exact hbad (by rw [R1]; exact qm_D_eqx z) _ _ _ _ _ _ _ _ _ _ _ _ _ _ _ _ _
  | false =>
    refine qx_lt0 l (br_t rfl ?_)
    by_cases c1 : a_source p = 63
    · refine br_t c1 ?_
      have R1 : R = qm_gr a_source (n - (p + 1)) (p + 1) 2 123 0 0 (qm_bst a_source p).length dp := by rw [hR]; exact qm_D_q hp c1 ble
      have SI := qm_SI_0 (s := a_source) (n := n) (a := p + 1) (cl := 123) (b := (qm_bst a_source p).length) (dp := dp) (R := R) (fd := fd) (by omega) (by omega) ble (Or.inr c1) R1 f1 (by
        rw [f2, qm_dq_is f3])
      refine qx_sum (b := (qm_bst a_source p).length) (dp := dp) (R := R) (cl := 123) hn hc (by omega) ?_ ?_ SI
      · intro r1 i' fd f_nodes f_trees f_waiting f_inside a_kind a_left a_right a_tree a_waits hi'
        refine qx_acc_bad hn (by omega) hc (fun r f_at => ?_)
        refine qx_open (by omega) (by omega) ?_
        exact hbad r1 _ _ _ _ _ _ _ _ _ _ _ _ _ _ _ _ _
      · intro q C fd' vs ws a_level op' arg' f_nodes f_trees f_waiting f_inside a_kind a_left a_right a_tree a_waits I h1 h2 hE hm
        have hlt := qm_EX_lt hE
        have hCl := hE.2.1
        have hqn := I.1.2.1
        by_cases y : qm_ch a_source n q = 123
        · have hq : q < n := by
            by_cases w : q < n
            · exact w
            · rw [qm_ch_ge (by omega)] at y; exact absurd y (by decide)
          refine qx_acc1 hn (by omega) hc y ?_
          rw [qm_ch_lt hq] at y
          obtain ⟨bq, SP'⟩ := qm_SP_q (x := 0) h c1 hq y I hE hm
          refine qx_open (by omega) (by omega) ?_
          have := hgood (q + 1) _ (L + C.length + 1) _ f_nodes f_trees f_waiting f_inside a_kind a_left a_right a_level a_tree a_waits _ _ _ (by omega) SP'
          rw [bq] at this
          exact this
        · refine qx_acc0 hn (by omega) hc y ?_
          obtain ⟨dd, g1, g2, g3⟩ := I.2.2.2.2.2.2.1
          refine qx_open (by omega) (by omega) ?_
          refine hbad ?_ _ _ _ _ _ _ _ _ _ _ _ _ _ _ _ _ _
          rw [g1]; exact qm_D_bad3 h1 h2 (g3 rfl) (Or.inr y)
    · refine br_f c1 ?_
      by_cases c2 : a_source p = 35
      · refine br_t c2 ?_
        obtain ⟨cl1, o1, d1, e1⟩ := qm_D_h (s := a_source) (n := n) (i := p) (cl := cl) (o := o) (d := d) hp c2 ble
        unfold wpX_turns
        refine qx_peek hn (by omega) hc ?_
        cases g : qm_dg (qm_ch a_source n (p + 1)) with
        | false =>
          refine qx_dg0 g (br_t rfl ?_)
          exact hbad (by rw [hR, e1]; exact qm_D_h4x g) _ _ _ _ _ _ _ _ _ _ _ _ _ _ _ _ _
        | true =>
          refine qx_dg1 g (br_f (by decide) (nm_r (nI_1 _) ?_))
          have hp1 : p + 1 < n := by
            by_cases y : p + 1 < n
            · exact y
            · rw [qm_ch_ge (by omega)] at g; exact absurd g (by decide)
          have e0 := qm_ch_lt (s := a_source) hp1
          rw [e0] at g ⊢
          obtain ⟨cl2, o2, d2, e2⟩ := qm_D_h4 (s := a_source) (n := n) (i := p + 1) (cl := cl1) (o := o1) (d := d1) hp1 g ble
          by_cases z : qm_ch a_source n (p + 1 + 1) = 123
          · have hp2 : p + 1 + 1 < n := by
              by_cases y : p + 1 + 1 < n
              · exact y
              · rw [qm_ch_ge (by omega)] at z; exact absurd z (by decide)
            refine qx_acc1 hn (by omega) hc z ?_
            rw [qm_ch_lt hp2] at z
            obtain ⟨bq, SP'⟩ := qm_SP_h h c2 g hp2 z
            refine qx_open (by omega) (by omega) ?_
            have := hgood (p + 3) _ (L + 1) _ f_nodes f_trees f_waiting f_inside a_kind a_left a_right a_level a_tree a_waits _ _ _ (by omega) SP'
            rw [bq] at this
            exact this
          · refine qx_acc0 hn (by omega) hc z ?_
            refine qx_open (by omega) (by omega) ?_
            exact hbad (by rw [hR, e1, e2]; exact qm_D_h5x z) _ _ _ _ _ _ _ _ _ _ _ _ _ _ _ _ _
      · refine br_f c2 ?_
        by_cases c3 : a_source p = 125
        · refine br_t c3 ?_
          cases hb : qm_bst a_source p with
          | nil =>
            unfold wpX_close
            refine br_t rfl ?_
            exact hbad (by rw [hR, hb]; exact qm_D_cb0 hp c3) _ _ _ _ _ _ _ _ _ _ _ _ _ _ _ _ _
          | cons q t =>
            rw [hb] at bl ble
            rw [List.length_cons] at ble
            have Mq := (qm_bst_mem (s := a_source) p).1 q (by rw [hb]; exact List.mem_cons_self)
            have bk := qm_CP_blk CP Mq.1 Mq.2
            have inj : ∀ z, a_block t.length = nI z → z < L → z = AD (q + 1) - 1 := by
              intro z z1 z2
              rw [bl.1] at z1
              exact ((nI_eq (by omega) (by omega)).mp z1).symm
            refine qx_close (z := AD (q + 1) - 1) (by omega) (by omega) (by omega) bl.1 (fun y => ?_) (fun y => ?_)
            · obtain ⟨b1, SP'⟩ := qm_SP_c (L' := L + 1) (op' := upd a_op L 13) (arg' := upd a_arg L (nI (AD (q + 1) - 1))) h c3 hp hb hn (fun z z1 z2 => by rw [inj z z1 z2]; exact Or.inl ⟨y, rfl, rfl, rfl⟩)
              have := hgood (p + 1) dp (L + 1) fd f_nodes f_trees f_waiting f_inside a_kind a_left a_right a_level a_tree a_waits a_block _ _ (by omega) SP'
              rw [b1] at this
              exact this
            · obtain ⟨b1, SP'⟩ := qm_SP_c (L' := L) (op' := a_op) (arg' := upd a_arg (AD (q + 1) - 1) (nI L)) h c3 hp hb hn (fun z z1 z2 => by rw [inj z z1 z2]; exact Or.inr ⟨y, rfl, rfl, rfl⟩)
              have := hgood (p + 1) dp L fd f_nodes f_trees f_waiting f_inside a_kind a_left a_right a_level a_tree a_waits a_block _ _ (by omega) SP'
              rw [b1] at this
              exact this
        · refine br_f c3 ?_
          exact hbad (by rw [hR]; exact qm_D_bad0 hp l c1 c2 c3) _ _ _ _ _ _ _ _ _ _ _ _ _ _ _ _ _

theorem qx_comp_l {post : Int32 → SX → Prop} {n R : Nat} (hn : n ≤ 80) (hc : qm_ck a_source n)
    (hbad : R = 1 → ∀ (f_wrong : Int32) (f_at f_deep f_nodes f_trees f_waiting f_inside f_blocks f_length : Int32) (a_kind a_left a_right a_level a_tree a_waits a_block a_op a_arg : Nat → Int32), post 1 (nI n, f_at, f_wrong, f_deep, f_nodes, f_trees, f_waiting, f_inside, f_blocks, f_ready, f_length, f_head, f_tail, f_running, f_stored, a_source, a_kind, a_left, a_right, a_level, a_tree, a_waits, a_block, a_op, a_arg, a_ring, a_turnsLeft, a_var))
    (hgood : ∀ (dp L : Nat) (fd f_at f_wrong : Int32) (f_nodes f_trees f_waiting f_inside : Int32) (a_kind a_left a_right a_level a_tree a_waits a_block a_op a_arg : Nat → Int32), qm_SP a_source n R a_op a_arg a_block n dp L fd → qm_bst a_source n = [] → (fd = 0 → post 0 (nI n, f_at, f_wrong, fd, f_nodes, f_trees, f_waiting, f_inside, 0, 1, nI L, f_head, f_tail, f_running, f_stored, a_source, a_kind, a_left, a_right, a_level, a_tree, a_waits, a_block, a_op, a_arg, a_ring, a_turnsLeft, a_var)) ∧ (fd ≠ 0 → post 2 (nI n, f_at, f_wrong, fd, f_nodes, f_trees, f_waiting, f_inside, 0, f_ready, nI L, f_head, f_tail, f_running, f_stored, a_source, a_kind, a_left, a_right, a_level, a_tree, a_waits, a_block, a_op, a_arg, a_ring, a_turnsLeft, a_var))) :
    ∀ (fuel p k dp L : Nat) (fd : Int32) (f_nodes f_trees f_waiting f_inside : Int32) (a_kind a_left a_right a_level a_tree a_waits a_block a_op a_arg : Nat → Int32), n - p + 1 < fuel → k ≤ p → qm_SP a_source n R a_op a_arg a_block p dp L fd →
    wX_compile_32 post fuel (nI k) (nI n) (nI p) 0 fd f_nodes f_trees f_waiting f_inside (nI (qm_bst a_source p).length) f_ready (nI L) f_head f_tail f_running f_stored a_source a_kind a_left a_right a_level a_tree a_waits a_block a_op a_arg a_ring a_turnsLeft a_var := by
  intro fuel
  induction fuel with
  | zero => intro p k dp L fd f_nodes f_trees f_waiting f_inside a_kind a_left a_right a_level a_tree a_waits a_block a_op a_arg h; omega
  | succ fuel ih =>
    intro p k dp L fd f_nodes f_trees f_waiting f_inside a_kind a_left a_right a_level a_tree a_waits a_block a_op a_arg hf hk h
    have h' := h
    obtain ⟨⟨p1, p2, p3⟩, ⟨cl, o, d, hR⟩, f1, f2, f3, AD, SS, bl, CP⟩ := h'
    have ble := p3 p (Nat.le_refl p)
    by_cases hp : p = n
    · subst hp
      have fin : wX_compile_66 post (nI p) (nI p) 0 fd f_nodes f_trees f_waiting f_inside (nI (qm_bst a_source p).length) f_ready (nI L) f_head f_tail f_running f_stored a_source a_kind a_left a_right a_level a_tree a_waits a_block a_op a_arg a_ring a_turnsLeft a_var := by
        unfold wX_compile_66
        refine br_t rfl ?_
        by_cases z : (qm_bst a_source p).length = 0
        · have e : qm_bst a_source p = [] := List.length_eq_zero_iff.mp z
          have G := hgood dp L fd (nI p) 0 f_nodes f_trees f_waiting f_inside a_kind a_left a_right a_level a_tree a_waits a_block a_op a_arg h e
          rw [z]
          refine br_t (by decide) ?_
          by_cases y : fd = 0
          · exact br_t y (G.1 y)
          · exact br_f y (G.2 y)
        · refine br_f (nI_nle (by omega) (by omega)) ?_
          refine hbad ?_ _ _ _ _ _ _ _ _ _ _ _ _ _ _ _ _ _ _
          rw [hR, Nat.sub_self]
          show (if 0 = 0 then (if (qm_bst a_source p).length = 0 then (if dp ≤ 3 then 0 else 2) else 1) else 1) = 1
          rw [if_pos rfl, if_neg z]
      by_cases z : k < 80
      · exact br_f (nI_ge (b := 80) z (by decide)) (br_t (nI_le (Nat.le_refl _) (by omega)) fin)
      · exact br_t (nI_le (a := 80) (by omega) (by omega)) fin
    · refine br_f (nI_ge (b := 80) (by omega) (by decide)) (br_f (nI_ge (by omega) (by omega)) (br_t rfl ?_))
      refine qx_statement hn hc (by omega) h ?_ ?_
      · intro r1 f_at f_deep f_nodes f_trees f_waiting f_inside f_blocks f_length a_kind a_left a_right a_level a_tree a_waits a_block a_op a_arg
        refine nm_e ?_
        have e : wX_compile_66 post (nI n) f_at 1 f_deep f_nodes f_trees f_waiting f_inside f_blocks f_ready f_length f_head f_tail f_running f_stored a_source a_kind a_left a_right a_level a_tree a_waits a_block a_op a_arg a_ring a_turnsLeft a_var := by
          unfold wX_compile_66
          exact br_f (by decide) (hbad r1 _ _ _ _ _ _ _ _ _ _ _ _ _ _ _ _ _ _)
        obtain ⟨fuel, rfl⟩ : ∃ q, fuel = q + 1 := ⟨fuel - 1, by omega⟩
        exact br_c (fun _ => e) (fun _ => br_c (fun _ => e) (fun _ => br_f (by decide) e))
      · intro p' dp' L' fd' f_nodes f_trees f_waiting f_inside a_kind a_left a_right a_level a_tree a_waits a_block a_op a_arg hpp SP'
        refine nm_r (nI_1 k) ?_
        exact ih p' (k + 1) dp' L' fd' _ _ _ _ _ _ _ _ _ _ _ _ _ (by clear f2; omega) (by clear f2; omega) SP'

theorem qx_compile {post : Int32 → SX → Prop} {n : Nat} (hn : n ≤ 80) (hc : qm_ck a_source n)
    (hbad : qm_gr a_source n 0 0 59 0 0 0 0 = 1 → ∀ (f_wrong : Int32) (f_at f_deep f_nodes f_trees f_waiting f_inside f_blocks f_length : Int32) (a_kind a_left a_right a_level a_tree a_waits a_block a_op a_arg : Nat → Int32), post 1 (nI n, f_at, f_wrong, f_deep, f_nodes, f_trees, f_waiting, f_inside, f_blocks, 0, f_length, f_head, f_tail, f_running, f_stored, a_source, a_kind, a_left, a_right, a_level, a_tree, a_waits, a_block, a_op, a_arg, a_ring, a_turnsLeft, a_var))
    (hgood : ∀ (dp L : Nat) (fd f_at f_wrong : Int32) (f_nodes f_trees f_waiting f_inside : Int32) (a_kind a_left a_right a_level a_tree a_waits a_block a_op a_arg : Nat → Int32), qm_SP a_source n (qm_gr a_source n 0 0 59 0 0 0 0) a_op a_arg a_block n dp L fd → qm_bst a_source n = [] → (fd = 0 → post 0 (nI n, f_at, f_wrong, fd, f_nodes, f_trees, f_waiting, f_inside, 0, 1, nI L, f_head, f_tail, f_running, f_stored, a_source, a_kind, a_left, a_right, a_level, a_tree, a_waits, a_block, a_op, a_arg, a_ring, a_turnsLeft, a_var)) ∧ (fd ≠ 0 → post 2 (nI n, f_at, f_wrong, fd, f_nodes, f_trees, f_waiting, f_inside, 0, 0, nI L, f_head, f_tail, f_running, f_stored, a_source, a_kind, a_left, a_right, a_level, a_tree, a_waits, a_block, a_op, a_arg, a_ring, a_turnsLeft, a_var))) :
    wpX_compile post (nI n, f_at, f_wrong, f_deep, f_nodes, f_trees, f_waiting, f_inside, f_blocks, f_ready, f_length, f_head, f_tail, f_running, f_stored, a_source, a_kind, a_left, a_right, a_level, a_tree, a_waits, a_block, a_op, a_arg, a_ring, a_turnsLeft, a_var) := by
  unfold wpX_compile
  refine ⟨n + 2, qx_comp_l (R := qm_gr a_source n 0 0 59 0 0 0 0) hn hc hbad hgood (n + 2) 0 0 0 0 0 _ _ _ _ _ _ _ _ _ _ _ _ _ (by omega) (Nat.le_refl 0) ?_⟩
  refine ⟨⟨Nat.zero_le n, by omega, fun i hi => ?_⟩, ⟨59, 0, 0, rfl⟩, Or.inl rfl, ⟨fun z => absurd z (by decide), fun z => ?_⟩, rfl, fun _ => 0, fun i => i = 0, trivial, qm_CP_0 _ _ _⟩
  · obtain rfl : i = 0 := by omega
    exact Nat.le_refl 0
  · rcases z with z | ⟨j, hj, _⟩
    · omega
    · omega
end
end
section
/-! matching brackets, and what is still to come of a run -/
/-- the block that begins at q ends at m -/
def qm_Mt (s : Nat → Int32) (q m : Nat) : Prop := q < m ∧ s m = 125 ∧ qm_bst s m = q :: qm_bst s q ∧ ∀ i, q < i → i ≤ m → ∃ l, qm_bst s i = l ++ q :: qm_bst s q
theorem qm_bst_in {s : Nat → Int32} {q : Nat} (hq : s q = 123) : ∀ k, (∀ j, j ≤ k → q ∈ qm_bst s (q + 1 + j)) → ∃ l, qm_bst s (q + 1 + k) = l ++ q :: qm_bst s q := by
  intro k
  induction k with
  | zero => intro _; exact ⟨[], qm_bst_o hq⟩
  | succ k ih =>
    intro h
    obtain ⟨l, e⟩ := ih (fun j hj => h j (by omega))
    have hk := h (k + 1) (Nat.le_refl _)
    rw [← Nat.add_assoc] at hk ⊢
    by_cases h1 : s (q + 1 + k) = 123
    · exact ⟨(q + 1 + k) :: l, by rw [qm_bst_o h1, e]; rfl⟩
    · by_cases h2 : s (q + 1 + k) = 125
      · rw [qm_bst_c h2, e] at hk ⊢
        cases l with
        | nil =>
          exfalso
          have hk : q ∈ qm_bst s q := hk
          have := (qm_bst_mem (s := s) q).1 q hk
          omega
        | cons x l => exact ⟨l, rfl⟩
      · exact ⟨l, by rw [qm_bst_n h1 h2, e]⟩
theorem qm_Mt_ex {s : Nat → Int32} {n q : Nat} (hn : qm_bst s n = []) (hq : q < n) (hs : s q = 123) : ∃ m, m < n ∧ qm_Mt s q m := by
  obtain ⟨i, h1, h2⟩ := pk_least (fun i => q ∉ qm_bst s (q + 1 + i)) ⟨n - (q + 1), by rw [show q + 1 + (n - (q + 1)) = n from by omega, hn]; exact List.not_mem_nil⟩
  have h3 : ∀ j, j < i → q ∈ qm_bst s (q + 1 + j) := fun j hj => Decidable.not_not.mp (h2 j hj)
  cases i with
  | zero =>
    exfalso
    apply h1
    rw [Nat.add_zero, qm_bst_o hs]; exact List.mem_cons_self
  | succ i =>
    have hin := h3 i (by omega)
    obtain ⟨l, e⟩ := qm_bst_in hs i (fun j hj => h3 j (by omega))
    rw [← Nat.add_assoc] at h1
    have c1 : s (q + 1 + i) ≠ 123 := by
      intro z; rw [qm_bst_o z] at h1
      exact h1 (List.mem_cons_of_mem _ hin)
    have c2 : s (q + 1 + i) = 125 := by
      by_cases z : s (q + 1 + i) = 125
      · exact z
      · rw [qm_bst_n c1 z] at h1; exact absurd hin h1
    have l0 : l = [] := by
      cases l with
      | nil => rfl
      | cons x l =>
        exfalso
        rw [qm_bst_c c2, e] at h1
        apply h1
        show q ∈ l ++ q :: qm_bst s q
        exact List.mem_append_right _ List.mem_cons_self
    refine ⟨q + 1 + i, ?_, by omega, c2, by rw [e, l0]; rfl, fun j j1 j2 => ?_⟩
    · by_cases z : q + 1 + i < n
      · exact z
      · exfalso
        by_cases y : n = q + 1 + i
        · rw [← y, hn] at hin; exact List.not_mem_nil hin
        · have := h3 (n - (q + 1)) (by omega)
          rw [show q + 1 + (n - (q + 1)) = n from by omega, hn] at this
          exact List.not_mem_nil this
    · have := qm_bst_in hs (j - (q + 1)) (fun j' hj' => h3 j' (by omega))
      rw [show q + 1 + (j - (q + 1)) = j from by omega] at this
      exact this
theorem qm_Mt_nx {s : Nat → Int32} {q m : Nat} (h : qm_Mt s q m) : qm_bst s (m + 1) = qm_bst s q := by rw [qm_bst_c h.2.1, h.2.2.1]; rfl
/-- while a block is open its end is still to come -/
theorem qm_Mt_le {s : Nat → Int32} {q m i : Nat} (h : qm_Mt s q m) (hi : q ∈ qm_bst s i) : i ≤ m := by
  by_cases z : i ≤ m
  · exact z
  · exfalso
    have := qm_bst_gone h.2.1 h.2.2.1 (i - (m + 1))
    rw [show m + 1 + (i - (m + 1)) = i from by omega] at this
    exact this hi

/-- the sum of 9 ^ (depth - k) over the m places from a on -/
def qm_wS (s : Nat → Int32) (k a : Nat) : Nat → Nat
  | 0 => 0
  | m + 1 => qm_wS s k a m + 9 ^ ((qm_bst s (a + m)).length - k)
theorem qm_wS_split (s : Nat → Int32) (k a m : Nat) : ∀ m', qm_wS s k a (m + m') = qm_wS s k a m + qm_wS s k (a + m) m' := by
  intro m'
  induction m' with
  | zero => rfl
  | succ m' ih =>
    show qm_wS s k a (m + m') + 9 ^ ((qm_bst s (a + (m + m'))).length - k) = qm_wS s k a m + (qm_wS s k (a + m) m' + 9 ^ ((qm_bst s (a + m + m')).length - k))
    rw [ih, Nat.add_assoc a m m']; omega
theorem qm_wS_ge (s : Nat → Int32) (k a : Nat) : ∀ m, m ≤ qm_wS s k a m := by
  intro m
  induction m with
  | zero => exact Nat.le_refl 0
  | succ m ih =>
    have : 1 ≤ 9 ^ ((qm_bst s (a + m)).length - k) := Nat.one_le_pow _ _ (by omega)
    show m + 1 ≤ qm_wS s k a m + 9 ^ ((qm_bst s (a + m)).length - k)
    omega
theorem qm_wS_scale (s : Nat → Int32) (k a : Nat) : ∀ m, (∀ i, a ≤ i → i < a + m → k + 1 ≤ (qm_bst s i).length) → qm_wS s k a m = 9 * qm_wS s (k + 1) a m := by
  intro m
  induction m with
  | zero => intro _; rfl
  | succ m ih =>
    intro h
    have h1 := h (a + m) (by omega) (by omega)
    have e : 9 ^ ((qm_bst s (a + m)).length - k) = 9 * 9 ^ ((qm_bst s (a + m)).length - (k + 1)) := by
      rw [show (qm_bst s (a + m)).length - k = ((qm_bst s (a + m)).length - (k + 1)) + 1 from by omega, Nat.pow_succ, Nat.mul_comm]
    show qm_wS s k a m + 9 ^ ((qm_bst s (a + m)).length - k) = 9 * (qm_wS s (k + 1) a m + 9 ^ ((qm_bst s (a + m)).length - (k + 1)))
    rw [ih (fun i i1 i2 => h i i1 (by omega)), e, Nat.mul_add]
theorem qm_wS_le (s : Nat → Int32) (a : Nat) : ∀ m, (∀ i, a ≤ i → i < a + m → (qm_bst s i).length ≤ 3) → qm_wS s 0 a m ≤ 729 * m := by
  intro m
  induction m with
  | zero => intro _; exact Nat.le_refl 0
  | succ m ih =>
    intro h
    have h1 := h (a + m) (by omega) (by omega)
    have h2 := ih (fun i i1 i2 => h i i1 (by omega))
    have h3 : 9 ^ ((qm_bst s (a + m)).length - 0) ≤ 9 ^ 3 := Nat.pow_le_pow_right (by omega) (by omega)
    show qm_wS s 0 a m + 9 ^ ((qm_bst s (a + m)).length - 0) ≤ 729 * (m + 1)
    have h4 : (9 : Nat) ^ 3 = 729 := by decide
    omega

/-- open blocks, the innermost first: where each begins, how many turns it has left, where it ends -/
def qm_Ph (s : Nat → Int32) (n : Nat) : List (Nat × Nat × Nat) → Nat → Nat
  | [], p => qm_wS s 0 p (n - p)
  | (q, t, m) :: st, p => qm_wS s (st.length + 1) p (m + 1 - p) + (t - 1) * qm_wS s (st.length + 1) (q + 1) (m - q) + qm_Ph s n st (m + 1)
def qm_Ok (s : Nat → Int32) (n : Nat) : List (Nat × Nat × Nat) → Nat → Prop
  | [], p => qm_bst s p = [] ∧ p ≤ n
  | (q, t, m) :: st, p => qm_bst s p = q :: qm_bst s q ∧ s q = 123 ∧ q < n ∧ qm_Mt s q m ∧ m < n ∧ 1 ≤ t ∧ t ≤ 9 ∧ qm_Ok s n st (m + 1)
theorem qm_Ok_p {s : Nat → Int32} {n : Nat} : ∀ {st : List (Nat × Nat × Nat)} {p p' : Nat}, qm_Ok s n st p → qm_bst s p' = qm_bst s p → p' ≤ n → qm_Ok s n st p'
  | [], _, _, h, e, hp => ⟨by rw [e]; exact h.1, hp⟩
  | (q, t, m) :: st, _, _, h, e, _ => ⟨by rw [e]; exact h.1, h.2⟩
theorem qm_Ok_len {s : Nat → Int32} {n : Nat} : ∀ {st : List (Nat × Nat × Nat)} {p : Nat}, qm_Ok s n st p → (qm_bst s p).length = st.length
  | [], _, h => by rw [h.1]; rfl
  | (q, t, m) :: st, p, h => by
    obtain ⟨h1, h2, h3, h4, h5, h6, h7, h8⟩ := h
    have := qm_Ok_len h8
    rw [qm_Mt_nx h4] at this
    rw [h1, List.length_cons, this]; rfl
/-- the next statement of the same block -/
theorem qm_Ph_go {s : Nat → Int32} {n : Nat} {st : List (Nat × Nat × Nat)} {p p' : Nat} (h : qm_Ok s n st p) (hp : p ≤ p') (hn : p' ≤ n) (e : qm_bst s p' = qm_bst s p) : qm_Ok s n st p' ∧ qm_Ph s n st p' + (p' - p) ≤ qm_Ph s n st p := by
  refine ⟨qm_Ok_p h e hn, ?_⟩
  cases st with
  | nil =>
    show qm_wS s 0 p' (n - p') + (p' - p) ≤ qm_wS s 0 p (n - p)
    have h1 := qm_wS_split s 0 p (p' - p) (n - p')
    have h2 := qm_wS_ge s 0 p (p' - p)
    rw [show p' - p + (n - p') = n - p from by omega, show p + (p' - p) = p' from by omega] at h1
    omega
  | cons x st =>
    obtain ⟨q, t, m⟩ := x
    obtain ⟨h1, h2, h3, h4, h5, h6, h7, h8⟩ := h
    have le : p' ≤ m := qm_Mt_le h4 (by rw [e, h1]; exact List.mem_cons_self)
    show qm_wS s (st.length + 1) p' (m + 1 - p') + (t - 1) * qm_wS s (st.length + 1) (q + 1) (m - q) + qm_Ph s n st (m + 1) + (p' - p) ≤ qm_wS s (st.length + 1) p (m + 1 - p) + (t - 1) * qm_wS s (st.length + 1) (q + 1) (m - q) + qm_Ph s n st (m + 1)
    have h1 := qm_wS_split s (st.length + 1) p (p' - p) (m + 1 - p')
    have h2 := qm_wS_ge s (st.length + 1) p (p' - p)
    rw [show p' - p + (m + 1 - p') = m + 1 - p from by omega, show p + (p' - p) = p' from by omega] at h1
    omega
/-- a block of t turns is entered, or skipped -/
theorem qm_Ph_in {s : Nat → Int32} {n : Nat} {st : List (Nat × Nat × Nat)} {p q m t : Nat} (h : qm_Ok s n st p) (hp : p ≤ q) (hs : s q = 123) (hb : qm_bst s q = qm_bst s p) (hM : qm_Mt s q m) (hmn : m < n) (h1 : 1 ≤ t) (h9 : t ≤ 9) : qm_Ok s n ((q, t, m) :: st) (q + 1) ∧ qm_Ph s n ((q, t, m) :: st) (q + 1) + (q + 1 - p) ≤ qm_Ph s n st p := by
  have hq1 := hM.1
  have hnx := qm_Mt_nx hM
  have ok2 : qm_Ok s n st (m + 1) := qm_Ok_p h (by rw [hnx, hb]) (by omega)
  have ln := qm_Ok_len h
  refine ⟨⟨qm_bst_o hs, hs, by omega, hM, hmn, h1, h9, ok2⟩, ?_⟩
  have go := qm_Ph_go h (show p ≤ q + 1 + (m - q) from by omega) (by omega) (by rw [show q + 1 + (m - q) = m + 1 from by omega, hnx, hb])
  -- the inner part weighs nine times as much from outside
  have sc : qm_wS s st.length (q + 1) (m - q) = 9 * qm_wS s (st.length + 1) (q + 1) (m - q) := by
    refine qm_wS_scale s st.length (q + 1) (m - q) (fun i i1 i2 => ?_)
    obtain ⟨l, e⟩ := hM.2.2.2 i (by omega) (by omega)
    rw [e, List.length_append, List.length_cons, hb, ln]; omega
  have tm : (t - 1) * qm_wS s (st.length + 1) (q + 1) (m - q) + qm_wS s (st.length + 1) (q + 1) (m - q) ≤ 9 * qm_wS s (st.length + 1) (q + 1) (m - q) := by
    have e1 : (t - 1) * qm_wS s (st.length + 1) (q + 1) (m - q) + qm_wS s (st.length + 1) (q + 1) (m - q) = t * qm_wS s (st.length + 1) (q + 1) (m - q) := by
      obtain ⟨u, rfl⟩ : ∃ u, t = u + 1 := ⟨t - 1, by omega⟩
      rw [Nat.add_sub_cancel, Nat.succ_mul]
    rw [e1]; exact Nat.mul_le_mul_right _ h9
  show qm_wS s (st.length + 1) (q + 1) (m + 1 - (q + 1)) + (t - 1) * qm_wS s (st.length + 1) (q + 1) (m - q) + qm_Ph s n st (m + 1) + (q + 1 - p) ≤ qm_Ph s n st p
  rw [show m + 1 - (q + 1) = m - q from by omega]
  have key : qm_wS s st.length (q + 1) (m - q) + qm_Ph s n st (m + 1) + (q + 1 - p) ≤ qm_Ph s n st p := by
    cases st with
    | nil =>
      show qm_wS s 0 (q + 1) (m - q) + qm_wS s 0 (m + 1) (n - (m + 1)) + (q + 1 - p) ≤ qm_wS s 0 p (n - p)
      have a1 := qm_wS_split s 0 p (q + 1 - p) (n - (q + 1))
      have a2 := qm_wS_split s 0 (q + 1) (m - q) (n - (m + 1))
      have a3 := qm_wS_ge s 0 p (q + 1 - p)
      rw [show q + 1 - p + (n - (q + 1)) = n - p from by omega, show p + (q + 1 - p) = q + 1 from by omega] at a1
      rw [show m - q + (n - (m + 1)) = n - (q + 1) from by omega, show q + 1 + (m - q) = m + 1 from by omega] at a2
      omega
    | cons x st =>
      obtain ⟨q', t', m'⟩ := x
      have le : m + 1 ≤ m' := qm_Mt_le h.2.2.2.1 (by rw [ok2.1]; exact List.mem_cons_self)
      show qm_wS s (st.length + 1) (q + 1) (m - q) + (qm_wS s (st.length + 1) (m + 1) (m' + 1 - (m + 1)) + (t' - 1) * qm_wS s (st.length + 1) (q' + 1) (m' - q') + qm_Ph s n st (m' + 1)) + (q + 1 - p) ≤ qm_wS s (st.length + 1) p (m' + 1 - p) + (t' - 1) * qm_wS s (st.length + 1) (q' + 1) (m' - q') + qm_Ph s n st (m' + 1)
      have a1 := qm_wS_split s (st.length + 1) p (q + 1 - p) (m' + 1 - (q + 1))
      have a2 := qm_wS_split s (st.length + 1) (q + 1) (m - q) (m' + 1 - (m + 1))
      have a3 := qm_wS_ge s (st.length + 1) p (q + 1 - p)
      rw [show q + 1 - p + (m' + 1 - (q + 1)) = m' + 1 - p from by omega, show p + (q + 1 - p) = q + 1 from by omega] at a1
      rw [show m - q + (m' + 1 - (m + 1)) = m' + 1 - (q + 1) from by omega, show q + 1 + (m - q) = m + 1 from by omega] at a2
      omega
  omega
/-- the end of a block: another turn -/
theorem qm_Ph_back {s : Nat → Int32} {n : Nat} {st : List (Nat × Nat × Nat)} {p q m t : Nat} (h : qm_Ok s n ((q, t, m) :: st) p) (hs : s p = 125) (ht : 1 < t) : qm_Ok s n ((q, t - 1, m) :: st) (q + 1) ∧ qm_Ph s n ((q, t - 1, m) :: st) (q + 1) + 1 ≤ qm_Ph s n ((q, t, m) :: st) p := by
  obtain ⟨h1, h2, h3, h4, h5, h6, h7, h8⟩ := h
  have le := qm_Mt_le h4 (i := p) (by rw [h1]; exact List.mem_cons_self)
  have pm : p = m := by
    by_cases z : p = m
    · exact z
    · exfalso
      obtain ⟨l, e⟩ := h4.2.2.2 (p + 1) (by have := (qm_bst_mem (s := s) p).1 q (by rw [h1]; exact List.mem_cons_self); omega) (by omega)
      rw [qm_bst_c hs, h1] at e
      have := congrArg List.length e
      rw [List.length_append, List.length_cons] at this
      simp only [List.tail_cons] at this
      omega
  subst pm
  have hq1 := h4.1
  refine ⟨⟨qm_bst_o h2, h2, h3, h4, h5, by omega, by omega, h8⟩, ?_⟩
  show qm_wS s (st.length + 1) (q + 1) (p + 1 - (q + 1)) + (t - 1 - 1) * qm_wS s (st.length + 1) (q + 1) (p - q) + qm_Ph s n st (p + 1) + 1 ≤ qm_wS s (st.length + 1) p (p + 1 - p) + (t - 1) * qm_wS s (st.length + 1) (q + 1) (p - q) + qm_Ph s n st (p + 1)
  rw [show p + 1 - (q + 1) = p - q from by omega]
  obtain ⟨u, rfl⟩ : ∃ u, t = u + 2 := ⟨t - 2, by omega⟩
  rw [show u + 2 - 1 - 1 = u from by omega, show u + 2 - 1 = u + 1 from by omega, Nat.succ_mul]
  have := qm_wS_ge s (st.length + 1) p (p + 1 - p)
  omega
/-- the end of a block: the last turn -/
theorem qm_Ph_out {s : Nat → Int32} {n : Nat} {st : List (Nat × Nat × Nat)} {p q m t : Nat} (h : qm_Ok s n ((q, t, m) :: st) p) (hs : s p = 125) : p = m ∧ qm_Ok s n st (p + 1) ∧ qm_Ph s n st (p + 1) + 1 ≤ qm_Ph s n ((q, t, m) :: st) p := by
  obtain ⟨h1, h2, h3, h4, h5, h6, h7, h8⟩ := h
  have le := qm_Mt_le h4 (i := p) (by rw [h1]; exact List.mem_cons_self)
  have pm : p = m := by
    by_cases z : p = m
    · exact z
    · exfalso
      obtain ⟨l, e⟩ := h4.2.2.2 (p + 1) (by have := (qm_bst_mem (s := s) p).1 q (by rw [h1]; exact List.mem_cons_self); omega) (by omega)
      rw [qm_bst_c hs, h1] at e
      have := congrArg List.length e
      rw [List.length_append, List.length_cons] at this
      simp only [List.tail_cons] at this
      omega
  subst pm
  refine ⟨rfl, h8, ?_⟩
  show qm_Ph s n st (p + 1) + 1 ≤ qm_wS s (st.length + 1) p (p + 1 - p) + (t - 1) * qm_wS s (st.length + 1) (q + 1) (p - q) + qm_Ph s n st (p + 1)
  have := qm_wS_ge s (st.length + 1) p (p + 1 - p)
  omega
/-- a block is skipped -/
theorem qm_Ph_skip {s : Nat → Int32} {n : Nat} {st : List (Nat × Nat × Nat)} {p q m : Nat} (h : qm_Ok s n st p) (hp : p ≤ q) (hb : qm_bst s q = qm_bst s p) (hM : qm_Mt s q m) (hmn : m < n) : qm_Ok s n st (m + 1) ∧ qm_Ph s n st (m + 1) + (m + 1 - p) ≤ qm_Ph s n st p :=
  qm_Ph_go h (by have := hM.1; omega) (by omega) (by rw [qm_Mt_nx hM, hb])
end
section
/-! the reference runs, statement by statement -/
theorem qm_wf_congr {K K' : Nat → Int32} {n : Nat} (h : qm_wf K n) (e : ∀ j, j < n → K' j = K j) : qm_wf K' n := by
  obtain ⟨h1, h2, h3, h4, h5⟩ := h
  refine ⟨h1, by rw [e _ (by omega)]; exact h2, fun j hj => ?_, fun j hj hk => ?_, ?_⟩
  · rw [e j hj]
    by_cases z : j = 0
    · subst z; exact ⟨fun _ => (h3 0 hj).1 (Or.inl rfl), fun y => absurd rfl y⟩
    · rw [e (j - 1) (by omega)]; exact h3 j hj
  · rw [qm_bd_congr j (fun i hi => e i (by omega))]
    rw [e j hj] at hk; exact h4 j hj hk
  · rw [qm_bd_congr n e]; exact h5
theorem qm_tb_ck {s : Nat → Int32} {a e : Nat} (hc : qm_ck s e) : ∀ d, a + d ≤ e → qm_ck (qm_tb s a d).1 (qm_tb s a d).2.2 := by
  intro d
  induction d with
  | zero => intro _ j hj; exact absurd hj (Nat.not_lt_zero j)
  | succ d ih =>
    intro hd
    have I := ih (by omega)
    have ext : ∀ c, vp_nar .char c = c → qm_ck (upd (qm_tb s a d).1 (qm_tb s a d).2.2 c) ((qm_tb s a d).2.2 + 1) := by
      intro c h j hj
      by_cases z : j = (qm_tb s a d).2.2
      · rw [z, pk_us]; exact h
      · rw [pk_un z]; exact I j (by omega)
    unfold qm_tb
    by_cases z : qm_dg (s (a + d)) = true ∧ qm_dg (s (a + d - 1)) = true
    · rw [if_pos z]; exact I
    · rw [if_neg z]
      by_cases z1 : qm_dg (s (a + d)) = true
      · rw [if_pos z1]; exact ext 118 qm_nar118
      · rw [if_neg z1]
        by_cases z2 : qm_lt (s (a + d)) = true
        · rw [if_pos z2]; exact ext 118 qm_nar118
        · rw [if_neg z2]; exact ext _ (hc (a + d) (by omega))
section
variable {f_size f_good : Int32} {a_source a_vars a_begins a_times : Nat → Int32}
theorem qy_match_l {post : Int32 → Prop} {s K P : Nat → Int32} {c0 : Int32} {n q m : Nat} (hn : n ≤ 80) (hM : qm_Mt s q m) (hm : m < n) (hp : post (nI m)) :
    ∀ (fuel i : Nat) (l : List Nat), m - i < fuel → q < i → i ≤ m → qm_bst s i = l ++ q :: qm_bst s q → wY_match_4 post f_size (nI n) f_good c0 a_source s a_vars K P a_begins a_times fuel (nI (l.length + 1)) (nI i) := by
  intro fuel
  induction fuel with
  | zero => intro i l h; omega
  | succ fuel ih =>
    intro i l hf h1 h2 h3
    have lb : l.length ≤ i := by
      have : ∀ j, (qm_bst s j).length ≤ j := by
        intro j
        induction j with
        | zero => exact Nat.le_refl 0
        | succ j ihj =>
          unfold qm_bst
          split
          · rw [List.length_cons]; omega
          · split
            · rw [List.length_tail]; omega
            · omega
      have := this i
      rw [h3, List.length_append] at this; omega
    refine br_f (nI_ge (by omega) (by omega)) ?_
    rw [nI_clamp (show i < 2 ^ 31 by omega)]
    have v : vp_in (nI i) 80 := vp_in_nI (by omega) (by omega)
    refine ⟨v, ?_⟩
    by_cases c1 : s i = 123
    · refine br_t c1 (nm_r (nI_1 _) ?_)
      unfold wY_match_26
      rw [nI_clamp (show i < 2 ^ 31 by omega)]
      refine ⟨v, br_f (by rw [c1]; decide) (nm_r (nI_1 i) ?_)⟩
      have him : i ≠ m := by intro z; rw [z, hM.2.1] at c1; exact absurd c1 (by decide)
      exact ih (i + 1) (i :: l) (by omega) (by omega) (by omega) (by rw [qm_bst_o c1, h3]; rfl)
    · refine br_f c1 ?_
      unfold wY_match_26
      rw [nI_clamp (show i < 2 ^ 31 by omega)]
      refine ⟨v, ?_⟩
      by_cases c2 : s i = 125
      · refine br_t c2 (nm_r (pk_m1 l.length) ?_)
        cases l with
        | nil =>
          have him : i = m := by
            by_cases z : i = m
            · exact z
            · exfalso
              obtain ⟨l', e⟩ := hM.2.2.2 (i + 1) (by omega) (by omega)
              rw [qm_bst_c c2, h3] at e
              have := congrArg List.length e
              rw [List.length_append, List.length_cons] at this
              simp only [List.nil_append, List.tail_cons] at this
              omega
          rw [him]
          exact br_t rfl hp
        | cons x l =>
          have him : i ≠ m := by
            intro z
            have e := hM.2.2.1
            rw [← z, h3] at e
            have := congrArg List.length e
            rw [List.length_append, List.length_cons, List.length_cons] at this
            omega
          rw [List.length_cons] at lb ⊢
          refine br_f (nI_ne0 (by omega) (by omega)) (nm_r (nI_1 i) ?_)
          exact ih (i + 1) l (by omega) (by omega) (by omega) (by rw [qm_bst_c c2, h3]; rfl)
      · refine br_f c2 (nm_r (nI_1 i) ?_)
        have him : i ≠ m := by intro z; rw [z] at c2; exact c2 hM.2.1
        exact ih (i + 1) l (by omega) (by omega) (by omega) (by rw [qm_bst_n c1 c2, h3])
theorem qy_match {post : Int32 → Prop} {s K P : Nat → Int32} {c0 : Int32} {n q m : Nat} (hn : n ≤ 80) (hs : s q = 123) (hM : qm_Mt s q m) (hm : m < n) (hp : post (nI m)) : wpY_match post (f_size, nI n, f_good, c0, a_source, s, a_vars, K, P, a_begins, a_times) (nI q) := by
  have hq := hM.1
  unfold wpY_match
  refine ⟨m - q + 2, br_f (nI_ge (by omega) (by omega)) ?_⟩
  rw [nI_clamp (show q < 2 ^ 31 by omega)]
  have v : vp_in (nI q) 80 := vp_in_nI (by omega) (by omega)
  refine ⟨v, br_t hs (nm_e ?_)⟩
  unfold wY_match_26
  rw [nI_clamp (show q < 2 ^ 31 by omega)]
  refine ⟨v, br_f (by rw [hs]; decide) (nm_r (nI_1 q) ?_)⟩
  exact qy_match_l hn hM hm hp (m - q + 1) (q + 1) [] (by omega) (by omega) (by omega) (qm_bst_o hs)

/-- list() and value() of a sum -/
theorem qy_sum {post : Int32 → Int32 → SY → Prop} {s K P : Nat → Int32} {c0 v : Int32} {n a q : Nat} {C : List (Int32 × Int32)} (hn : n ≤ 80) (hc : qm_ck s n) (ha : 1 ≤ a) (h0 : qm_dg (s (a - 1)) = false) (hq : q < n) (hend : s q = 59 ∨ s q = 123) (hsc : ∀ t, a ≤ t → t < q → qm_sc (s t)) (hE : qm_EX s a q C)
    (hv : qm_F (qm_R (qm_tb s a (q - a)).1 (fun j => qm_ev a_vars ((qm_tb s a (q - a)).2.1 j)) (qm_tb s a (q - a)).2.2) = [v])
    (hp : ∀ (f_count : Int32) (a_kinds a_vals : Nat → Int32), post (nI q) v (f_size, nI n, f_good, f_count, a_source, s, a_vars, a_kinds, a_vals, a_begins, a_times)) :
    wpY_list (fun r u => wpY_value (fun v u => post r v u) u) (f_size, nI n, f_good, c0, a_source, s, a_vars, K, P, a_begins, a_times) (nI a) := by
  have lt := qm_EX_lt hE
  have tl := qm_tb_len s a (q - a)
  refine qy_list ha (by omega) hq hn (fun i i1 i2 => ?_) hend hc h0 ?_
  · have := qm_sc_st (hsc i i1 i2); exact ⟨this.1, this.2.2.1⟩
  · intro K' P' hKP
    refine qy_value (by omega) (qm_wf_congr hE.1 (fun j hj => (hKP j hj).1)) ?_ ?_
    · intro j hj
      rw [(hKP j hj).1]
      exact qm_tb_ck hc (q - a) (by omega) j hj
    · intro v' K2 P2 n2 hv'
      have e : qm_R K' P' (qm_tb s a (q - a)).2.2 = qm_R (qm_tb s a (q - a)).1 (fun j => qm_ev a_vars ((qm_tb s a (q - a)).2.1 j)) (qm_tb s a (q - a)).2.2 := qm_run_congr _ (fun j hj => hKP j hj)
      rw [e, hv] at hv'
      cases hv'
      exact hp _ _ _

theorem qy_s_let {post : Int32 → SY → Prop} {s K P : Nat → Int32} {c0 v done : Int32} {n p q k sy fuel : Nat} {C : List (Int32 × Int32)} (hn : n ≤ 80) (hc : qm_ck s n) (hsy : sy < 58320) (hl : qm_lt (s p) = true) (he : s (p + 1) = 61) (hq : q < n) (hpq : p + 2 ≤ q) (hs : s q = 59) (hsc : ∀ t, p + 2 ≤ t → t < q → qm_sc (s t)) (hE : qm_EX s (p + 2) q C)
    (hv : qm_F (qm_R (qm_tb s (p + 2) (q - (p + 2))).1 (fun j => qm_ev a_vars ((qm_tb s (p + 2) (q - (p + 2))).2.1 j)) (qm_tb s (p + 2) (q - (p + 2))).2.2) = [v])
    (hp : ∀ (f_count : Int32) (a_kinds a_vals : Nat → Int32), wY_run_19 post fuel (nI (q + 1)) (nI k) (done + 1) (nI (sy + 1)) f_size (nI n) f_good f_count a_source s (upd a_vars (s p - 97).toNatClampNeg v) a_kinds a_vals a_begins a_times) :
    wY_run_19 post (fuel + 1) (nI p) (nI k) done (nI sy) f_size (nI n) f_good c0 a_source s a_vars K P a_begins a_times := by
  refine br_f (nI_ge (b := 58320) hsy (by decide)) (br_f (nI_ge (by omega) (by omega)) ?_)
  rw [nI_clamp (show p < 2 ^ 31 by omega)]
  refine ⟨vp_in_nI (by omega) (by omega), nm_e (br_f (qm_lt_ne hl (by decide)) (qy_lt1 hl (br_f (by decide) ?_)))⟩
  rw [show nI p + 2 = nI (p + 2) from nI_add p 2]
  refine qy_list (q := q) (va := a_vars) (by omega) (by omega) hq hn (fun i i1 i2 => ?_) (Or.inl hs) hc (by rw [show p + 2 - 1 = p + 1 from rfl, he]; decide) ?_
  · have := qm_sc_st (hsc i i1 i2); exact ⟨this.1, this.2.2.1⟩
  · intro K' P' hKP
    refine nm_r (nI_1 q) ?_
    have tl := qm_tb_len s (p + 2) (q - (p + 2))
    refine qy_value (by omega) (qm_wf_congr hE.1 (fun j hj => (hKP j hj).1)) ?_ ?_
    · intro j hj
      rw [(hKP j hj).1]
      exact qm_tb_ck hc (q - (p + 2)) (by omega) j hj
    · intro v' K2 P2 n2 hv'
      have e : qm_R K' P' (qm_tb s (p + 2) (q - (p + 2))).2.2 = qm_R (qm_tb s (p + 2) (q - (p + 2))).1 (fun j => qm_ev a_vars ((qm_tb s (p + 2) (q - (p + 2))).2.1 j)) (qm_tb s (p + 2) (q - (p + 2))).2.2 := qm_run_congr _ (fun j hj => hKP j hj)
      rw [e, hv] at hv'
      cases hv'
      obtain ⟨i, i1, i2⟩ := qm_lt_n hl
      have e2 : s p - 97 = nI i := by rw [i2, show (97 : Int32) = nI 97 from rfl, pk_sub (by omega)]; exact congrArg nI (by omega)
      refine ⟨by rw [e2]; exact vp_in_nI (by omega) (by omega), nm_e (nm_e (nm_r (nI_1 sy) ?_))⟩
      exact hp _ _ _

/-- what follows the head of a block -/
theorem qy_186 {post : Int32 → SY → Prop} {s K P : Nat → Int32} {c0 done : Int32} {n q m t k sy fuel : Nat} (hn : n ≤ 80) (hs : s q = 123) (hM : qm_Mt s q m) (hm : m < n) (hk : k < 4) (ht : t ≤ 9)
    (h0 : t = 0 → wY_run_19 post fuel (nI (m + 1)) (nI k) done (nI (sy + 1)) f_size (nI n) f_good c0 a_source s a_vars K P a_begins a_times)
    (h1 : 0 < t → wY_run_19 post fuel (nI (q + 1)) (nI (k + 1)) done (nI (sy + 1)) f_size (nI n) f_good c0 a_source s a_vars K P (upd a_begins k (nI (q + 1))) (upd a_times k (nI t))) :
    wY_run_186 post (wY_run_19 post fuel) (nI k) done (nI sy) (nI t) (nI q) f_size (nI n) f_good c0 a_source s a_vars K P a_begins a_times := by
  have hq := hM.1
  unfold wY_run_186
  by_cases z : t = 0
  · subst z
    refine br_t (by decide) (qy_match hn hs hM hm ?_)
    exact nm_r (nI_1 m) (nm_r (nI_1 sy) (h0 rfl))
  · refine br_f (nI_nle (by omega) (by omega)) ?_
    rw [nI_1 q, nI_clamp (show k < 2 ^ 31 by omega)]
    have v : vp_in (nI k) 4 := vp_in_nI hk (by omega)
    exact ⟨v, nm_e ⟨v, nm_e (nm_r (nI_1 k) (nm_e (nm_r (nI_1 sy) (h1 (by omega)))))⟩⟩

theorem qy_s_q {post : Int32 → SY → Prop} {s K P : Nat → Int32} {c0 v done : Int32} {n p q m k sy fuel : Nat} {C : List (Int32 × Int32)} (hn : n ≤ 80) (hc : qm_ck s n) (hsy : sy < 58320) (hl : s p = 63) (hq : q < n) (hs : s q = 123) (hsc : ∀ t, p + 1 ≤ t → t < q → qm_sc (s t)) (hE : qm_EX s (p + 1) q C) (hM : qm_Mt s q m) (hm : m < n) (hk : k < 4)
    (hv : qm_F (qm_R (qm_tb s (p + 1) (q - (p + 1))).1 (fun j => qm_ev a_vars ((qm_tb s (p + 1) (q - (p + 1))).2.1 j)) (qm_tb s (p + 1) (q - (p + 1))).2.2) = [v])
    (h0 : v = 0 → ∀ (f_count : Int32) (a_kinds a_vals : Nat → Int32), wY_run_19 post fuel (nI (m + 1)) (nI k) done (nI (sy + 1)) f_size (nI n) f_good f_count a_source s a_vars a_kinds a_vals a_begins a_times)
    (h1 : v ≠ 0 → ∀ (f_count : Int32) (a_kinds a_vals : Nat → Int32), wY_run_19 post fuel (nI (q + 1)) (nI (k + 1)) done (nI (sy + 1)) f_size (nI n) f_good f_count a_source s a_vars a_kinds a_vals (upd a_begins k (nI (q + 1))) (upd a_times k (nI 1))) :
    wY_run_19 post (fuel + 1) (nI p) (nI k) done (nI sy) f_size (nI n) f_good c0 a_source s a_vars K P a_begins a_times := by
  have lt := qm_EX_lt hE
  refine br_f (nI_ge (b := 58320) hsy (by decide)) (br_f (nI_ge (by omega) (by omega)) ?_)
  rw [nI_clamp (show p < 2 ^ 31 by omega)]
  refine ⟨vp_in_nI (by omega) (by omega), nm_e (br_f (by rw [hl]; decide) (qy_lt0 (by rw [hl]; decide) (br_t rfl ?_)))⟩
  rw [nI_1 p, show nI p + 2 = nI (p + 2) from nI_add p 2]
  refine ⟨vp_in_nI (by omega) (by omega), nm_e (nm_e (br_t hl ?_))⟩
  refine qy_list (q := q) (va := a_vars) (by omega) (by omega) hq hn (fun i i1 i2 => ?_) (Or.inr hs) hc (by rw [show p + 1 - 1 = p from rfl, hl]; decide) ?_
  · have := qm_sc_st (hsc i i1 i2); exact ⟨this.1, this.2.2.1⟩
  · intro K' P' hKP
    have tl := qm_tb_len s (p + 1) (q - (p + 1))
    refine qy_value (by omega) (qm_wf_congr hE.1 (fun j hj => (hKP j hj).1)) ?_ ?_
    · intro j hj
      rw [(hKP j hj).1]
      exact qm_tb_ck hc (q - (p + 1)) (by omega) j hj
    · intro v' K2 P2 n2 hv'
      have e : qm_R K' P' (qm_tb s (p + 1) (q - (p + 1))).2.2 = qm_R (qm_tb s (p + 1) (q - (p + 1))).1 (fun j => qm_ev a_vars ((qm_tb s (p + 1) (q - (p + 1))).2.1 j)) (qm_tb s (p + 1) (q - (p + 1))).2.2 := qm_run_congr _ (fun j hj => hKP j hj)
      rw [e, hv] at hv'
      cases hv'
      refine br_c (fun z => ?_) (fun z => ?_)
      · unfold wY_run_184
        exact qy_186 (t := 0) hn hs hM hm hk (by omega) (fun _ => h0 z _ _ _) (fun y => absurd y (by omega))
      · unfold wY_run_184
        exact qy_186 (t := 1) hn hs hM hm hk (by omega) (fun y => absurd y (by omega)) (fun _ => h1 z _ _ _)

theorem qy_s_h {post : Int32 → SY → Prop} {s K P : Nat → Int32} {c0 done : Int32} {n p d m k sy fuel : Nat} (hn : n ≤ 80) (hsy : sy < 58320) (hl : s p = 35) (hd : d ≤ 9) (hs1 : s (p + 1) = nI (48 + d)) (hs : s (p + 2) = 123) (hM : qm_Mt s (p + 2) m) (hm : m < n) (hk : k < 4)
    (h0 : d = 0 → wY_run_19 post fuel (nI (m + 1)) (nI k) done (nI (sy + 1)) f_size (nI n) f_good c0 a_source s a_vars K P a_begins a_times)
    (h1 : 0 < d → wY_run_19 post fuel (nI (p + 3)) (nI (k + 1)) done (nI (sy + 1)) f_size (nI n) f_good c0 a_source s a_vars K P (upd a_begins k (nI (p + 3))) (upd a_times k (nI d))) :
    wY_run_19 post (fuel + 1) (nI p) (nI k) done (nI sy) f_size (nI n) f_good c0 a_source s a_vars K P a_begins a_times := by
  have hq := hM.1
  refine br_f (nI_ge (b := 58320) hsy (by decide)) (br_f (nI_ge (by omega) (by omega)) ?_)
  rw [nI_clamp (show p < 2 ^ 31 by omega)]
  refine ⟨vp_in_nI (by omega) (by omega), nm_e (br_f (by rw [hl]; decide) (qy_lt0 (by rw [hl]; decide) (br_t rfl ?_)))⟩
  rw [nI_1 p, show nI p + 2 = nI (p + 2) from nI_add p 2, nI_clamp (show p + 1 < 2 ^ 31 by omega), hs1]
  refine ⟨vp_in_nI (by omega) (by omega), nm_r (e' := nI d) ?_ (nm_e (br_f (by rw [hl]; decide) ?_))⟩
  · rw [show (48 : Int32) = nI 48 from rfl, pk_sub (by omega)]; exact congrArg nI (by omega)
  · exact qy_186 hn hs hM hm hk hd h0 h1

theorem qy_s_c {post : Int32 → SY → Prop} {s K P : Nat → Int32} {c0 done : Int32} {n p b t k sy fuel : Nat} (hn : n ≤ 80) (hsy : sy < 58320) (hpn : p < n) (hl : s p = 125) (hk : k < 4) (hb : a_begins k = nI b) (ht : a_times k = nI t) (ht1 : 1 ≤ t) (ht9 : t ≤ 9)
    (h0 : t = 1 → wY_run_19 post fuel (nI (p + 1)) (nI k) done (nI (sy + 1)) f_size (nI n) f_good c0 a_source s a_vars K P a_begins (upd a_times k (nI (t - 1))))
    (h1 : 1 < t → wY_run_19 post fuel (nI b) (nI (k + 1)) done (nI (sy + 1)) f_size (nI n) f_good c0 a_source s a_vars K P a_begins (upd a_times k (nI (t - 1)))) :
    wY_run_19 post (fuel + 1) (nI p) (nI (k + 1)) done (nI sy) f_size (nI n) f_good c0 a_source s a_vars K P a_begins a_times := by
  refine br_f (nI_ge (b := 58320) hsy (by decide)) (br_f (nI_ge (by omega) (by omega)) ?_)
  rw [nI_clamp (show p < 2 ^ 31 by omega)]
  refine ⟨vp_in_nI (by omega) (by omega), nm_e (br_t hl ?_)⟩
  rw [nI_pred, nI_clamp (show k < 2 ^ 31 by omega), ht]
  have v : vp_in (nI k) 4 := vp_in_nI hk (by omega)
  refine ⟨v, v, nm_r (e' := upd a_times k (nI (t - 1))) ?_ ⟨v, ?_⟩⟩
  · rw [show nI t - 1 = nI (t - 1) from pk_sub (b := 1) ht1]
  · rw [pk_us]
    by_cases z : t = 1
    · refine br_t (by rw [z]; decide) (nm_r (pk_m1 k) (nm_r (nI_1 p) (nm_r (nI_1 sy) (h0 z))))
    · exact br_f (nI_nle (by omega) (by omega)) ⟨v, nm_r hb (nm_r (nI_1 sy) (h1 (by omega)))⟩
end
end
section
/-! the component's machine -/
def qm_rq (ring : Nat → Int32) : Nat → List Int32 → Prop
  | _, [] => True
  | h, v :: Q => ring (h % 128) = v ∧ qm_rq ring (h + 1) Q
theorem qm_rq_keep {ring ring' : Nat → Int32} : ∀ {Q : List Int32} {h : Nat}, qm_rq ring h Q → (∀ i, i < Q.length → ring' ((h + i) % 128) = ring ((h + i) % 128)) → qm_rq ring' h Q
  | [], _, _, _ => trivial
  | v :: Q, h, g, e => ⟨by have := e 0 (by rw [List.length_cons]; omega); rw [Nat.add_zero] at this; rw [this]; exact g.1, qm_rq_keep g.2 (fun i hi => by
      have := e (i + 1) (by rw [List.length_cons]; omega)
      rw [show h + (i + 1) = h + 1 + i from by omega] at this; exact this)⟩
theorem qm_rq_app {ring : Nat → Int32} {v : Int32} : ∀ {Q : List Int32} {h : Nat}, qm_rq ring h Q → ring ((h + Q.length) % 128) = v → qm_rq ring h (Q ++ [v])
  | [], _, _, e => ⟨e, trivial⟩
  | x :: Q, h, g, e => ⟨g.1, qm_rq_app g.2 (by rw [List.length_cons, show h + (Q.length + 1) = h + 1 + Q.length from by omega] at e; exact e)⟩
/-- the queue Q stands in the ring -/
def qm_qs (f_head f_tail : Int32) (a_ring : Nat → Int32) (Q : List Int32) : Prop := ∃ h, f_head = nI (h % 128) ∧ f_tail = nI ((h + Q.length) % 128) ∧ qm_rq a_ring h Q
theorem qm_127 (n : Nat) : (nI (n % 128) + 1) &&& 127 = nI ((n + 1) % 128) := by
  rw [nI_1, pk_andN (k := 7) (by omega) (by decide)]
  exact congrArg nI (by omega)
section
variable {f_size f_at f_wrong f_deep f_nodes f_trees f_waiting f_inside f_blocks f_ready f_length f_head f_tail f_running f_stored : Int32} {a_source a_kind a_left a_right a_level a_tree a_waits a_block a_op a_arg a_ring a_turnsLeft a_var : Nat → Int32}
theorem qx_append {post : SX → Prop} {Q : List Int32} {v : Int32} (hQ : Q.length < 128) (h : qm_qs f_head f_tail a_ring Q) (hp : ∀ (f_tail : Int32) (a_ring : Nat → Int32), qm_qs f_head f_tail a_ring (Q ++ [v]) → post (f_size, f_at, f_wrong, f_deep, f_nodes, f_trees, f_waiting, f_inside, f_blocks, f_ready, f_length, f_head, f_tail, f_running, f_stored, a_source, a_kind, a_left, a_right, a_level, a_tree, a_waits, a_block, a_op, a_arg, a_ring, a_turnsLeft, a_var)) : wpX_append post (f_size, f_at, f_wrong, f_deep, f_nodes, f_trees, f_waiting, f_inside, f_blocks, f_ready, f_length, f_head, f_tail, f_running, f_stored, a_source, a_kind, a_left, a_right, a_level, a_tree, a_waits, a_block, a_op, a_arg, a_ring, a_turnsLeft, a_var) v := by
  obtain ⟨k, rfl, rfl, g⟩ := h
  unfold wpX_append
  have m1 : (k + Q.length) % 128 < 128 := Nat.mod_lt _ (by omega)
  refine ⟨vp_in_nI m1 (by omega), nm_r (e' := upd a_ring ((k + Q.length) % 128) v) (by rw [nI_clamp (show (k + Q.length) % 128 < 2 ^ 31 by omega)]) (nm_r (qm_127 _) (hp _ _ ⟨k, rfl, ?_, ?_⟩))⟩
  · rw [List.length_append]; rfl
  · refine qm_rq_app (qm_rq_keep g (fun i hi => pk_un (by omega))) pk_us
theorem qx_take {post : Int32 → SX → Prop} {Q : List Int32} {v : Int32} (h : qm_qs f_head f_tail a_ring (v :: Q)) (hp : ∀ (f_head : Int32), qm_qs f_head f_tail a_ring Q → post v (f_size, f_at, f_wrong, f_deep, f_nodes, f_trees, f_waiting, f_inside, f_blocks, f_ready, f_length, f_head, f_tail, f_running, f_stored, a_source, a_kind, a_left, a_right, a_level, a_tree, a_waits, a_block, a_op, a_arg, a_ring, a_turnsLeft, a_var)) : wpX_take post (f_size, f_at, f_wrong, f_deep, f_nodes, f_trees, f_waiting, f_inside, f_blocks, f_ready, f_length, f_head, f_tail, f_running, f_stored, a_source, a_kind, a_left, a_right, a_level, a_tree, a_waits, a_block, a_op, a_arg, a_ring, a_turnsLeft, a_var) := by
  obtain ⟨k, rfl, rfl, g⟩ := h
  unfold wpX_take
  have m1 : k % 128 < 128 := Nat.mod_lt _ (by omega)
  refine ⟨vp_in_nI m1 (by omega), nm_r (e' := v) (by rw [nI_clamp (show k % 128 < 2 ^ 31 by omega)]; exact g.1) (nm_r (qm_127 _) (hp _ ⟨k + 1, rfl, ?_, g.2⟩))⟩
  rw [List.length_cons, show k + (Q.length + 1) = k + 1 + Q.length from by omega]
theorem qx_calc {post : SX → Prop} {Q Q' : List Int32} {o : Int32 × Int32} {x : Int32} (hQ : Q.length < 120) (ho : qm_ok o) (hx : o.1 = 1 ∨ o.1 = 2 → x = o.2) (he : qm_op a_var o Q = some Q') (h : qm_qs f_head f_tail a_ring Q) (hp : ∀ (f_head f_tail : Int32) (a_ring : Nat → Int32), qm_qs f_head f_tail a_ring Q' → post (f_size, f_at, f_wrong, f_deep, f_nodes, f_trees, f_waiting, f_inside, f_blocks, f_ready, f_length, f_head, f_tail, f_running, f_stored, a_source, a_kind, a_left, a_right, a_level, a_tree, a_waits, a_block, a_op, a_arg, a_ring, a_turnsLeft, a_var)) : wpX_calculate post (f_size, f_at, f_wrong, f_deep, f_nodes, f_trees, f_waiting, f_inside, f_blocks, f_ready, f_length, f_head, f_tail, f_running, f_stored, a_source, a_kind, a_left, a_right, a_level, a_tree, a_waits, a_block, a_op, a_arg, a_ring, a_turnsLeft, a_var) o.1 x := by
  obtain ⟨k, y⟩ := o
  unfold wpX_calculate
  unfold qm_op at he
  dsimp only at ho hx he ⊢
  rcases ho with z | ⟨z, i, i1, i2⟩ | z | z
  · have z : k = 1 := z
    subst z
    rw [if_pos (Or.inl rfl)] at he
    cases he
    refine br_t rfl (qx_append (by omega) h (fun f_tail a_ring g => hp _ _ _ ?_))
    rw [hx (Or.inl rfl)] at g
    exact g
  · have z : k = 2 := z
    have i2 : y = nI i := i2
    subst z
    rw [if_pos (Or.inr rfl)] at he
    cases he
    have ex := hx (Or.inr rfl)
    subst ex
    refine br_f (by decide) (br_t rfl ⟨by rw [show x = nI i from i2]; exact vp_in_nI i1 (by omega), qx_append (by omega) h (fun f_tail a_ring g => hp _ _ _ g)⟩)
  · have z : k = 8 := z
    subst z
    rw [if_neg (by decide), if_pos rfl] at he
    match Q, he, h with
    | p :: Q, he, h =>
      cases he
      rw [List.length_cons] at hQ
      exact br_f (by decide) (br_f (by decide) (qx_take h (fun f_head g => br_t rfl (qx_append (by omega) g (fun f_tail a_ring g2 => hp _ _ _ g2)))))
  · have z : 1 ≤ qm_rk k := z
    have n1 : k ≠ 1 := by intro w; rw [w] at z; exact absurd z (by decide)
    have n2 : k ≠ 2 := by intro w; rw [w] at z; exact absurd z (by decide)
    have n8 : k ≠ 8 := by intro w; rw [w] at z; exact absurd z (by decide)
    rw [if_neg (fun w => w.elim n1 n2), if_neg n8] at he
    match Q, he, h with
    | p :: q :: Q, he, h =>
      cases he
      rw [List.length_cons, List.length_cons] at hQ
      refine br_f n1 (br_f n2 (qx_take h (fun f_head g => br_f n8 (qx_take g (fun f_head g2 => ?_)))))
      have fin : ∀ r, r = qm_b k p q → wpX_append (fun u => match u with | (f_size, f_at, f_wrong, f_deep, f_nodes, f_trees, f_waiting, f_inside, f_blocks, f_ready, f_length, f_head, f_tail, f_running, f_stored, a_source, a_kind, a_left, a_right, a_level, a_tree, a_waits, a_block, a_op, a_arg, a_ring, a_turnsLeft, a_var) => post (f_size, f_at, f_wrong, f_deep, f_nodes, f_trees, f_waiting, f_inside, f_blocks, f_ready, f_length, f_head, f_tail, f_running, f_stored, a_source, a_kind, a_left, a_right, a_level, a_tree, a_waits, a_block, a_op, a_arg, a_ring, a_turnsLeft, a_var)) (f_size, f_at, f_wrong, f_deep, f_nodes, f_trees, f_waiting, f_inside, f_blocks, f_ready, f_length, f_head, f_tail, f_running, f_stored, a_source, a_kind, a_left, a_right, a_level, a_tree, a_waits, a_block, a_op, a_arg, a_ring, a_turnsLeft, a_var) r := by
        intro r hr
        subst hr
        exact qx_append (by omega) g2 (fun f_tail a_ring g3 => hp _ _ _ g3)
      refine br_f (qm_un1_k (Or.inr z)) ?_
      have kk : k = 3 ∨ k = 4 ∨ k = 5 ∨ k = 6 ∨ k = 7 := by
        unfold qm_rk at z
        by_cases a3 : k = 3
        · exact Or.inl a3
        · by_cases a4 : k = 4
          · exact Or.inr (Or.inl a4)
          · by_cases a5 : k = 5
            · exact Or.inr (Or.inr (Or.inl a5))
            · by_cases a6 : k = 6
              · exact Or.inr (Or.inr (Or.inr (Or.inl a6)))
              · by_cases a7 : k = 7
                · exact Or.inr (Or.inr (Or.inr (Or.inr a7)))
                · rw [if_neg a3, if_neg a4, if_neg a5, if_neg a6, if_neg a7] at z; omega
      rcases kk with rfl | rfl | rfl | rfl | rfl
      · exact br_f (by decide) (br_t rfl (fin _ rfl))
      · exact br_f (by decide) (br_f (by decide) (br_t rfl (fin _ rfl)))
      · exact br_f (by decide) (br_f (by decide) (br_f (by decide) (br_t rfl (fin _ rfl))))
      · refine br_f (by decide) (br_f (by decide) (br_f (by decide) (br_f (by decide) (br_t rfl (br_c (fun w => ?_) (fun w => ?_))))))
        · exact fin 0 (by rw [qm_b6, if_pos w])
        · exact fin 1 (by rw [qm_b6, if_neg w])
      · exact br_t (by decide) (fin _ rfl)
theorem qm_ok_8 {o : Int32 × Int32} (h : qm_ok o) : ¬ 8 < o.1 := by
  rcases h with z | ⟨z, _⟩ | z | z
  · rw [z]; decide
  · rw [z]; decide
  · rw [z]; decide
  · have := qm_rk_k z
    intro w
    exact this (Int32.lt_trans (by decide) w)
/-- the code of a sum -/
theorem qx_code {post : Int32 → SX → Prop} {L fuel : Nat} {Q' : List Int32} (hL : L ≤ 100) : ∀ (C : List (Int32 × Int32)) (c st : Nat) (Q : List Int32) (f_head f_tail : Int32) (a_ring : Nat → Int32), qm_cm a_op a_arg c C → (∀ o, o ∈ C → qm_ok o) → qm_ex a_var C Q = some Q' → Q.length + C.length ≤ 100 → c + C.length ≤ L → st + C.length ≤ 149000 → qm_qs f_head f_tail a_ring Q →
    (∀ (f_head f_tail : Int32) (a_ring : Nat → Int32), qm_qs f_head f_tail a_ring Q' → wX_run_34 post fuel (nI (c + C.length)) (nI (st + C.length)) f_size f_at f_wrong f_deep f_nodes f_trees f_waiting f_inside f_blocks f_ready (nI L) f_head f_tail f_running f_stored a_source a_kind a_left a_right a_level a_tree a_waits a_block a_op a_arg a_ring a_turnsLeft a_var) → wX_run_34 post (fuel + C.length) (nI c) (nI st) f_size f_at f_wrong f_deep f_nodes f_trees f_waiting f_inside f_blocks f_ready (nI L) f_head f_tail f_running f_stored a_source a_kind a_left a_right a_level a_tree a_waits a_block a_op a_arg a_ring a_turnsLeft a_var := by
  intro C
  induction C with
  | nil =>
    intro c st Q f_head f_tail a_ring h1 h2 h3 h4 h5 h6 h7 hp
    cases h3
    exact hp _ _ _ h7
  | cons o C ih =>
    intro c st Q f_head f_tail a_ring h1 h2 h3 h4 h5 h6 h7 hp
    rw [List.length_cons] at h4 h5 h6
    have h3 : (qm_op a_var o Q).bind (qm_ex a_var C) = some Q' := h3
    cases hq : qm_op a_var o Q with
    | none => rw [hq] at h3; cases h3
    | some Q1 =>
      rw [hq] at h3
      have h3 : qm_ex a_var C Q1 = some Q' := h3
      have ql := qm_op_len hq
      have ok := h2 o List.mem_cons_self
      rw [List.length_cons, ← Nat.add_assoc]
      refine br_f (nI_ge (b := 150000) (by omega) (by decide)) (br_f (nI_ge (by omega) (by omega)) ?_)
      unfold wpX_perform
      have v : vp_in (nI c) 200 := vp_in_nI (by omega) (by omega)
      refine ⟨v, nm_r (e' := o.1) (by rw [nI_clamp (show c < 2 ^ 31 by omega)]; exact h1.1) ⟨v, nm_r (e' := a_arg c) (by rw [nI_clamp (show c < 2 ^ 31 by omega)]) (br_f (qm_ok_8 ok) (qx_calc (by omega) ok h1.2.1 hq h7 ?_))⟩⟩
      intro f_head f_tail a_ring g
      rw [nI_1 c]
      refine nm_r (nI_1 st) ?_
      refine ih (c + 1) (st + 1) Q1 f_head f_tail a_ring h1.2.2 (fun x hx => h2 x (List.mem_cons_of_mem _ hx)) h3 (by omega) (by omega) (by omega) g ?_
      intro f_head f_tail a_ring g2
      have := hp f_head f_tail a_ring g2
      rw [List.length_cons] at this
      rw [show c + 1 + C.length = c + (C.length + 1) from by omega, show st + 1 + C.length = st + (C.length + 1) from by omega]
      exact this
/-- a store -/
theorem qx_s_store {post : Int32 → SX → Prop} {L fuel c st i : Nat} {v : Int32} (hL : L ≤ 100) (hc : c < L) (hst : st < 149000) (ho : a_op c = 10) (ha : a_arg c = nI i) (hi : i < 8) (h : qm_qs f_head f_tail a_ring [v])
    (hp : ∀ (f_head : Int32), qm_qs f_head f_tail a_ring [] → wX_run_34 post fuel (nI (c + 1)) (nI (st + 1)) f_size f_at f_wrong f_deep f_nodes f_trees f_waiting f_inside f_blocks f_ready (nI L) f_head f_tail f_running (f_stored + 1) a_source a_kind a_left a_right a_level a_tree a_waits a_block a_op a_arg a_ring a_turnsLeft (upd a_var i v)) : wX_run_34 post (fuel + 1) (nI c) (nI st) f_size f_at f_wrong f_deep f_nodes f_trees f_waiting f_inside f_blocks f_ready (nI L) f_head f_tail f_running f_stored a_source a_kind a_left a_right a_level a_tree a_waits a_block a_op a_arg a_ring a_turnsLeft a_var := by
  refine br_f (nI_ge (b := 150000) (by omega) (by decide)) (br_f (nI_ge (by omega) (by omega)) ?_)
  unfold wpX_perform
  have v1 : vp_in (nI c) 200 := vp_in_nI (by omega) (by omega)
  refine ⟨v1, nm_r (e' := 10) (by rw [nI_clamp (show c < 2 ^ 31 by omega)]; exact ho) ⟨v1, nm_r (e' := nI i) (by rw [nI_clamp (show c < 2 ^ 31 by omega)]; exact ha) (br_t (by decide) (br_t rfl (qx_take h (fun f_head g => ?_))))⟩⟩
  rw [nI_1 c, nI_clamp (show i < 2 ^ 31 by omega)]
  exact ⟨vp_in_nI hi (by omega), nm_e (nm_e (nm_r (nI_1 st) (hp f_head g)))⟩
/-- a conditional jump -/
theorem qx_s_skip {post : Int32 → SX → Prop} {L fuel c st z : Nat} {v : Int32} (hL : L ≤ 100) (hc : c < L) (hst : st < 149000) (ho : a_op c = 11) (ha : a_arg c = nI z) (h : qm_qs f_head f_tail a_ring [v])
    (h0 : v = 0 → ∀ (f_head : Int32), qm_qs f_head f_tail a_ring [] → wX_run_34 post fuel (nI z) (nI (st + 1)) f_size f_at f_wrong f_deep f_nodes f_trees f_waiting f_inside f_blocks f_ready (nI L) f_head f_tail f_running f_stored a_source a_kind a_left a_right a_level a_tree a_waits a_block a_op a_arg a_ring a_turnsLeft a_var)
    (h1 : v ≠ 0 → ∀ (f_head : Int32), qm_qs f_head f_tail a_ring [] → wX_run_34 post fuel (nI (c + 1)) (nI (st + 1)) f_size f_at f_wrong f_deep f_nodes f_trees f_waiting f_inside f_blocks f_ready (nI L) f_head f_tail f_running f_stored a_source a_kind a_left a_right a_level a_tree a_waits a_block a_op a_arg a_ring a_turnsLeft a_var) : wX_run_34 post (fuel + 1) (nI c) (nI st) f_size f_at f_wrong f_deep f_nodes f_trees f_waiting f_inside f_blocks f_ready (nI L) f_head f_tail f_running f_stored a_source a_kind a_left a_right a_level a_tree a_waits a_block a_op a_arg a_ring a_turnsLeft a_var := by
  refine br_f (nI_ge (b := 150000) (by omega) (by decide)) (br_f (nI_ge (by omega) (by omega)) ?_)
  unfold wpX_perform
  have v1 : vp_in (nI c) 200 := vp_in_nI (by omega) (by omega)
  refine ⟨v1, nm_r (e' := 11) (by rw [nI_clamp (show c < 2 ^ 31 by omega)]; exact ho) ⟨v1, nm_r (e' := nI z) (by rw [nI_clamp (show c < 2 ^ 31 by omega)]; exact ha) (br_t (by decide) (br_f (by decide) (br_t rfl (qx_take h (fun f_head g => ?_)))))⟩⟩
  rw [nI_1 c]
  exact br_c (fun y => nm_r (nI_1 st) (h0 y f_head g)) (fun y => nm_r (nI_1 st) (h1 y f_head g))
/-- the search for the end of a block -/
theorem qx_find {post : Int32 → SX → Prop} {L pc e : Nat} (hL : L ≤ 100) (he : e < L) (h13 : a_op e = 13) (harg : a_arg e = nI pc) (hno : ∀ c, c < e → a_op c = 13 → a_arg c ≠ nI pc) (hp : post (nI (e + 1)) (f_size, f_at, f_wrong, f_deep, f_nodes, f_trees, f_waiting, f_inside, f_blocks, f_ready, nI L, f_head, f_tail, f_running, f_stored, a_source, a_kind, a_left, a_right, a_level, a_tree, a_waits, a_block, a_op, a_arg, a_ring, a_turnsLeft, a_var)) :
    ∀ (fuel c i : Nat), e - c < fuel → c ≤ e → i ≤ c → wX_beginTurns_53 post (nI pc) f_size f_at f_wrong f_deep f_nodes f_trees f_waiting f_inside f_blocks f_ready (nI L) f_head f_tail f_running f_stored a_source a_kind a_left a_right a_level a_tree a_waits a_block a_op a_arg a_ring a_turnsLeft a_var fuel (nI c) (nI i) := by
  intro fuel
  induction fuel with
  | zero => intro c i h; omega
  | succ fuel ih =>
    intro c i hf hc hi
    refine br_f (nI_ge (b := 200) (by omega) (by decide)) ?_
    have e1 : nI L - 1 = nI (L - 1) := pk_sub (b := 1) (by omega)
    rw [e1, nI_1 c, nI_clamp (show c < 2 ^ 31 by omega)]
    have v : vp_in (nI c) 200 := vp_in_nI (by omega) (by omega)
    by_cases z : c = e
    · subst z
      by_cases y : L - 1 ≤ c
      · exact br_t (nI_le y (by omega)) hp
      · exact br_f (nI_ge (by omega) (by omega)) ⟨v, br_t h13 ⟨v, br_t harg hp⟩⟩
    · refine br_f (nI_ge (by omega) (by omega)) ⟨v, br_c (fun y => ⟨v, br_f (hno c (by omega) y) ?_⟩) (fun y => ?_)⟩
      · exact nm_e (nm_r (nI_1 i) (ih (c + 1) (i + 1) (by omega) (by omega) (by omega)))
      · exact nm_e (nm_r (nI_1 i) (ih (c + 1) (i + 1) (by omega) (by omega) (by omega)))
/-- a repeated block begins -/
theorem qx_s_turns {post : Int32 → SX → Prop} {L fuel c st d r e : Nat} (hL : L ≤ 100) (hc : c < L) (hst : st < 149000) (ho : a_op c = 12) (ha : a_arg c = nI d) (hd : d ≤ 9) (hr : r < 4) (hce : c < e) (he : e < L) (h13 : a_op e = 13) (harg : a_arg e = nI c) (hno : ∀ x, x < e → a_op x = 13 → a_arg x ≠ nI c)
    (h0 : d = 0 → wX_run_34 post fuel (nI (e + 1)) (nI (st + 1)) f_size f_at f_wrong f_deep f_nodes f_trees f_waiting f_inside f_blocks f_ready (nI L) f_head f_tail (nI r) f_stored a_source a_kind a_left a_right a_level a_tree a_waits a_block a_op a_arg a_ring (upd a_turnsLeft r (nI d)) a_var)
    (h1 : 0 < d → wX_run_34 post fuel (nI (c + 1)) (nI (st + 1)) f_size f_at f_wrong f_deep f_nodes f_trees f_waiting f_inside f_blocks f_ready (nI L) f_head f_tail (nI (r + 1)) f_stored a_source a_kind a_left a_right a_level a_tree a_waits a_block a_op a_arg a_ring (upd a_turnsLeft r (nI d)) a_var) : wX_run_34 post (fuel + 1) (nI c) (nI st) f_size f_at f_wrong f_deep f_nodes f_trees f_waiting f_inside f_blocks f_ready (nI L) f_head f_tail (nI r) f_stored a_source a_kind a_left a_right a_level a_tree a_waits a_block a_op a_arg a_ring a_turnsLeft a_var := by
  refine br_f (nI_ge (b := 150000) (by omega) (by decide)) (br_f (nI_ge (by omega) (by omega)) ?_)
  unfold wpX_perform
  have v1 : vp_in (nI c) 200 := vp_in_nI (by omega) (by omega)
  refine ⟨v1, nm_r (e' := 12) (by rw [nI_clamp (show c < 2 ^ 31 by omega)]; exact ho) ⟨v1, nm_r (e' := nI d) (by rw [nI_clamp (show c < 2 ^ 31 by omega)]; exact ha) (br_t (by decide) (br_f (by decide) (br_f (by decide) (br_t rfl ?_))))⟩⟩
  unfold wpX_beginTurns
  refine br_f (nI_ge (b := 4) hr (by decide)) ?_
  rw [nI_clamp (show r < 2 ^ 31 by omega)]
  refine ⟨vp_in_nI hr (by omega), nm_e ?_⟩
  unfold wX_beginTurns_18
  refine nm_r (nI_1 r) ?_
  by_cases z : d = 0
  · subst z
    refine br_t (by decide) (nm_r (nI_pred r) (nm_r (nI_1 c) ⟨e + 1, ?_⟩))
    refine qx_find hL he h13 harg hno ?_ (e + 1) (c + 1) 0 (by omega) (by omega) (by omega)
    exact nm_r (nI_1 st) (h0 rfl)
  · refine br_f (nI_nle (by omega) (by omega)) ?_
    rw [nI_1 c]
    exact nm_r (nI_1 st) (h1 (by omega))
/-- the end of a repeated block -/
theorem qx_s_span {post : Int32 → SX → Prop} {L fuel c st t r z : Nat} (hL : L ≤ 100) (hc : c < L) (hst : st < 149000) (ho : a_op c = 13) (ha : a_arg c = nI z) (hr : r < 4) (ht : a_turnsLeft r = nI t) (ht1 : 1 ≤ t) (ht9 : t ≤ 9)
    (h0 : t = 1 → wX_run_34 post fuel (nI (c + 1)) (nI (st + 1)) f_size f_at f_wrong f_deep f_nodes f_trees f_waiting f_inside f_blocks f_ready (nI L) f_head f_tail (nI r) f_stored a_source a_kind a_left a_right a_level a_tree a_waits a_block a_op a_arg a_ring (upd a_turnsLeft r (nI (t - 1))) a_var)
    (h1 : 1 < t → wX_run_34 post fuel (nI (z + 1)) (nI (st + 1)) f_size f_at f_wrong f_deep f_nodes f_trees f_waiting f_inside f_blocks f_ready (nI L) f_head f_tail (nI (r + 1)) f_stored a_source a_kind a_left a_right a_level a_tree a_waits a_block a_op a_arg a_ring (upd a_turnsLeft r (nI (t - 1))) a_var) : wX_run_34 post (fuel + 1) (nI c) (nI st) f_size f_at f_wrong f_deep f_nodes f_trees f_waiting f_inside f_blocks f_ready (nI L) f_head f_tail (nI (r + 1)) f_stored a_source a_kind a_left a_right a_level a_tree a_waits a_block a_op a_arg a_ring a_turnsLeft a_var := by
  refine br_f (nI_ge (b := 150000) (by omega) (by decide)) (br_f (nI_ge (by omega) (by omega)) ?_)
  unfold wpX_perform
  have v1 : vp_in (nI c) 200 := vp_in_nI (by omega) (by omega)
  refine ⟨v1, nm_r (e' := 13) (by rw [nI_clamp (show c < 2 ^ 31 by omega)]; exact ho) ⟨v1, nm_r (e' := nI z) (by rw [nI_clamp (show c < 2 ^ 31 by omega)]; exact ha) (br_t (by decide) (br_f (by decide) (br_f (by decide) (br_f (by decide) ?_))))⟩⟩
  unfold wpX_endTurn
  refine br_f (nI_nle (by omega) (by omega)) ?_
  unfold wX_endTurn_17
  rw [nI_pred, nI_clamp (show r < 2 ^ 31 by omega), ht, nI_1 c, nI_1 z]
  have v : vp_in (nI r) 4 := vp_in_nI hr (by omega)
  refine ⟨v, v, nm_r (e' := upd a_turnsLeft r (nI (t - 1))) ?_ ⟨v, ?_⟩⟩
  · rw [show nI t - 1 = nI (t - 1) from pk_sub (b := 1) ht1]
  · rw [pk_us]
    by_cases y : t = 1
    · exact br_t (by rw [y]; decide) (nm_r (nI_1 st) (h0 y))
    · exact br_f (nI_nle (by omega) (by omega)) (nm_r (nI_1 st) (h1 (by omega)))
end
end
section
/-! both run in step, statement by statement -/
/-- whatever the reference asks from here on, it asks at the start -/
def qy_YR (WY : (Int32 → SY → Prop) → Prop) (y_size y_good : Int32) (y_source s : Nat → Int32) (n p k sy : Nat) (done : Int32) (va bg tm : Nat → Int32) : Prop :=
  ∀ pY : Int32 → SY → Prop, (∀ (y_count : Int32) (y_kinds y_vals : Nat → Int32) (fuel : Nat), 58320 - sy < fuel → wY_run_19 pY fuel (nI p) (nI k) done (nI sy) y_size (nI n) y_good y_count y_source s va y_kinds y_vals bg tm) → WY pY
/-- the reference's open blocks -/
def qm_ya (bg tm : Nat → Int32) : List (Nat × Nat × Nat) → Prop
  | [] => True
  | (q, t, _) :: st => bg st.length = nI (q + 1) ∧ tm st.length = nI t ∧ qm_ya bg tm st
theorem qm_ya_keep {bg tm bg' tm' : Nat → Int32} : ∀ {st : List (Nat × Nat × Nat)}, qm_ya bg tm st → (∀ j, j < st.length → bg' j = bg j ∧ tm' j = tm j) → qm_ya bg' tm' st
  | [], _, _ => trivial
  | (q, t, m) :: st, h, g => ⟨by rw [(g _ (by rw [List.length_cons]; omega)).1]; exact h.1, by rw [(g _ (by rw [List.length_cons]; omega)).2]; exact h.2.1, qm_ya_keep h.2.2 (fun j hj => g j (by rw [List.length_cons]; omega))⟩
/-- the component's counters: of the repeated blocks alone -/
def qm_rn (op : Nat → Int32) (AD : Nat → Nat) : List (Nat × Nat × Nat) → Nat
  | [] => 0
  | (q, _, _) :: st => if op (AD (q + 1) - 1) = 12 then qm_rn op AD st + 1 else qm_rn op AD st
def qm_xa (op : Nat → Int32) (AD : Nat → Nat) (tl : Nat → Int32) : List (Nat × Nat × Nat) → Prop
  | [] => True
  | (q, t, _) :: st => (op (AD (q + 1) - 1) = 12 → tl (qm_rn op AD st) = nI t) ∧ (op (AD (q + 1) - 1) ≠ 12 → t = 1) ∧ qm_xa op AD tl st
theorem qm_rn_le (op : Nat → Int32) (AD : Nat → Nat) : ∀ st, qm_rn op AD st ≤ st.length
  | [] => Nat.le_refl 0
  | (q, t, m) :: st => by
    have := qm_rn_le op AD st
    unfold qm_rn
    rw [List.length_cons]
    split <;> omega
theorem qm_xa_keep {op : Nat → Int32} {AD : Nat → Nat} {tl tl' : Nat → Int32} : ∀ {st : List (Nat × Nat × Nat)}, qm_xa op AD tl st → (∀ j, j < qm_rn op AD st → tl' j = tl j) → qm_xa op AD tl' st
  | [], _, _ => trivial
  | (q, t, m) :: st, h, g => by
    have e : ∀ j, j < qm_rn op AD st → tl' j = tl j := by
      intro j hj
      refine g j ?_
      unfold qm_rn
      split <;> omega
    refine ⟨fun z => ?_, h.2.1, qm_xa_keep h.2.2 e⟩
    rw [g _ (by show _ < (if op (AD (q + 1) - 1) = 12 then qm_rn op AD st + 1 else qm_rn op AD st); rw [if_pos z]; omega)]
    exact h.1 z
section
variable {WY : (Int32 → SY → Prop) → Prop} {y_size y_good done : Int32} {y_source s va bg tm : Nat → Int32} {n p k sy : Nat}
theorem qy_YR_let {v : Int32} {q : Nat} {C : List (Int32 × Int32)} (h : qy_YR WY y_size y_good y_source s n p k sy done va bg tm) (hn : n ≤ 80) (hc : qm_ck s n) (hsy : sy < 58320) (hl : qm_lt (s p) = true) (he : s (p + 1) = 61) (hq : q < n) (hpq : p + 2 ≤ q) (hs : s q = 59) (hsc : ∀ t, p + 2 ≤ t → t < q → qm_sc (s t)) (hE : qm_EX s (p + 2) q C)
    (hv : qm_F (qm_R (qm_tb s (p + 2) (q - (p + 2))).1 (fun j => qm_ev va ((qm_tb s (p + 2) (q - (p + 2))).2.1 j)) (qm_tb s (p + 2) (q - (p + 2))).2.2) = [v]) : qy_YR WY y_size y_good y_source s n (q + 1) k (sy + 1) (done + 1) (upd va (s p - 97).toNatClampNeg v) bg tm := by
  intro pY hY
  refine h pY (fun y_count y_kinds y_vals fuel hf => ?_)
  obtain ⟨f, rfl⟩ : ∃ f, fuel = f + 1 := ⟨fuel - 1, by omega⟩
  exact qy_s_let hn hc hsy hl he hq hpq hs hsc hE hv (fun a b c => hY a b c f (by omega))
theorem qy_YR_q {v : Int32} {q m : Nat} {C : List (Int32 × Int32)} (h : qy_YR WY y_size y_good y_source s n p k sy done va bg tm) (hn : n ≤ 80) (hc : qm_ck s n) (hsy : sy < 58320) (hl : s p = 63) (hq : q < n) (hs : s q = 123) (hsc : ∀ t, p + 1 ≤ t → t < q → qm_sc (s t)) (hE : qm_EX s (p + 1) q C) (hM : qm_Mt s q m) (hm : m < n) (hk : k < 4)
    (hv : qm_F (qm_R (qm_tb s (p + 1) (q - (p + 1))).1 (fun j => qm_ev va ((qm_tb s (p + 1) (q - (p + 1))).2.1 j)) (qm_tb s (p + 1) (q - (p + 1))).2.2) = [v]) : (v = 0 → qy_YR WY y_size y_good y_source s n (m + 1) k (sy + 1) done va bg tm) ∧ (v ≠ 0 → qy_YR WY y_size y_good y_source s n (q + 1) (k + 1) (sy + 1) done va (upd bg k (nI (q + 1))) (upd tm k (nI 1))) := by
  refine ⟨fun z pY hY => h pY (fun y_count y_kinds y_vals fuel hf => ?_), fun z pY hY => h pY (fun y_count y_kinds y_vals fuel hf => ?_)⟩
  · obtain ⟨f, rfl⟩ : ∃ f, fuel = f + 1 := ⟨fuel - 1, by omega⟩
    exact qy_s_q hn hc hsy hl hq hs hsc hE hM hm hk hv (fun _ a b c => hY a b c f (by omega)) (fun y => absurd z y)
  · obtain ⟨f, rfl⟩ : ∃ f, fuel = f + 1 := ⟨fuel - 1, by omega⟩
    exact qy_s_q hn hc hsy hl hq hs hsc hE hM hm hk hv (fun y => absurd y z) (fun _ a b c => hY a b c f (by omega))
theorem qy_YR_h {d m : Nat} (h : qy_YR WY y_size y_good y_source s n p k sy done va bg tm) (hn : n ≤ 80) (hsy : sy < 58320) (hl : s p = 35) (hd : d ≤ 9) (hs1 : s (p + 1) = nI (48 + d)) (hs : s (p + 2) = 123) (hM : qm_Mt s (p + 2) m) (hm : m < n) (hk : k < 4) : (d = 0 → qy_YR WY y_size y_good y_source s n (m + 1) k (sy + 1) done va bg tm) ∧ (0 < d → qy_YR WY y_size y_good y_source s n (p + 3) (k + 1) (sy + 1) done va (upd bg k (nI (p + 3))) (upd tm k (nI d))) := by
  refine ⟨fun z pY hY => h pY (fun y_count y_kinds y_vals fuel hf => ?_), fun z pY hY => h pY (fun y_count y_kinds y_vals fuel hf => ?_)⟩
  · obtain ⟨f, rfl⟩ : ∃ f, fuel = f + 1 := ⟨fuel - 1, by omega⟩
    exact qy_s_h hn hsy hl hd hs1 hs hM hm hk (fun _ => hY _ _ _ f (by omega)) (fun y => absurd y (by omega))
  · obtain ⟨f, rfl⟩ : ∃ f, fuel = f + 1 := ⟨fuel - 1, by omega⟩
    exact qy_s_h hn hsy hl hd hs1 hs hM hm hk (fun y => absurd y (by omega)) (fun _ => hY _ _ _ f (by omega))
theorem qy_YR_c {b t : Nat} (h : qy_YR WY y_size y_good y_source s n p (k + 1) sy done va bg tm) (hn : n ≤ 80) (hsy : sy < 58320) (hpn : p < n) (hl : s p = 125) (hk : k < 4) (hb : bg k = nI b) (ht : tm k = nI t) (ht1 : 1 ≤ t) (ht9 : t ≤ 9) : (t = 1 → qy_YR WY y_size y_good y_source s n (p + 1) k (sy + 1) done va bg (upd tm k (nI (t - 1)))) ∧ (1 < t → qy_YR WY y_size y_good y_source s n b (k + 1) (sy + 1) done va bg (upd tm k (nI (t - 1)))) := by
  refine ⟨fun z pY hY => h pY (fun y_count y_kinds y_vals fuel hf => ?_), fun z pY hY => h pY (fun y_count y_kinds y_vals fuel hf => ?_)⟩
  · obtain ⟨f, rfl⟩ : ∃ f, fuel = f + 1 := ⟨fuel - 1, by omega⟩
    exact qy_s_c hn hsy hpn hl hk hb ht ht1 ht9 (fun _ => hY _ _ _ f (by omega)) (fun y => absurd y (by omega))
  · obtain ⟨f, rfl⟩ : ∃ f, fuel = f + 1 := ⟨fuel - 1, by omega⟩
    exact qy_s_c hn hsy hpn hl hk hb ht ht1 ht9 (fun y => absurd y (by omega)) (fun _ => hY _ _ _ f (by omega))
theorem qy_YR_end (h : qy_YR WY y_size y_good y_source s n n k sy done va bg tm) (hn : n ≤ 80) (hsy : sy ≤ 58320) (pY : Int32 → SY → Prop) (hp : ∀ (y_count : Int32) (y_kinds y_vals : Nat → Int32), pY done (y_size, nI n, y_good, y_count, y_source, s, va, y_kinds, y_vals, bg, tm)) : WY pY := by
  refine h pY (fun y_count y_kinds y_vals fuel hf => ?_)
  obtain ⟨f, rfl⟩ : ∃ f, fuel = f + 1 := ⟨fuel - 1, by omega⟩
  by_cases z : sy < 58320
  · exact br_f (nI_ge (b := 58320) z (by decide)) (br_t (nI_le (Nat.le_refl _) (by omega)) (hp _ _ _))
  · exact br_t (nI_le (a := 58320) (by omega) (by omega)) (hp _ _ _)
end
section
variable {f_size f_at f_wrong f_deep f_nodes f_trees f_waiting f_inside f_blocks f_ready f_length f_head f_tail f_running f_stored : Int32} {a_source a_kind a_left a_right a_level a_tree a_waits a_block a_op a_arg a_ring a_turnsLeft a_var : Nat → Int32}
theorem qx_run_l {post : Int32 → SX → Prop} {WY : (Int32 → SY → Prop) → Prop} {y_size y_good : Int32} {y_source s : Nat → Int32} {n L : Nat} {AD : Nat → Nat} {SS : Nat → Prop} (hn : n ≤ 80) (hc : qm_ck s n) (CP : qm_CP s AD SS a_op a_arg n L) (hb : qm_bst s n = []) (h3 : ∀ i, i ≤ n → (qm_bst s i).length ≤ 3)
    (hfin : ∀ (f_head f_tail f_running f_stored : Int32) (a_ring a_turnsLeft a_var bg tm : Nat → Int32), (∀ pY : Int32 → SY → Prop, (∀ (y_count : Int32) (y_kinds y_vals : Nat → Int32), pY f_stored (y_size, nI n, y_good, y_count, y_source, s, a_var, y_kinds, y_vals, bg, tm)) → WY pY) → post f_stored (f_size, f_at, f_wrong, f_deep, f_nodes, f_trees, f_waiting, f_inside, f_blocks, f_ready, nI L, f_head, f_tail, f_running, f_stored, a_source, a_kind, a_left, a_right, a_level, a_tree, a_waits, a_block, a_op, a_arg, a_ring, a_turnsLeft, a_var)) :
    ∀ (N : Nat) (st : List (Nat × Nat × Nat)) (p sx sy : Nat) (bg tm : Nat → Int32) (f_head f_tail f_stored : Int32) (a_ring a_turnsLeft a_var : Nat → Int32) (fuel : Nat), qm_Ph s n st p ≤ N → qm_Ok s n st p → SS p → qm_Ph s n st p + sx ≤ 58320 → qm_Ph s n st p + sy ≤ 58320 → qm_ya bg tm st → qm_xa a_op AD a_turnsLeft st → qm_qs f_head f_tail a_ring [] → qy_YR WY y_size y_good y_source s n p st.length sy f_stored a_var bg tm → 150000 - sx < fuel →
    wX_run_34 post fuel (nI (AD p)) (nI sx) f_size f_at f_wrong f_deep f_nodes f_trees f_waiting f_inside f_blocks f_ready (nI L) f_head f_tail (nI (qm_rn a_op AD st)) f_stored a_source a_kind a_left a_right a_level a_tree a_waits a_block a_op a_arg a_ring a_turnsLeft a_var := by
  obtain ⟨⟨a1, a2, a3, a4, a5⟩, LSs, CLs, BKs, ORD, SPN, BND, MON⟩ := CP
  intro N
  induction N with
  | zero =>
    intro st p sx sy bg tm f_head f_tail f_stored a_ring a_turnsLeft a_var fuel hN ok hss hx hy ya xa qs YR hf
    -- nothing is left: p = n
    have pn : p = n := by
      have g := BND p hss
      by_cases z : p = n
      · exact z
      · exfalso
        cases st with
        | nil =>
          have : qm_wS s 0 p (n - p) ≤ 0 := hN
          have g2 := qm_wS_ge s 0 p (n - p)
          omega
        | cons x st =>
          obtain ⟨q, t, m⟩ := x
          have le := qm_Mt_le ok.2.2.2.1 (i := p) (by rw [ok.1]; exact List.mem_cons_self)
          have : qm_wS s (st.length + 1) p (m + 1 - p) + (t - 1) * qm_wS s (st.length + 1) (q + 1) (m - q) + qm_Ph s n st (m + 1) ≤ 0 := hN
          have g2 := qm_wS_ge s (st.length + 1) p (m + 1 - p)
          omega
    subst pn
    obtain ⟨f, rfl⟩ : ∃ f, fuel = f + 1 := ⟨fuel - 1, by omega⟩
    refine br_f (nI_ge (b := 150000) (by omega) (by decide)) (br_t (nI_le (by omega) (by omega)) ?_)
    exact hfin _ _ _ _ _ _ _ bg tm (fun pY hp => qy_YR_end YR hn (by omega) pY hp)
  | succ N ih =>
    intro st p sx sy bg tm f_head f_tail f_stored a_ring a_turnsLeft a_var fuel hN ok hss hx hy ya xa qs YR hf
    have g := BND p hss
    by_cases pn : p = n
    · subst pn
      obtain ⟨f, rfl⟩ : ∃ f, fuel = f + 1 := ⟨fuel - 1, by omega⟩
      refine br_f (nI_ge (b := 150000) (by omega) (by decide)) (br_t (nI_le (by omega) (by omega)) ?_)
      exact hfin _ _ _ _ _ _ _ bg tm (fun pY hp => qy_YR_end YR hn (by omega) pY hp)
    · have hp : p < n := by omega
      have sl := qm_Ok_len ok
      have d3 := h3 p g.1
      have k4 : st.length < 4 := by omega
      have rl := qm_rn_le a_op AD st
      rcases LSs p hp hss with ⟨c1, q, C, q1, q2, q3, q4, q5, q6, q7, q8, q9, q10, q11⟩ | ⟨c1, q, C, q1, q2, q3, q5, q6, q7, q8, q10, q11⟩ | ⟨c1, d, d1, d2, d4, d5, d6, d7, d8, d9⟩ | ⟨c1, _, e1⟩
      · -- an assignment
        have bq : qm_bst s (q + 1) = qm_bst s p := by
          have := qm_bst_k (s := s) (i := p) (q + 1 - p) (fun t t1 t2 => by
            by_cases z1 : t = p
            · rw [z1]; have := qm_sc_st (c := s p) (Or.inr (Or.inl c1)); exact ⟨this.2.2.1, this.2.2.2.1⟩
            · by_cases z2 : t = p + 1
              · rw [z2, q4]; exact ⟨by decide, by decide⟩
              · by_cases z3 : t = q
                · rw [z3, q3]; exact ⟨by decide, by decide⟩
                · have := qm_sc_st (q5 t (by omega) (by omega)); exact ⟨this.2.2.1, this.2.2.2.1⟩)
          rw [show p + (q + 1 - p) = q + 1 from by omega] at this
          exact this
        obtain ⟨ok', ph⟩ := qm_Ph_go ok (show p ≤ q + 1 by omega) (by omega) bq
        obtain ⟨v, v1, v2⟩ := q6.2.2.2 a_var
        have Cl := q6.2.1
        have Lq := BND _ q11
        obtain ⟨i, i1, i2⟩ := qm_lt_n c1
        have ei : s p - 97 = nI i := by rw [i2, show (97 : Int32) = nI 97 from rfl, pk_sub (by omega)]; exact congrArg nI (by omega)
        have YR' := qy_YR_let YR hn hc (by omega) c1 q4 q2 q1 q3 q5 q6 v1
        rw [ei, nI_clamp (show i < 2 ^ 31 by omega)] at YR'
        obtain ⟨f, rfl⟩ : ∃ f, fuel = (f + 1) + C.length := ⟨fuel - 1 - C.length, by omega⟩
        refine qx_code (Q' := [v]) (by omega) C (AD p) sx [] f_head f_tail a_ring q7 q6.2.2.1 v2 (by rw [List.length_nil]; omega) (by omega) (by omega) qs ?_
        intro f_head f_tail a_ring qs1
        refine qx_s_store (i := i) (v := v) (by omega) (by omega) (by omega) q8 (by rw [q9]; exact ei) (by omega) qs1 ?_
        intro f_head qs2
        rw [← q10]
        exact ih st (q + 1) (sx + C.length + 1) (sy + 1) bg tm f_head f_tail (f_stored + 1) a_ring a_turnsLeft _ f (by omega) ok' q11 (by omega) (by omega) ya xa qs2 YR' (by omega)
      · -- a condition
        obtain ⟨m, m1, M⟩ := qm_Mt_ex hb q2 q3
        have M1 := M.1
        obtain ⟨sm, sm1, r, t, r1, r2, r3⟩ := CLs m m1 M.2.1
        rw [M.2.2.1] at r1
        cases r1
        have bq : qm_bst s q = qm_bst s p := by
          have := qm_bst_k (s := s) (i := p) (q - p) (fun t t1 t2 => by
            by_cases z1 : t = p
            · rw [z1, c1]; exact ⟨by decide, by decide⟩
            · have := qm_sc_st (q5 t (by omega) (by omega)); exact ⟨this.2.2.1, this.2.2.2.1⟩)
          rw [show p + (q - p) = q from by omega] at this
          exact this
        obtain ⟨v, v1, v2⟩ := q6.2.2.2 a_var
        have Cl := q6.2.1
        have lt := qm_EX_lt q6
        have Lq := BND _ q11
        have eop : a_op (AD (q + 1) - 1) = 11 := by rw [q10, Nat.add_sub_cancel]; exact q8
        have earg := r2 eop
        rw [q10, Nat.add_sub_cancel] at earg
        have ph0 := qm_Ph_skip ok (show p ≤ q by omega) bq M m1
        have ph1 := qm_Ph_in (t := 1) ok (show p ≤ q by omega) q3 bq M m1 (by omega) (by omega)
        obtain ⟨YR0, YR1⟩ := qy_YR_q YR hn hc (by omega) c1 q2 q3 q5 q6 M m1 k4 v1
        obtain ⟨f, rfl⟩ : ∃ f, fuel = (f + 1) + C.length := ⟨fuel - 1 - C.length, by omega⟩
        refine qx_code (Q' := [v]) (by omega) C (AD p) sx [] f_head f_tail a_ring q7 q6.2.2.1 v2 (by rw [List.length_nil]; omega) (by omega) (by omega) qs ?_
        intro f_head f_tail a_ring qs1
        refine qx_s_skip (z := AD (m + 1)) (v := v) (by omega) (by omega) (by omega) q8 earg.1 qs1 ?_ ?_
        · intro v0 f_head qs2
          exact ih st (m + 1) (sx + C.length + 1) (sy + 1) bg tm f_head f_tail f_stored a_ring a_turnsLeft a_var f (by omega) ph0.1 sm1 (by omega) (by omega) ya xa qs2 (YR0 v0) (by omega)
        · intro v0 f_head qs2
          rw [← q10]
          have rn' : qm_rn a_op AD ((q, 1, m) :: st) = qm_rn a_op AD st := by
            show (if a_op (AD (q + 1) - 1) = 12 then _ else _) = _
            rw [if_neg (by rw [eop]; decide)]
          have := ih ((q, 1, m) :: st) (q + 1) (sx + C.length + 1) (sy + 1) _ _ f_head f_tail f_stored a_ring a_turnsLeft a_var f (by omega) ph1.1 q11 (by omega) (by omega) ⟨pk_us, pk_us, qm_ya_keep ya (fun j hj => ⟨pk_un (by omega), pk_un (by omega)⟩)⟩ ⟨fun z => by rw [eop] at z; exact absurd z (by decide), fun _ => rfl, xa⟩ qs2 (YR1 v0) (by omega)
          rw [rn'] at this
          exact this
      · -- a repeated block
        obtain ⟨m, m1, M⟩ := qm_Mt_ex hb d5 d4
        have M1 := M.1
        obtain ⟨sm, sm1, r, t, r1, r2, r3⟩ := CLs m m1 M.2.1
        rw [M.2.2.1] at r1
        cases r1
        have dg : qm_dg (s (p + 1)) = true := by
          rw [d2]
          have : d = 0 ∨ d = 1 ∨ d = 2 ∨ d = 3 ∨ d = 4 ∨ d = 5 ∨ d = 6 ∨ d = 7 ∨ d = 8 ∨ d = 9 := by omega
          rcases this with rfl | rfl | rfl | rfl | rfl | rfl | rfl | rfl | rfl | rfl <;> decide
        have bq : qm_bst s (p + 2) = qm_bst s p := qm_bst_k 2 (fun t t1 t2 => by
          by_cases z1 : t = p
          · rw [z1, c1]; exact ⟨by decide, by decide⟩
          · rw [show t = p + 1 from by omega]
            have := qm_sc_st (c := s (p + 1)) (Or.inl dg); exact ⟨this.2.2.1, this.2.2.2.1⟩)
        have eop : a_op (AD (p + 2 + 1) - 1) = 12 := by rw [show p + 2 + 1 = p + 3 from rfl, d8, Nat.add_sub_cancel]; exact d6
        obtain ⟨x1, x2, x3, x4, x5⟩ := r3 eop
        rw [show p + 2 + 1 = p + 3 from rfl, d8, Nat.add_sub_cancel] at x3 x5
        have Lm := BND _ sm1
        have mono := MON (p + 3) m d9 sm (by omega)
        have ph0 := qm_Ph_skip ok (show p ≤ p + 2 by omega) bq M m1
        obtain ⟨YR0, YR1⟩ := qy_YR_h YR hn (by omega) c1 d1 d2 d4 M m1 k4
        obtain ⟨f, rfl⟩ : ∃ f, fuel = f + 1 := ⟨fuel - 1, by omega⟩
        refine qx_s_turns (d := d) (e := AD m) (by omega) (by omega) (by omega) d6 d7 d1 (by omega) (by omega) (by omega) x2 x3 x5 ?_ ?_
        · intro v0
          rw [← x4]
          exact ih st (m + 1) (sx + 1) (sy + 1) bg tm f_head f_tail f_stored a_ring _ a_var f (by omega) ph0.1 sm1 (by omega) (by omega) ya (qm_xa_keep xa (fun j hj => pk_un (by omega))) qs (YR0 v0) (by omega)
        · intro v0
          have ph1 := qm_Ph_in (t := d) ok (show p ≤ p + 2 by omega) d4 bq M m1 v0 d1
          rw [show p + 2 + 1 = p + 3 from rfl] at ph1
          rw [← d8]
          have rn' : qm_rn a_op AD ((p + 2, d, m) :: st) = qm_rn a_op AD st + 1 := by
            show (if a_op (AD (p + 2 + 1) - 1) = 12 then _ else _) = _
            rw [if_pos eop]
          have := ih ((p + 2, d, m) :: st) (p + 3) (sx + 1) (sy + 1) _ _ f_head f_tail f_stored a_ring (upd a_turnsLeft (qm_rn a_op AD st) (nI d)) a_var f (by have := ph1.2; omega) ph1.1 d9 (by have := ph1.2; omega) (by have := ph1.2; omega) ⟨pk_us, pk_us, qm_ya_keep ya (fun j hj => ⟨pk_un (by omega), pk_un (by omega)⟩)⟩ ⟨fun _ => pk_us, fun z => absurd eop z, qm_xa_keep xa (fun j hj => pk_un (by omega))⟩ qs (YR1 v0) (by omega)
          rw [rn'] at this
          exact this
      · -- the end of a block
        obtain ⟨sm, sm1, r, t, r1, r2, r3⟩ := CLs p hp c1
        cases st with
        | nil => rw [ok.1] at r1; cases r1
        | cons x st =>
          obtain ⟨q, t', m⟩ := x
          have ok1 := ok.1
          rw [ok1] at r1
          have er : q = r := (List.cons.inj r1).1
          subst er
          obtain ⟨_, k2, k3, k4', k5, k6, k7, k8⟩ := ok
          obtain ⟨ph1, ph2, ph3⟩ := qm_Ph_out (s := s) (n := n) (st := st) (p := p) (q := q) (m := m) (t := t') ⟨ok1, k2, k3, k4', k5, k6, k7, k8⟩ c1
          rw [List.length_cons] at k4 YR
          obtain ⟨YR0, YR1⟩ := qy_YR_c YR hn (by omega) hp c1 (by omega) ya.1 ya.2.1 k6 k7
          have BK := BKs q k3 k2
          have rl2 := qm_rn_le a_op AD st
          rcases BK.2.2 with kk | kk
          · -- of a condition
            obtain rfl : t' = 1 := xa.2.1 (by rw [kk]; decide)
            have rn' : qm_rn a_op AD ((q, 1, m) :: st) = qm_rn a_op AD st := by
              show (if a_op (AD (q + 1) - 1) = 12 then _ else _) = _
              rw [if_neg (by rw [kk]; decide)]
            rw [rn', ← (r2 kk).2]
            exact ih st (p + 1) sx (sy + 1) bg _ f_head f_tail f_stored a_ring a_turnsLeft a_var fuel (by omega) ph2 sm1 (by omega) (by omega) (qm_ya_keep ya.2.2 (fun j hj => ⟨rfl, pk_un (by omega)⟩)) xa.2.2 qs (YR0 rfl) (by omega)
          · -- of a repeated block
            obtain ⟨x1, x2, x3, x4, x5⟩ := r3 kk
            have Lm := BND _ sm1
            have rn' : ∀ t, qm_rn a_op AD ((q, t, m) :: st) = qm_rn a_op AD st + 1 := by
              intro t
              show (if a_op (AD (q + 1) - 1) = 12 then _ else _) = _
              rw [if_pos kk]
            rw [rn']
            obtain ⟨f, rfl⟩ : ∃ f, fuel = f + 1 := ⟨fuel - 1, by omega⟩
            refine qx_s_span (t := t') (z := AD (q + 1) - 1) (by omega) (by omega) (by omega) x2 x3 (by omega) (xa.1 kk) k6 k7 ?_ ?_
            · intro t1
              rw [← x4]
              exact ih st (p + 1) (sx + 1) (sy + 1) bg _ f_head f_tail f_stored a_ring _ a_var f (by omega) ph2 sm1 (by omega) (by omega) (qm_ya_keep ya.2.2 (fun j hj => ⟨rfl, pk_un (by omega)⟩)) (qm_xa_keep xa.2.2 (fun j hj => pk_un (by omega))) qs (YR0 t1) (by omega)
            · intro t1
              obtain ⟨pb1, pb2⟩ := qm_Ph_back (s := s) (n := n) (st := st) (p := p) (q := q) (m := m) (t := t') ⟨ok1, k2, k3, k4', k5, k6, k7, k8⟩ c1 t1
              have b1 := BK.2.1
              have := ih ((q, t' - 1, m) :: st) (q + 1) (sx + 1) (sy + 1) bg _ f_head f_tail f_stored a_ring (upd a_turnsLeft (qm_rn a_op AD st) (nI (t' - 1))) a_var f (by omega) pb1 BK.1 (by omega) (by omega) ⟨ya.1, pk_us, qm_ya_keep ya.2.2 (fun j hj => ⟨rfl, pk_un (by omega)⟩)⟩ ⟨fun _ => pk_us, fun z => absurd kk z, qm_xa_keep xa.2.2 (fun j hj => pk_un (by omega))⟩ qs (YR1 t1) (by omega)
              rw [rn'] at this
              rw [show AD (q + 1) - 1 + 1 = AD (q + 1) from by omega]
              exact this
end
end
section
/-! the code belongs to the text, as far as it was read -/
section
variable {s s' : Nat → Int32} {n : Nat}
theorem qm_ag_bst (h : ∀ j, j < n → s' j = s j) : ∀ i, i ≤ n → qm_bst s' i = qm_bst s i := by
  intro i
  induction i with
  | zero => intro _; rfl
  | succ i ih =>
    intro hi
    rw [qm_bst, qm_bst, h i (by omega), ih (by omega)]
theorem qm_ag_tb {a : Nat} (h : ∀ j, j < n → s' j = s j) : ∀ d, a + d ≤ n → qm_tb s' a d = qm_tb s a d := by
  intro d
  induction d with
  | zero => intro _; rfl
  | succ d ih =>
    intro hd
    rw [qm_tb, qm_tb, h (a + d) (by omega), h (a + d - 1) (by omega), ih (by omega)]
theorem qm_ag_EX {a q : Nat} {C : List (Int32 × Int32)} (h : ∀ j, j < n → s' j = s j) (hq : q ≤ n) (e : qm_EX s a q C) : qm_EX s' a q C := by
  have lt := qm_EX_lt e
  unfold qm_EX
  rw [qm_ag_tb h (q - a) (by omega)]
  exact e
theorem qm_ag_CP {AD : Nat → Nat} {SS : Nat → Prop} {op arg : Nat → Int32} {L : Nat} (h : ∀ j, j < n → s' j = s j) (c : qm_CP s AD SS op arg n L) : qm_CP s' AD SS op arg n L := by
  obtain ⟨a, b, c, d, e, f, g⟩ := c
  refine ⟨a, ?_, ?_, ?_, ?_, ?_, g⟩
  · intro i hi hs
    rcases b i hi hs with ⟨c1, q, C, q1, q2, q3, q4, q5, q6, q7, q8, q9, q10, q11⟩ | ⟨c1, q, C, q1, q2, q3, q5, q6, q7, q8, q10, q11⟩ | ⟨c1, d, d1, d2, d4, d5, d6, d7, d8, d9⟩ | ⟨c1, z, e1⟩
    · refine Or.inl ⟨by rw [h i hi]; exact c1, q, C, q1, q2, by rw [h q q2]; exact q3, by rw [h (i + 1) (by omega)]; exact q4, fun t t1 t2 => by rw [h t (by omega)]; exact q5 t t1 t2, qm_ag_EX h (by omega) q6, q7, q8, by rw [h i hi]; exact q9, q10, q11⟩
    · exact Or.inr (Or.inl ⟨by rw [h i hi]; exact c1, q, C, q1, q2, by rw [h q q2]; exact q3, fun t t1 t2 => by rw [h t (by omega)]; exact q5 t t1 t2, qm_ag_EX h (by omega) q6, q7, q8, q10, q11⟩)
    · exact Or.inr (Or.inr (Or.inl ⟨by rw [h i hi]; exact c1, d, d1, by rw [h (i + 1) (by omega)]; exact d2, by rw [h (i + 2) (by omega)]; exact d4, d5, d6, d7, d8, d9⟩))
    · exact Or.inr (Or.inr (Or.inr ⟨by rw [h i hi]; exact c1, z, e1⟩))
  · intro m hm hs
    rw [h m hm] at hs
    obtain ⟨c1, c2, q, t, c3, c4⟩ := c m hm hs
    exact ⟨c1, c2, q, t, by rw [qm_ag_bst h m (by omega)]; exact c3, c4⟩
  · intro q hq hs
    rw [h q hq] at hs
    exact d q hq hs
  · intro q q' h1 h2 h3 h4
    rw [h q (by omega)] at h3
    rw [h q' h2] at h4
    exact e q q' h1 h2 h3 h4
  · rw [qm_ag_bst h n (Nat.le_refl n)]; exact f
end
/-! which characters are taken -/
def qm_sg (c : Int32) : Prop := c = 35 ∨ c = 38 ∨ c = 40 ∨ c = 41 ∨ c = 42 ∨ c = 43 ∨ c = 45 ∨ c = 59 ∨ c = 60 ∨ c = 61 ∨ c = 63 ∨ c = 123 ∨ c = 125
theorem qx_sg1 {post : Int32 → Prop} {c : Int32} (h : qm_sg c) (p : post 1) : wpX_isSign post c := by
  unfold wpX_isSign
  refine ⟨fun _ => p, fun h1 => ⟨fun _ => p, fun h2 => ⟨fun _ => p, fun h3 => ⟨fun _ => p, fun h4 => ⟨fun _ => p, fun h5 => ⟨fun _ => p, fun h6 => ⟨fun _ => p, fun h7 => ⟨fun _ => p, fun h8 => ⟨fun _ => p, fun h9 => ⟨fun _ => p, fun h10 => ⟨fun _ => p, fun h11 => ⟨fun _ => p, fun h12 => ⟨fun _ => p, fun h13 => ?_⟩⟩⟩⟩⟩⟩⟩⟩⟩⟩⟩⟩⟩
  exfalso
  rcases h with h | h | h | h | h | h | h | h | h | h | h | h | h <;> contradiction
theorem qx_sg0 {post : Int32 → Prop} {c : Int32} (h : ¬ qm_sg c) (p : post 0) : wpX_isSign post c := by
  unfold qm_sg at h
  simp only [not_or] at h
  obtain ⟨h1, h2, h3, h4, h5, h6, h7, h8, h9, h10, h11, h12, h13⟩ := h
  unfold wpX_isSign
  exact br_f h1 (br_f h2 (br_f h3 (br_f h4 (br_f h5 (br_f h6 (br_f h7 (br_f h8 (br_f h9 (br_f h10 (br_f h11 (br_f h12 (br_f h13 p))))))))))))
section
variable {f_size f_at f_wrong f_deep f_nodes f_trees f_waiting f_inside f_blocks f_ready f_length f_head f_tail f_running f_stored : Int32} {a_source a_kind a_left a_right a_level a_tree a_waits a_block a_op a_arg a_ring a_turnsLeft a_var : Nat → Int32}
theorem qx_feed1 {post : Int32 → SX → Prop} {c : Int32} (h : qm_dg c = true ∨ qm_lt c = true ∨ qm_sg c) (p : wX_feed_23 post c 1 f_size f_at f_wrong f_deep f_nodes f_trees f_waiting f_inside f_blocks f_ready f_length f_head f_tail f_running f_stored a_source a_kind a_left a_right a_level a_tree a_waits a_block a_op a_arg a_ring a_turnsLeft a_var) : wpX_feed post (f_size, f_at, f_wrong, f_deep, f_nodes, f_trees, f_waiting, f_inside, f_blocks, f_ready, f_length, f_head, f_tail, f_running, f_stored, a_source, a_kind, a_left, a_right, a_level, a_tree, a_waits, a_block, a_op, a_arg, a_ring, a_turnsLeft, a_var) c := by
  unfold wpX_feed
  cases g : qm_dg c with
  | true =>
    refine qx_dg1 g (br_f (by decide) ?_)
    unfold wX_feed_14
    exact br_f (by decide) p
  | false =>
    refine qx_dg0 g (br_t rfl ?_)
    cases l : qm_lt c with
    | true =>
      refine qx_lt1 l ?_
      unfold wX_feed_14
      exact br_f (by decide) p
    | false =>
      refine qx_lt0 l ?_
      unfold wX_feed_14
      refine br_t rfl (qx_sg1 ?_ p)
      rcases h with h | h | h
      · rw [g] at h; exact absurd h (by decide)
      · rw [l] at h; exact absurd h (by decide)
      · exact h
theorem qx_feed0 {post : Int32 → SX → Prop} {c : Int32} (h : ¬ (qm_dg c = true ∨ qm_lt c = true ∨ qm_sg c)) (p : post (-1) (f_size, f_at, f_wrong, f_deep, f_nodes, f_trees, f_waiting, f_inside, f_blocks, f_ready, f_length, f_head, f_tail, f_running, f_stored, a_source, a_kind, a_left, a_right, a_level, a_tree, a_waits, a_block, a_op, a_arg, a_ring, a_turnsLeft, a_var)) : wpX_feed post (f_size, f_at, f_wrong, f_deep, f_nodes, f_trees, f_waiting, f_inside, f_blocks, f_ready, f_length, f_head, f_tail, f_running, f_stored, a_source, a_kind, a_left, a_right, a_level, a_tree, a_waits, a_block, a_op, a_arg, a_ring, a_turnsLeft, a_var) c := by
  simp only [not_or] at h
  obtain ⟨h1, h2, h3⟩ := h
  have g : qm_dg c = false := by
    cases e : qm_dg c with
    | false => rfl
    | true => exact absurd e h1
  have l : qm_lt c = false := by
    cases e : qm_lt c with
    | false => rfl
    | true => exact absurd e h2
  unfold wpX_feed
  refine qx_dg0 g (br_t rfl (qx_lt0 l ?_))
  unfold wX_feed_14
  refine br_t rfl (qx_sg0 h3 ?_)
  unfold wX_feed_23
  exact br_t rfl p
end
section
variable {f_size f_end f_good f_count : Int32} {a_source a_text a_vars a_kinds a_vals a_begins a_times : Nat → Int32}
theorem qy_feed53 {post : Int32 → SY → Prop} {c z : Int32} (h : qm_dg c = true ∨ qm_lt c = true ∨ qm_io c ∨ z ≠ 0) (p : wY_feed_84 post c f_size f_end f_good f_count a_source a_text a_vars a_kinds a_vals a_begins a_times) : wY_feed_53 post c z f_size f_end f_good f_count a_source a_text a_vars a_kinds a_vals a_begins a_times := by
  unfold wY_feed_53
  cases g : qm_dg c with
  | true => exact qy_dg1 g (br_f (by decide) p)
  | false =>
    refine qy_dg0 g (br_t rfl ?_)
    cases l : qm_lt c with
    | true => exact qy_lt1 l (br_f (by decide) p)
    | false =>
      refine qy_lt0 l (br_t rfl (qy_op (fun _ => br_f (by decide) p) (fun y => br_t rfl ?_)))
      refine br_f ?_ p
      rcases h with h | h | h | h
      · rw [g] at h; exact absurd h (by decide)
      · rw [l] at h; exact absurd h (by decide)
      · exact absurd h y
      · exact h
theorem qy_feed1 {post : Int32 → SY → Prop} {c : Int32} (h : qm_dg c = true ∨ qm_lt c = true ∨ qm_sg c) (p : wY_feed_84 post c f_size f_end f_good f_count a_source a_text a_vars a_kinds a_vals a_begins a_times) : wpY_feed post (f_size, f_end, f_good, f_count, a_source, a_text, a_vars, a_kinds, a_vals, a_begins, a_times) c := by
  have q : wY_feed_48 post c f_size f_end f_good f_count a_source a_text a_vars a_kinds a_vals a_begins a_times := by
    unfold wY_feed_48
    exact qy_feed53 (Or.inr (Or.inr (Or.inr (by decide)))) p
  unfold wpY_feed
  refine ⟨fun _ => q, fun h1 => ⟨fun _ => q, fun h2 => ⟨fun _ => q, fun h3 => ⟨fun _ => q, fun h4 => ⟨fun _ => q, fun h5 => ⟨fun _ => q, fun h6 => ⟨fun _ => q, fun h7 => ⟨fun _ => q, fun h8 => ?_⟩⟩⟩⟩⟩⟩⟩⟩
  refine qy_feed53 ?_ p
  rcases h with h | h | h
  · exact Or.inl h
  · exact Or.inr (Or.inl h)
  · refine Or.inr (Or.inr (Or.inl ?_))
    rcases h with h | h | h | h | h | h | h | h | h | h | h | h | h
    · exact absurd h h4
    · rw [h]; unfold qm_io; decide
    · exact absurd h h7
    · exact absurd h h8
    · rw [h]; unfold qm_io; decide
    · rw [h]; unfold qm_io; decide
    · rw [h]; unfold qm_io; decide
    · exact absurd h h2
    · rw [h]; unfold qm_io; decide
    · exact absurd h h1
    · exact absurd h h3
    · exact absurd h h5
    · exact absurd h h6
theorem qy_feed0 {post : Int32 → SY → Prop} {c : Int32} (h : ¬ (qm_dg c = true ∨ qm_lt c = true ∨ qm_sg c)) (p : post (-1) (f_size, f_end, f_good, f_count, a_source, a_text, a_vars, a_kinds, a_vals, a_begins, a_times)) : wpY_feed post (f_size, f_end, f_good, f_count, a_source, a_text, a_vars, a_kinds, a_vals, a_begins, a_times) c := by
  have io : ¬ qm_io c := by
    intro y
    apply h
    refine Or.inr (Or.inr ?_)
    rcases qm_op2 y with ⟨y1, _⟩ | ⟨_, z | z | z⟩
    · rcases qm_op1 y1 with z | z
      · exact Or.inr (Or.inr (Or.inr (Or.inr (Or.inr (Or.inl z.1)))))
      · refine Or.inr (Or.inr (Or.inr (Or.inr (Or.inr (Or.inr (Or.inl ?_))))))
        by_cases q : c = 45
        · exact q
        · exfalso
          have e := z.2
          unfold qm_oc at e
          rw [if_neg z.1, if_neg q] at e
          revert e
          (repeat' split) <;> intro e <;> exact absurd e (by decide)
    · exact Or.inr (Or.inr (Or.inr (Or.inr (Or.inl z.1))))
    · exact Or.inr (Or.inr (Or.inr (Or.inr (Or.inr (Or.inr (Or.inr (Or.inr (Or.inl z.1))))))))
    · exact Or.inr (Or.inl z.1)
  unfold qm_sg at h
  simp only [not_or] at h
  obtain ⟨g1, l1, h1, h2, h3, h4, h5, h6, h7, h8, h9, h10, h11, h12, h13⟩ := h
  have g : qm_dg c = false := by
    cases e : qm_dg c with
    | false => rfl
    | true => exact absurd e g1
  have l : qm_lt c = false := by
    cases e : qm_lt c with
    | false => rfl
    | true => exact absurd e l1
  unfold wpY_feed
  refine br_f h10 (br_f h8 (br_f h11 (br_f h1 (br_f h12 (br_f h13 (br_f h3 (br_f h4 ?_)))))))
  unfold wY_feed_53
  exact qy_dg0 g (br_t rfl (qy_lt0 l (br_t rfl (qy_op (fun y => absurd y io) (fun _ => br_t rfl (br_t rfl p))))))
end
end
section
/-! the relation, and what is owed -/
/-- the code is the text's -/
def qm_cc (f_length : Int32) (a_op a_arg : Nat → Int32) (g_end : Int32) (b_text : Nat → Int32) : Prop := ∃ (e L : Nat) (AD : Nat → Nat) (SS : Nat → Prop), e ≤ 80 ∧ g_end = nI e ∧ f_length = nI L ∧ qm_ck b_text e ∧ qm_CP b_text AD SS a_op a_arg e L ∧ qm_bst b_text e = [] ∧ ∀ i, i ≤ e → (qm_bst b_text i).length ≤ 3
def qm_rel (f_size f_ready f_length : Int32) (a_source a_op a_arg a_var : Nat → Int32) (g_size g_end g_good : Int32) (b_source b_text b_vars : Nat → Int32) : Prop :=
  ∃ n, n ≤ 80 ∧ f_size = nI n ∧ g_size = nI n ∧ b_source = a_source ∧ b_vars = a_var ∧ qm_ck a_source n ∧ g_good = f_ready ∧ (f_ready = 0 ∨ f_ready = 1) ∧ (f_ready = 1 → qm_cc f_length a_op a_arg g_end b_text)
def i_Rel (_ : Nat) (u : SX) (v : SY) : Prop := match u with
  | (f_size, f_at, f_wrong, f_deep, f_nodes, f_trees, f_waiting, f_inside, f_blocks, f_ready, f_length, f_head, f_tail, f_running, f_stored, a_source, a_kind, a_left, a_right, a_level, a_tree, a_waits, a_block, a_op, a_arg, a_ring, a_turnsLeft, a_var) => match v with
    | (g_size, g_end, g_good, g_count, b_source, b_text, b_vars, b_kinds, b_vals, b_begins, b_times) => qm_rel f_size f_ready f_length a_source a_op a_arg a_var g_size g_end g_good b_source b_text b_vars
theorem i_up {k : Nat} {u : SX} {v : SY} (h : i_Rel k u v) : i_Rel (k + 3) u v := h
theorem i_vc0 : wpX_init (fun u => wpY_init (fun v => i_Rel 0 u v)) :=
  ⟨0, by omega, rfl, rfl, rfl, rfl, fun j hj => absurd hj (Nat.not_lt_zero j), rfl, Or.inl rfl, fun z => absurd z (by decide)⟩
theorem i_vc_feed {k : Nat} {u : SX} {v : SY} (I : i_Rel k u v) (hk : k + 3 ≤ 1536) (v1 : Int32) : wpX_feed (fun r u' => wpY_feed (fun r' v' => r' = r ∧ i_Rel (k + 3) u' v') v (lw_u16 v1)) u (lw_u16 v1) := by
  match u, v, I with
  | (f_size, f_at, f_wrong, f_deep, f_nodes, f_trees, f_waiting, f_inside, f_blocks, f_ready, f_length, f_head, f_tail, f_running, f_stored, a_source, a_kind, a_left, a_right, a_level, a_tree, a_waits, a_block, a_op, a_arg, a_ring, a_turnsLeft, a_var), (g_size, g_end, g_good, g_count, b_source, b_text, b_vars, b_kinds, b_vals, b_begins, b_times), I =>
    obtain ⟨n, n1, rfl, rfl, rfl, rfl, ck, rfl, f1, cc⟩ := I
    have nar : vp_nar .char (lw_u16 v1) = lw_u16 v1 := pk_vc v1
    by_cases h : qm_dg (lw_u16 v1) = true ∨ qm_lt (lw_u16 v1) = true ∨ qm_sg (lw_u16 v1)
    · refine qx_feed1 h ?_
      unfold wX_feed_23
      refine br_f (by decide) ?_
      by_cases z : n < 80
      · refine br_t (nI_lt (b := 80) z (by decide)) ?_
        rw [nar, nI_clamp (show n < 2 ^ 31 by omega)]
        refine ⟨vp_in_nI z (by omega), nm_e (nm_r (nI_1 n) ?_)⟩
        refine qy_feed1 h ?_
        unfold wY_feed_84
        refine br_f (fun y => by have := (nI_eq (b := 80) (by omega) (by decide)).mp y; omega) ?_
        rw [nar, nI_clamp (show n < 2 ^ 31 by omega)]
        refine ⟨vp_in_nI z (by omega), nm_e (nm_r (nI_1 n) ⟨rfl, n + 1, by omega, rfl, rfl, rfl, rfl, ?_, rfl, f1, cc⟩)⟩
        intro j hj
        by_cases y : j = n
        · rw [y, pk_us]; exact nar
        · rw [pk_un y]; exact ck j (by omega)
      · obtain rfl : n = 80 := by omega
        refine br_f (by decide) ?_
        refine qy_feed1 h ?_
        unfold wY_feed_84
        exact br_t rfl ⟨rfl, 80, n1, rfl, rfl, rfl, rfl, ck, rfl, f1, cc⟩
    · exact qx_feed0 h (qy_feed0 h ⟨rfl, n, n1, rfl, rfl, rfl, rfl, ck, rfl, f1, cc⟩)
theorem i_vc_clear {k : Nat} {u : SX} {v : SY} (I : i_Rel k u v) (hk : k + 3 ≤ 1536) : wpX_clear (fun u' => wpY_clear (fun v' => i_Rel (k + 3) u' v') v) u := by
  match u, v, I with
  | (f_size, f_at, f_wrong, f_deep, f_nodes, f_trees, f_waiting, f_inside, f_blocks, f_ready, f_length, f_head, f_tail, f_running, f_stored, a_source, a_kind, a_left, a_right, a_level, a_tree, a_waits, a_block, a_op, a_arg, a_ring, a_turnsLeft, a_var), (g_size, g_end, g_good, g_count, b_source, b_text, b_vars, b_kinds, b_vals, b_begins, b_times), I =>
    obtain ⟨n, n1, rfl, rfl, rfl, rfl, ck, rfl, f1, cc⟩ := I
    exact ⟨0, by omega, rfl, rfl, rfl, rfl, fun j hj => absurd hj (Nat.not_lt_zero j), rfl, f1, cc⟩
theorem i_vc_compile {k : Nat} {u : SX} {v : SY} (I : i_Rel k u v) (hk : k + 3 ≤ 1536) : wpX_compile (fun r u' => wpY_compile (fun r' v' => r' = r ∧ i_Rel (k + 3) u' v') v) u := by
  match u, v, I with
  | (f_size, f_at, f_wrong, f_deep, f_nodes, f_trees, f_waiting, f_inside, f_blocks, f_ready, f_length, f_head, f_tail, f_running, f_stored, a_source, a_kind, a_left, a_right, a_level, a_tree, a_waits, a_block, a_op, a_arg, a_ring, a_turnsLeft, a_var), (g_size, g_end, g_good, g_count, b_source, b_text, b_vars, b_kinds, b_vals, b_begins, b_times), I =>
    obtain ⟨n, n1, rfl, rfl, rfl, rfl, ck, rfl, f1, cc⟩ := I
    refine qx_compile n1 ck ?_ ?_
    · intro R1 f_wrong f_at f_deep f_nodes f_trees f_waiting f_inside f_blocks f_length a_kind a_left a_right a_level a_tree a_waits a_block a_op a_arg
      refine qy_compile n1 ck ?_ ?_ ?_
      · intro _
        exact ⟨rfl, n, n1, rfl, rfl, rfl, rfl, ck, rfl, Or.inl rfl, fun z => absurd z (by decide)⟩
      · intro z; exact absurd R1 z
      · intro z; rw [R1] at z; exact absurd z (by decide)
    · intro dp L fd f_at f_wrong f_nodes f_trees f_waiting f_inside a_kind a_left a_right a_level a_tree a_waits a_block a_op a_arg SP hb
      obtain ⟨⟨p1, p2, p3⟩, ⟨cl, o, d, hR⟩, e1, e2, e3, AD, SS, bl, CP⟩ := SP
      have R2 : qm_gr b_source n 0 0 59 0 0 0 0 = if dp ≤ 3 then 0 else 2 := by
        rw [hR, Nat.sub_self, hb]; rfl
      refine ⟨fun z => ?_, fun z => ?_⟩
      · have no : ¬ (3 < dp ∨ ∃ j, j < n ∧ qm_dq b_source j) := by
          intro y
          have := e2.mpr y
          rw [z] at this; exact absurd this (by decide)
        have d3 : dp ≤ 3 := by
          by_cases y : dp ≤ 3
          · exact y
          · exact absurd (Or.inl (by omega)) no
        rw [if_pos d3] at R2
        refine qy_compile n1 ck ?_ ?_ ?_
        · intro y; rw [R2] at y; exact absurd y (by decide)
        · intro _ y
          rcases y with y | y
          · rw [R2] at y; exact absurd y (by decide)
          · exact absurd (Or.inr y) no
        · intro _ _ text' ht
          refine ⟨rfl, n, n1, rfl, rfl, rfl, rfl, ck, rfl, Or.inr rfl, fun _ => ⟨n, L, AD, SS, n1, rfl, rfl, ?_, qm_ag_CP ht CP, ?_, ?_⟩⟩
          · intro j hj
            rw [ht j hj]; exact ck j hj
          · rw [qm_ag_bst ht n (Nat.le_refl n)]; exact hb
          · intro i hi
            rw [qm_ag_bst ht i hi]
            have := p3 i hi
            exact Nat.le_trans this d3
      · have f1' : fd = 1 := e1.resolve_left z
        have yes := e2.mp f1'
        have n1' : qm_gr b_source n 0 0 59 0 0 0 0 ≠ 1 := by
          rw [R2]; split <;> decide
        refine qy_compile n1 ck ?_ ?_ ?_
        · intro y; exact absurd y n1'
        · intro _ _
          exact ⟨rfl, n, n1, rfl, rfl, rfl, rfl, ck, rfl, Or.inl rfl, fun z => absurd z (by decide)⟩
        · intro y1 y2
          exfalso
          rcases yes with y | ⟨j, j1, j2⟩
          · rw [R2, if_neg (by exact Nat.not_le.mpr y)] at y1; exact absurd y1 (by decide)
          · exact y2 j j1 j2
theorem i_vc_run {k : Nat} {u : SX} {v : SY} (I : i_Rel k u v) (hk : k + 3 ≤ 1536) : wpX_run (fun r u' => wpY_run (fun r' v' => r' = r ∧ i_Rel (k + 3) u' v') v) u := by
  match u, v, I with
  | (f_size, f_at, f_wrong, f_deep, f_nodes, f_trees, f_waiting, f_inside, f_blocks, f_ready, f_length, f_head, f_tail, f_running, f_stored, a_source, a_kind, a_left, a_right, a_level, a_tree, a_waits, a_block, a_op, a_arg, a_ring, a_turnsLeft, a_var), (g_size, g_end, g_good, g_count, b_source, b_text, b_vars, b_kinds, b_vals, b_begins, b_times), I =>
    obtain ⟨n, n1, rfl, rfl, rfl, rfl, ck, rfl, f1, cc⟩ := I
    unfold wpX_run
    rcases f1 with rfl | rfl
    · refine br_t rfl ?_
      unfold wpY_run
      exact br_t rfl ⟨rfl, n, n1, rfl, rfl, rfl, rfl, ck, rfl, Or.inl rfl, cc⟩
    · refine br_f (by decide) ?_
      obtain ⟨e, L, AD, SS, q1, rfl, rfl, q4, CP, q6, q7⟩ := cc rfl
      have A0 : AD 0 = 0 := CP.1.2.2.1
      have tot := qm_wS_le b_text 0 e (fun i i1 i2 => q7 i (by omega))
      refine ⟨150001, ?_⟩
      have := qx_run_l (f_size := nI n) (f_at := f_at) (f_wrong := f_wrong) (f_deep := f_deep) (f_nodes := f_nodes) (f_trees := f_trees) (f_waiting := f_waiting) (f_inside := f_inside) (f_blocks := f_blocks) (f_ready := 1) (a_source := b_source) (a_kind := a_kind) (a_left := a_left) (a_right := a_right) (a_level := a_level) (a_tree := a_tree) (a_waits := a_waits) (a_block := a_block) (a_op := a_op) (a_arg := a_arg)
        (post := fun r u' => wpY_run (fun r' v' => r' = r ∧ i_Rel (k + 3) u' v') (nI n, nI e, 1, g_count, b_source, b_text, b_vars, b_kinds, b_vals, b_begins, b_times)) (WY := fun pY => wpY_run pY (nI n, nI e, 1, g_count, b_source, b_text, b_vars, b_kinds, b_vals, b_begins, b_times)) (y_size := nI n) (y_good := 1) (y_source := b_source) q1 q4 CP q6 q7 ?_ (qm_Ph b_text e [] 0) [] 0 0 0 b_begins b_times 0 0 0 a_ring a_turnsLeft b_vars 150001 (Nat.le_refl _) ⟨rfl, Nat.zero_le e⟩ CP.1.1 ?_ ?_ trivial trivial ⟨0, rfl, rfl, trivial⟩ ?_ (by omega)
      · rw [A0] at this
        exact this
      · intro f_head f_tail f_running f_stored a_ring a_turnsLeft a_var bg tm hY
        exact hY _ (fun y_count y_kinds y_vals => ⟨rfl, n, n1, rfl, rfl, rfl, rfl, ck, rfl, Or.inr rfl, fun _ => ⟨e, L, AD, SS, q1, rfl, rfl, q4, CP, q6, q7⟩⟩)
      · show qm_wS b_text 0 0 (e - 0) + 0 ≤ 58320
        rw [Nat.sub_zero]; omega
      · show qm_wS b_text 0 0 (e - 0) + 0 ≤ 58320
        rw [Nat.sub_zero]; omega
      · intro pY hY
        show wpY_run pY _
        unfold wpY_run
        exact br_f (by decide) ⟨58321, hY g_count b_kinds b_vals 58321 (by omega)⟩
theorem i_vc_set {k : Nat} {u : SX} {v : SY} (I : i_Rel k u v) (hk : k + 3 ≤ 1536) (v1 : Int32) (v2 : Int32) : wpX_set (fun r u' => wpY_set (fun r' v' => r' = r ∧ i_Rel (k + 3) u' v') v v1 v2) u v1 v2 := by
  match u, v, I with
  | (f_size, f_at, f_wrong, f_deep, f_nodes, f_trees, f_waiting, f_inside, f_blocks, f_ready, f_length, f_head, f_tail, f_running, f_stored, a_source, a_kind, a_left, a_right, a_level, a_tree, a_waits, a_block, a_op, a_arg, a_ring, a_turnsLeft, a_var), (g_size, g_end, g_good, g_count, b_source, b_text, b_vars, b_kinds, b_vals, b_begins, b_times), I =>
    obtain ⟨n, n1, rfl, rfl, rfl, rfl, ck, rfl, f1, cc⟩ := I
    unfold wpX_set
    by_cases h0 : v1 < 0
    · refine br_t h0 ?_
      unfold wpY_set
      exact br_t h0 ⟨rfl, n, n1, rfl, rfl, rfl, rfl, ck, rfl, f1, cc⟩
    · refine br_f h0 ?_
      by_cases h7 : v1 ≤ 7
      · obtain ⟨j, j1, rfl⟩ := nI_of2 (M := 7) (n := 7) (by decide) h0 h7
        have vi : vp_in (nI j) 8 := vp_in_nI (by omega) (by omega)
        refine br_t h7 ⟨vi, nm_e ?_⟩
        unfold wpY_set
        exact br_f h0 (br_t h7 ⟨vi, nm_e ⟨rfl, n, n1, rfl, rfl, rfl, rfl, ck, rfl, f1, cc⟩⟩)
      · refine br_f h7 ?_
        unfold wpY_set
        exact br_f h0 (br_f h7 ⟨rfl, n, n1, rfl, rfl, rfl, rfl, ck, rfl, f1, cc⟩)
theorem i_vc_get {k : Nat} {u : SX} {v : SY} (I : i_Rel k u v) (hk : k + 3 ≤ 1536) (v1 : Int32) : wpX_get (fun r => wpY_get (fun r' => r' = r ∧ i_Rel (k + 3) u v) v v1) u v1 := by
  match u, v, I with
  | (f_size, f_at, f_wrong, f_deep, f_nodes, f_trees, f_waiting, f_inside, f_blocks, f_ready, f_length, f_head, f_tail, f_running, f_stored, a_source, a_kind, a_left, a_right, a_level, a_tree, a_waits, a_block, a_op, a_arg, a_ring, a_turnsLeft, a_var), (g_size, g_end, g_good, g_count, b_source, b_text, b_vars, b_kinds, b_vals, b_begins, b_times), I =>
    have I' := I
    obtain ⟨n, n1, rfl, rfl, rfl, rfl, ck, rfl, f1, cc⟩ := I'
    unfold wpX_get
    by_cases h0 : v1 < 0
    · refine br_t h0 ?_
      unfold wpY_get
      exact br_t h0 ⟨rfl, I⟩
    · refine br_f h0 ?_
      by_cases h7 : v1 ≤ 7
      · obtain ⟨j, j1, rfl⟩ := nI_of2 (M := 7) (n := 7) (by decide) h0 h7
        have vi : vp_in (nI j) 8 := vp_in_nI (by omega) (by omega)
        refine br_t h7 ⟨vi, ?_⟩
        unfold wpY_get
        exact br_f h0 (br_t h7 ⟨vi, rfl, I⟩)
      · refine br_f h7 ?_
        unfold wpY_get
        exact br_f h0 (br_f h7 ⟨rfl, I⟩)
theorem i_vc_length {k : Nat} {u : SX} {v : SY} (I : i_Rel k u v) (hk : k + 3 ≤ 1536) : wpX_length (fun r => wpY_length (fun r' => r' = r ∧ i_Rel (k + 3) u v) v) u := by
  match u, v, I with
  | (f_size, f_at, f_wrong, f_deep, f_nodes, f_trees, f_waiting, f_inside, f_blocks, f_ready, f_length, f_head, f_tail, f_running, f_stored, a_source, a_kind, a_left, a_right, a_level, a_tree, a_waits, a_block, a_op, a_arg, a_ring, a_turnsLeft, a_var), (g_size, g_end, g_good, g_count, b_source, b_text, b_vars, b_kinds, b_vals, b_begins, b_times), I =>
    have I' := I
    obtain ⟨n, n1, rfl, rfl, rfl, rfl, ck, rfl, f1, cc⟩ := I'
    exact ⟨rfl, I⟩
theorem i_vc_compiled {k : Nat} {u : SX} {v : SY} (I : i_Rel k u v) (hk : k + 3 ≤ 1536) : wpX_compiled (fun r => wpY_compiled (fun r' => r' = r ∧ i_Rel (k + 3) u v) v) u := by
  match u, v, I with
  | (f_size, f_at, f_wrong, f_deep, f_nodes, f_trees, f_waiting, f_inside, f_blocks, f_ready, f_length, f_head, f_tail, f_running, f_stored, a_source, a_kind, a_left, a_right, a_level, a_tree, a_waits, a_block, a_op, a_arg, a_ring, a_turnsLeft, a_var), (g_size, g_end, g_good, g_count, b_source, b_text, b_vars, b_kinds, b_vals, b_begins, b_times), I =>
    have I' := I
    obtain ⟨n, n1, rfl, rfl, rfl, rfl, ck, rfl, f1, cc⟩ := I'
    rcases f1 with rfl | rfl
    · exact ⟨rfl, rfl, rfl, I⟩
    · exact ⟨rfl, rfl, rfl, I⟩
end
