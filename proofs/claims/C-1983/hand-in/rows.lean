section
theorem pk_us {f : Nat → Int32} {k : Nat} {x : Int32} : upd f k x k = x := if_pos rfl
theorem pk_un {f : Nat → Int32} {k j : Nat} {x : Int32} (h : j ≠ k) : upd f k x j = f j := if_neg h
theorem pk_sub {a b : Nat} (h : b ≤ a) : nI a - nI b = nI (a - b) := by
  obtain ⟨c, rfl⟩ : ∃ c, a = c + b := ⟨a - b, by omega⟩
  rw [← nI_add, Int32.add_sub_cancel, Nat.add_sub_cancel]
theorem pk_mul (a b : Nat) : nI a * nI b = nI (a * b) := (Int32.ofNat_mul a b).symm
theorem pk_div {a d : Nat} (ha : a < 2 ^ 31) (h0 : 0 < d) (hd : d < 2 ^ 31) : nI a / nI d = nI (a / d) := by
  apply Int32.toInt_inj.mp
  rw [lg_idiv_nonneg (by rw [nI_toInt ha]; omega) (by rw [nI_toInt hd]; omega), nI_toInt ha, nI_toInt hd, nI_toInt (Nat.lt_of_le_of_lt (Nat.div_le_self a d) ha)]
  first | rfl | exact (Int.natCast_ediv _ _).symm
theorem pk_rem {a d : Nat} (ha : a < 2 ^ 31) (h0 : 0 < d) (hd : d < 2 ^ 31) : nI a - nI a / nI d * nI d = nI (a % d) := by
  rw [pk_div ha h0 hd, pk_mul, pk_sub (Nat.div_mul_le_self a d)]
  exact congrArg nI (by have := Nat.div_add_mod' a d; omega)
theorem pk_le {x y : Int32} {A B : Prop} (a b : Nat) (f : a ≤ b → A) (g : b < a → B) (hx : x = nI a := by rfl) (hy : y = nI b := by rfl) (ha : a < 2 ^ 31 := by omega) (hb : b < 2 ^ 31 := by omega) : (x ≤ y → A) ∧ (¬ x ≤ y → B) := by
  subst hx hy
  rw [nI_leI ha hb]
  exact ⟨f, fun z => g (by omega)⟩
-- numbers of this claim
theorem sy_cl {n : Nat} (h : n < 1000) : (nI n).toNatClampNeg = n := nI_clamp (by omega)
theorem sy_pr (s t : Nat) : nI s * 16 + nI t = nI (s * 16 + t) := by
  show nI s * nI 16 + nI t = _
  rw [pk_mul, nI_add]
theorem sy_fr (s l : Nat) : nI s * 4 + nI l = nI (s * 4 + l) := by
  show nI s * nI 4 + nI l = _
  rw [pk_mul, nI_add]
theorem sy_f0 (s : Nat) : nI s * 4 = nI (s * 4 + 0) := by
  show nI s * nI 4 = _
  rw [pk_mul]; rfl
theorem sy_f1 (s : Nat) : nI s * 4 + 1 = nI (s * 4 + 1) := sy_fr s 1
theorem sy_f2 (s : Nat) : nI s * 4 + 2 = nI (s * 4 + 2) := sy_fr s 2
theorem sy_f3 (s : Nat) : nI s * 4 + 3 = nI (s * 4 + 3) := sy_fr s 3
theorem sy_dv {p : Nat} (h : p < 256) : nI p / 16 = nI (p / 16) := by
  show nI p / nI 16 = _
  exact pk_div (by omega) (by decide) (by decide)
theorem sy_rm {p : Nat} (h : p < 256) : nI p - nI p / 16 * 16 = nI (p % 16) := by
  show nI p - nI p / nI 16 * nI 16 = _
  exact pk_rem (by omega) (by decide) (by decide)
theorem sy_in {n N : Nat} (h : n < N) (hN : N < 1000) : vp_in (nI n) N := vp_in_nI h (by omega)
theorem sy_nn {n : Nat} (h : n < 1000) : ¬ nI n < 0 := nI_pos (by omega)
theorem sy_m1 : (-1 : Int32) < 0 := by decide
theorem sy_y0 : vp_nar .byte 0 = 0 := by rw [vp_nar_byte]; decide
theorem sy_y1 : vp_nar .byte 1 = 1 := by rw [vp_nar_byte]; decide
theorem sy_y2 : vp_nar .byte 2 = 2 := by rw [vp_nar_byte]; decide
theorem sy_z0 : vp_nar .boolean 0 = 0 := rfl
theorem sy_z1 : vp_nar .boolean 1 = 1 := rfl
theorem sy_10 : ¬ (1 : Int32) = 0 := by decide
theorem sy_inj {a b : Nat} (ha : a < 1000) (hb : b < 1000) (h : nI a = nI b) : a = b := (nI_eq (by omega) (by omega)).mp h
-- 0 or 1 by a Prop
noncomputable def sy_b (P : Prop) : Int32 := @ite Int32 P (Classical.propDecidable P) 1 0
theorem sy_bt {P : Prop} (h : P) : sy_b P = 1 := by unfold sy_b; rw [if_pos h]
theorem sy_bf {P : Prop} (h : ¬ P) : sy_b P = 0 := by unfold sy_b; rw [if_neg h]
theorem sy_b0 {P : Prop} : sy_b P = 0 ↔ ¬ P := by
  rcases Classical.em P with h | h
  · rw [sy_bt h]; exact ⟨fun z => absurd z sy_10, fun z => absurd h z⟩
  · rw [sy_bf h]; exact ⟨fun _ => h, fun _ => rfl⟩
theorem sy_bn (P : Prop) : narrow .boolean (.int (sy_b P)) = .int (sy_b P) := by
  rcases Classical.em P with h | h
  · rw [sy_bt h]; rfl
  · rw [sy_bf h]; rfl
theorem sy_bc {P Q : Prop} (h : P ↔ Q) : sy_b P = sy_b Q := by rw [propext h]
-- how many of the first n are not 0
def sy_c (a : Nat → Int32) : Nat → Nat
  | 0 => 0
  | k + 1 => sy_c a k + (if a k = 0 then 0 else 1)
theorem sy_c_le (a : Nat → Int32) : ∀ n, sy_c a n ≤ n
  | 0 => Nat.le_refl _
  | k + 1 => by
    have := sy_c_le a k
    unfold sy_c
    split <;> omega
theorem sy_c_lt {a : Nat → Int32} {p : Nat} (h0 : a p = 0) : ∀ {n : Nat}, p < n → sy_c a n < n
  | 0, h => absurd h (Nat.not_lt_zero _)
  | k + 1, h => by
    unfold sy_c
    by_cases e : p = k
    · subst e
      rw [if_pos h0]
      have := sy_c_le a p
      omega
    · have := sy_c_lt (n := k) h0 (by omega)
      split <;> omega
theorem sy_c_out {a : Nat → Int32} {p : Nat} {x : Int32} : ∀ {n : Nat}, n ≤ p → sy_c (upd a p x) n = sy_c a n
  | 0, _ => rfl
  | k + 1, h => by
    unfold sy_c
    rw [sy_c_out (n := k) (by omega), pk_un (by omega)]
theorem sy_c_up {a : Nat → Int32} {p : Nat} {x : Int32} (h0 : a p = 0) (hx : ¬ x = 0) : ∀ {n : Nat}, p < n → sy_c (upd a p x) n = sy_c a n + 1
  | 0, h => absurd h (Nat.not_lt_zero _)
  | k + 1, h => by
    unfold sy_c
    by_cases e : p = k
    · subst e
      rw [sy_c_out (Nat.le_refl _), pk_us, if_pos h0, if_neg hx]
    · rw [sy_c_up (n := k) h0 hx (by omega), pk_un (by omega)]
      omega
theorem sy_c_dn {a : Nat → Int32} {p : Nat} (h0 : ¬ a p = 0) : ∀ {n : Nat}, p < n → sy_c (upd a p 0) n + 1 = sy_c a n
  | 0, h => absurd h (Nat.not_lt_zero _)
  | k + 1, h => by
    unfold sy_c
    by_cases e : p = k
    · subst e
      rw [sy_c_out (Nat.le_refl _), pk_us, if_neg h0, if_pos rfl]
    · have := sy_c_dn (n := k) h0 (by omega)
      rw [pk_un (by omega : k ≠ p)]
      omega
theorem sy_c_z {a : Nat → Int32} : ∀ {n : Nat}, (∀ j, j < n → a j = 0) → sy_c a n = 0
  | 0, _ => rfl
  | k + 1, h => by
    unfold sy_c
    rw [sy_c_z (n := k) (fun j hj => h j (by omega)), if_pos (h k (by omega))]
end
section
-- the rule for a field: i below, j above
def sy_F (fl op : Nat → Int32) (P : Nat → Prop) (i j : Nat) : Prop :=
  fl j < 0 ∨ (¬ fl i < 0 ∧ (op i = 0 ∨ ¬ op j = 0) ∧ P ((fl i).toNatClampNeg * 16 + (fl j).toNatClampNeg))
-- the rule for a pair s, t when the pairs of P are taken as true
def sy_R (sh ar rs fl op : Nat → Int32) (P : Nat → Prop) (s t : Nat) : Prop :=
  sh t = 2 ∨ sh s = 3 ∨ (sh s = sh t
    ∧ (sh s = 4 → P ((ar t).toNatClampNeg * 16 + (ar s).toNatClampNeg) ∧ P ((rs s).toNatClampNeg * 16 + (rs t).toNatClampNeg))
    ∧ (sh s = 5 → ∀ l, l < 4 → sy_F fl op P (s * 4 + l) (t * 4 + l)))
-- the greatest set of pairs that bear each other out
def sy_G (sh ar rs fl op : Nat → Int32) (p : Nat) : Prop :=
  ∃ P : Nat → Prop, (∀ q, P q → q < 256 ∧ sy_R sh ar rs fl op P (q / 16) (q % 16)) ∧ P p
section
variable {sh ar rs fl op : Nat → Int32}
theorem sy_Fm {P Q : Nat → Prop} (h : ∀ q, P q → Q q) {i j : Nat} (H : sy_F fl op P i j) : sy_F fl op Q i j := by
  rcases H with H | ⟨a, b, c⟩
  · exact Or.inl H
  · exact Or.inr ⟨a, b, h _ c⟩
theorem sy_Rm {P Q : Nat → Prop} (h : ∀ q, P q → Q q) {s t : Nat} (H : sy_R sh ar rs fl op P s t) : sy_R sh ar rs fl op Q s t := by
  rcases H with H | H | ⟨a, b, c⟩
  · exact Or.inl H
  · exact Or.inr (Or.inl H)
  · exact Or.inr (Or.inr ⟨a, fun e => ⟨h _ (b e).1, h _ (b e).2⟩, fun e l hl => sy_Fm h (c e l hl)⟩)
theorem sy_GR {p : Nat} (h : sy_G sh ar rs fl op p) : p < 256 ∧ sy_R sh ar rs fl op (sy_G sh ar rs fl op) (p / 16) (p % 16) := by
  obtain ⟨P, hP, hp⟩ := h
  exact ⟨(hP p hp).1, sy_Rm (fun q hq => ⟨P, hP, hq⟩) (hP p hp).2⟩
-- a set that bears itself out together with G lies in G
theorem sy_Gc {P : Nat → Prop} (h : ∀ q, P q → q < 256 ∧ sy_R sh ar rs fl op (fun q => P q ∨ sy_G sh ar rs fl op q) (q / 16) (q % 16)) {p : Nat} (hp : P p) : sy_G sh ar rs fl op p := by
  refine ⟨fun q => P q ∨ sy_G sh ar rs fl op q, ?_, Or.inl hp⟩
  intro q hq
  rcases hq with hq | hq
  · exact h q hq
  · exact ⟨(sy_GR hq).1, sy_Rm (fun q h => Or.inr h) (sy_GR hq).2⟩
theorem sy_GRp {s t : Nat} (ht : t < 16) (h : sy_G sh ar rs fl op (s * 16 + t)) : sy_R sh ar rs fl op (sy_G sh ar rs fl op) s t := by
  have H := (sy_GR h).2
  rw [show (s * 16 + t) / 16 = s from by omega, show (s * 16 + t) % 16 = t from by omega] at H
  exact H
end
-- the ranges
def sy_W (sh ar rs fl : Nat → Int32) : Prop :=
  (∀ t, t < 16 → sh t = 0 ∨ sh t = 1 ∨ sh t = 2 ∨ sh t = 3 ∨ sh t = 4 ∨ sh t = 5)
  ∧ (∀ t, t < 16 → ∃ a, a < 16 ∧ ar t = nI a) ∧ (∀ t, t < 16 → ∃ a, a < 16 ∧ rs t = nI a)
  ∧ (∀ i, i < 64 → fl i < 0 ∨ ∃ a, a < 16 ∧ fl i = nI a)
-- the two sides' fields agree where a record has them
def sy_A (sh fl op fl' op' : Nat → Int32) : Prop :=
  ∀ t, t < 16 → sh t = 5 → ∀ l, l < 4 → fl (t * 4 + l) = fl' (t * 4 + l) ∧ (¬ fl (t * 4 + l) < 0 → op (t * 4 + l) = op' (t * 4 + l))
section
variable {sh ar rs fl op fl' op' : Nat → Int32}
theorem sy_As (h : sy_A sh fl op fl' op') : sy_A sh fl' op' fl op := by
  intro t ht h5 l hl
  obtain ⟨a, b⟩ := h t ht h5 l hl
  exact ⟨a.symm, fun n => (b (by rw [a]; exact n)).symm⟩
theorem sy_RA (h : sy_A sh fl op fl' op') {P : Nat → Prop} {s t : Nat} (hs : s < 16) (ht : t < 16) (H : sy_R sh ar rs fl op P s t) : sy_R sh ar rs fl' op' P s t := by
  rcases H with H | H | ⟨a, b, c⟩
  · exact Or.inl H
  · exact Or.inr (Or.inl H)
  · refine Or.inr (Or.inr ⟨a, b, fun e l hl => ?_⟩)
    obtain ⟨s1, s2⟩ := h s hs e l hl
    obtain ⟨t1, t2⟩ := h t ht (a ▸ e) l hl
    rcases c e l hl with c | ⟨c1, c2, c3⟩
    · exact Or.inl (t1 ▸ c)
    · by_cases n : fl (t * 4 + l) < 0
      · exact Or.inl (t1 ▸ n)
      · refine Or.inr ⟨s1 ▸ c1, ?_, ?_⟩
        · rw [← s2 c1, ← t2 n]; exact c2
        · rw [← s1, ← t1]; exact c3
theorem sy_GA1 (h : sy_A sh fl op fl' op') {p : Nat} (H : sy_G sh ar rs fl op p) : sy_G sh ar rs fl' op' p := by
  obtain ⟨P, hP, hp⟩ := H
  refine ⟨P, fun q hq => ⟨(hP q hq).1, sy_RA h ?_ (Nat.mod_lt _ (by decide)) (hP q hq).2⟩, hp⟩
  have := (hP q hq).1
  omega
theorem sy_GA (h : sy_A sh fl op fl' op') : sy_G sh ar rs fl' op' = sy_G sh ar rs fl op :=
  funext fun _ => propext ⟨sy_GA1 (sy_As h), sy_GA1 h⟩
end
end
section
-- what is known of pairs is right
def sy_K (g : Nat → Prop) (kn : Nat → Int32) : Prop :=
  ∀ p, p < 256 → kn p = 0 ∨ (kn p = 1 ∧ g p) ∨ (kn p = 2 ∧ ¬ g p)
-- a search: n pairs listed, each marked; a pair that fails takes the one that asked for it along, and the root
def sy_S (g : Nat → Prop) (rt n : Nat) (ls ab un : Nat → Int32) : Prop :=
  n = sy_c un 256
  ∧ (∀ j, j < n → ∃ p, p < 256 ∧ ls j = nI p ∧ ¬ un p = 0)
  ∧ (∀ p, p < 256 → ¬ un p = 0 → ∃ j, j < n ∧ ls j = nI p)
  ∧ (∀ p, p < 256 → ¬ un p = 0 → (¬ g p → ¬ g rt) ∧ (ab p = -1 ∨ ∃ q, q < 256 ∧ ab p = nI q ∧ ¬ un q = 0 ∧ (¬ g p → ¬ g q)))
-- a later state of a search
def sy_E (n n' : Nat) (ls ls' un un' : Nat → Int32) : Prop :=
  n ≤ n' ∧ (∀ j, j < n → ls' j = ls j) ∧ (∀ p, ¬ un p = 0 → ¬ un' p = 0)
-- who asks for p
def sy_Q (g : Nat → Prop) (rt : Nat) (un : Nat → Int32) (ak : Int32) (p : Nat) : Prop :=
  (ak = -1 ∧ p = rt) ∨ ∃ q, q < 256 ∧ ak = nI q ∧ ¬ un q = 0 ∧ (¬ g p → ¬ g q)
theorem sy_Er (n : Nat) (ls un : Nat → Int32) : sy_E n n ls ls un un := ⟨Nat.le_refl _, fun _ _ => rfl, fun _ h => h⟩
theorem sy_Et {n n' n'' : Nat} {ls ls' ls'' un un' un'' : Nat → Int32} (h : sy_E n n' ls ls' un un') (h' : sy_E n' n'' ls' ls'' un' un'') : sy_E n n'' ls ls'' un un'' :=
  ⟨Nat.le_trans h.1 h'.1, fun j hj => (h'.2.1 j (Nat.lt_of_lt_of_le hj h.1)).trans (h.2.1 j hj), fun p hp => h'.2.2 p (h.2.2 p hp)⟩
theorem sy_Sle {g : Nat → Prop} {rt n : Nat} {ls ab un : Nat → Int32} (h : sy_S g rt n ls ab un) : n ≤ 256 := by
  rw [h.1]; exact sy_c_le un 256
theorem sy_new {g : Nat → Prop} {rt n p : Nat} {ls ab un : Nat → Int32} {ak : Int32} (hS : sy_S g rt n ls ab un) (hp : p < 256) (h0 : un p = 0) (hQ : sy_Q g rt un ak p) :
    n < 256 ∧ sy_S g rt (n + 1) (upd ls n (nI p)) (upd ab p ak) (upd un p 1) ∧ sy_E n (n + 1) ls (upd ls n (nI p)) un (upd un p 1) := by
  obtain ⟨h1, h2, h3, h4⟩ := hS
  have hn : n < 256 := by rw [h1]; exact sy_c_lt h0 hp
  have hu : ∀ q, ¬ un q = 0 → ¬ upd un p 1 q = 0 := by
    intro q hq
    by_cases e : q = p
    · subst e; exact absurd h0 hq
    · rw [pk_un e]; exact hq
  have hup : ¬ upd un p 1 p = 0 := by rw [pk_us]; exact sy_10
  refine ⟨hn, ⟨?_, ?_, ?_, ?_⟩, ⟨Nat.le_succ _, fun j hj => pk_un (Nat.ne_of_lt hj), hu⟩⟩
  · rw [sy_c_up h0 sy_10 hp, ← h1]
  · intro j hj
    by_cases e : j = n
    · subst e
      exact ⟨p, hp, pk_us, hup⟩
    · obtain ⟨q, a, b, c⟩ := h2 j (by omega)
      exact ⟨q, a, (pk_un e).trans b, hu q c⟩
  · intro q hq hm
    by_cases e : q = p
    · subst e
      exact ⟨n, Nat.lt_succ_self _, pk_us⟩
    · rw [pk_un e] at hm
      obtain ⟨j, a, b⟩ := h3 q hq hm
      exact ⟨j, by omega, (pk_un (Nat.ne_of_lt a)).trans b⟩
  · intro q hq hm
    by_cases e : q = p
    · subst e
      rw [pk_us]
      rcases hQ with ⟨a, b⟩ | ⟨r, a, b, c, d⟩
      · exact ⟨fun z => b ▸ z, Or.inl a⟩
      · exact ⟨fun z => (h4 r a c).1 (d z), Or.inr ⟨r, a, b, hu r c, d⟩⟩
    · rw [pk_un e] at hm
      rw [pk_un e]
      obtain ⟨a, b⟩ := h4 q hq hm
      refine ⟨a, ?_⟩
      rcases b with b | ⟨r, c, d, f, k⟩
      · exact Or.inl b
      · exact Or.inr ⟨r, c, d, hu r f, k⟩
theorem sy_ask {sh ar rs fl op kn ls ab un : Nat → Int32} {g : Nat → Prop} {rt n s t : Nat} {ak : Int32} {post : Int32 → SX → Prop}
    (hS : sy_S g rt n ls ab un) (hs : s < 16) (ht : t < 16) (hQ : sy_Q g rt un ak (s * 16 + t))
    (k0 : kn (s * 16 + t) = 2 → post 0 (nI n, ak, sh, ar, rs, fl, op, kn, ls, ab, un))
    (k1 : ∀ n' ls' ab' un', sy_S g rt n' ls' ab' un' → sy_E n n' ls ls' un un' → (kn (s * 16 + t) = 1 ∨ ¬ un' (s * 16 + t) = 0) → post 1 (nI n', ak, sh, ar, rs, fl, op, kn, ls', ab', un')) :
    wpX_ask post (nI n, ak, sh, ar, rs, fl, op, kn, ls, ab, un) (nI s) (nI t) := by
  have hp : s * 16 + t < 256 := by omega
  have hn := sy_Sle hS
  have hi : vp_in (nI (s * 16 + t)) 256 := sy_in hp (by decide)
  unfold wpX_ask
  intro x ex
  rw [sy_pr] at ex
  subst ex
  rw [sy_cl (n := s * 16 + t) (by omega), sy_cl (n := n) (by omega)]
  refine ⟨hi, br_c (fun h => k0 h) (fun h2 => ⟨hi, br_c (fun h => k1 n ls ab un hS (sy_Er _ _ _) (Or.inl h)) (fun h1 => ⟨hi, br_c (fun h0 => ?_) (fun h0 => k1 n ls ab un hS (sy_Er _ _ _) (Or.inr h0))⟩)⟩)⟩
  obtain ⟨hn', hS', hE⟩ := sy_new hS hp h0 hQ
  refine ⟨hi, fun a1 e1 => ⟨hi, fun a2 e2 => ⟨sy_in hn' (by decide), fun a3 e3 tk etk => ?_⟩⟩⟩
  rw [nI_1] at etk
  rw [sy_z1] at e1
  subst e1 e2 e3 etk
  exact k1 _ _ _ _ hS' hE (Or.inr (by rw [pk_us]; exact sy_10))
-- a set of pairs: proved or listed
def sy_P (kn un : Nat → Int32) (q : Nat) : Prop := q < 256 ∧ (kn q = 1 ∨ ¬ un q = 0)
theorem sy_Pm {kn un un' : Nat → Int32} (h : ∀ p, ¬ un p = 0 → ¬ un' p = 0) : ∀ q, sy_P kn un q → sy_P kn un' q := by
  intro q hq
  obtain ⟨h1, hq⟩ := hq
  rcases hq with hq | hq
  · exact ⟨h1, Or.inl hq⟩
  · exact ⟨h1, Or.inr (h q hq)⟩
theorem sy_K2 {g : Nat → Prop} {kn : Nat → Int32} (hK : sy_K g kn) {p : Nat} (hp : p < 256) (h : kn p = 2) : ¬ g p := by
  rcases hK p hp with e | ⟨e, _⟩ | ⟨_, e⟩
  · rw [e] at h; exact absurd h (by decide)
  · rw [e] at h; exact absurd h (by decide)
  · exact e
theorem sy_K1 {g : Nat → Prop} {kn : Nat → Int32} (hK : sy_K g kn) {p : Nat} (hp : p < 256) (h : kn p = 1) : g p := by
  rcases hK p hp with e | ⟨_, e⟩ | ⟨e, _⟩
  · rw [e] at h; exact absurd h (by decide)
  · exact e
  · rw [e] at h; exact absurd h (by decide)
end
section
section
variable {sh ar rs fl op kn : Nat → Int32} {g : Nat → Prop} {rt p s t : Nat} {post : Int32 → SX → Prop}
theorem sy_ffl (hW : sy_W sh ar rs fl) (hK : sy_K g kn) (hs : s < 16) (ht : t < 16) (hp : p < 256)
    (hg : g p → ∀ l, l < 4 → sy_F fl op g (s * 4 + l) (t * 4 + l)) {n0 : Nat} {ls0 un0 : Nat → Int32}
    (k0 : ∀ n ls ab un, sy_S g rt n ls ab un → sy_E n0 n ls0 ls un0 un → ¬ g p → post 0 (nI n, nI p, sh, ar, rs, fl, op, kn, ls, ab, un))
    (k1 : ∀ n ls ab un, sy_S g rt n ls ab un → sy_E n0 n ls0 ls un0 un → (∀ l, l < 4 → sy_F fl op (sy_P kn un) (s * 4 + l) (t * 4 + l)) → post 1 (nI n, nI p, sh, ar, rs, fl, op, kn, ls, ab, un)) :
    ∀ d l n ls ab un, l + d = 4 → sy_S g rt n ls ab un → ¬ un p = 0 → sy_E n0 n ls0 ls un0 un → (∀ j, j < l → sy_F fl op (sy_P kn un) (s * 4 + j) (t * 4 + j)) →
    wX_followFields_2 post (nI s) (nI t) (d + 1) (nI l) (nI n) (nI p) sh ar rs fl op kn ls ab un := by
  intro d
  induction d with
  | zero =>
    intro l n ls ab un hl hS hu hE hF
    have h4 : (4 : Int32) ≤ nI l := nI_le (a := 4) (by omega) (by omega)
    exact br_t h4 (k1 n ls ab un hS hE (fun j hj => hF j (by omega)))
  | succ d ih =>
    intro l n ls ab un hl hS hu hE hF
    have h4 : ¬ (4 : Int32) ≤ nI l := nI_ge (b := 4) (by omega) (by decide)
    refine br_f h4 ?_
    intro x4 e4 x5 e5
    rw [sy_fr] at e4 e5
    subst e4 e5
    have ia : vp_in (nI (s * 4 + l)) 64 := sy_in (by omega) (by decide)
    have ib : vp_in (nI (t * 4 + l)) 64 := sy_in (by omega) (by decide)
    have ca : (nI (s * 4 + l)).toNatClampNeg = s * 4 + l := sy_cl (by omega)
    have cb : (nI (t * 4 + l)).toNatClampNeg = t * 4 + l := sy_cl (by omega)
    rw [ca, cb]
    refine ⟨ib, ?_⟩
    by_cases hb : fl (t * 4 + l) < 0
    · refine br_t hb ?_
      intro y ey
      rw [nI_1] at ey
      subst ey
      refine ih (l + 1) n ls ab un (by omega) hS hu hE (fun j hj => ?_)
      by_cases e : j = l
      · subst e; exact Or.inl hb
      · exact hF j (by omega)
    · refine br_f hb ⟨ia, ?_⟩
      by_cases ha : fl (s * 4 + l) < 0
      · refine br_t ha (k0 n ls ab un hS hE (fun z => ?_))
        rcases hg z l (by omega) with w | w
        · exact hb w
        · exact w.1 ha
      · refine br_f ha ⟨ia, ?_⟩
        obtain ⟨a, a16, ea⟩ := (hW.2.2.2 (s * 4 + l) (by omega)).resolve_left ha
        obtain ⟨b, b16, eb⟩ := (hW.2.2.2 (t * 4 + l) (by omega)).resolve_left hb
        have cea : (fl (s * 4 + l)).toNatClampNeg = a := by rw [ea]; exact sy_cl (by omega)
        have ceb : (fl (t * 4 + l)).toNatClampNeg = b := by rw [eb]; exact sy_cl (by omega)
        have hab : ¬ g (a * 16 + b) → ¬ g p := by
          intro z w
          rcases hg w l (by omega) with v | v
          · exact hb v
          · rw [cea, ceb] at v; exact z v.2.2
        have hmid : (op (s * 4 + l) = 0 ∨ ¬ op (t * 4 + l) = 0) → wX_followFields_63 post (wX_followFields_2 post (nI s) (nI t) (d + 1)) (nI s) (nI t) (nI l) (nI (s * 4 + l)) (nI (t * 4 + l)) (nI n) (nI p) sh ar rs fl op kn ls ab un := by
          intro ho
          unfold wX_followFields_63
          rw [ca, cb, ea, eb]
          refine ⟨ia, ib, sy_ask hS a16 b16 (Or.inr ⟨p, hp, rfl, hu, hab⟩) ?_ ?_⟩
          · intro h2
            exact br_t rfl (k0 n ls ab un hS hE (hab (sy_K2 hK (by omega) h2)))
          · intro n' ls' ab' un' hS' hE' hq
            refine br_f sy_10 ?_
            intro y ey
            rw [nI_1] at ey
            subst ey
            refine ih (l + 1) n' ls' ab' un' (by omega) hS' (hE'.2.2 p hu) (sy_Et hE hE') (fun j hj => ?_)
            by_cases e : j = l
            · subst e
              refine Or.inr ⟨ha, ho, ?_⟩
              rw [cea, ceb]; exact ⟨by omega, hq⟩
            · exact sy_Fm (sy_Pm hE'.2.2) (hF j (by omega))
        by_cases o1 : op (s * 4 + l) = 0
        · exact br_t o1 (hmid (Or.inl o1))
        · refine br_f o1 ⟨ib, ?_⟩
          by_cases o2 : op (t * 4 + l) = 0
          · refine br_t o2 (k0 n ls ab un hS hE (fun z => ?_))
            rcases hg z l (by omega) with w | ⟨_, w, _⟩
            · exact hb w
            · rcases w with w | w
              · exact o1 w
              · exact w o2
          · exact br_f o2 (hmid (Or.inr o2))
theorem sy_fol (hW : sy_W sh ar rs fl) (hK : sy_K g kn) (hs : s < 16) (ht : t < 16) (hp : p < 256)
    (hg : g p → sy_R sh ar rs fl op g s t) {n : Nat} {ls ab un : Nat → Int32} (hS : sy_S g rt n ls ab un) (hu : ¬ un p = 0)
    (k0 : ∀ n' ls' ab' un', sy_S g rt n' ls' ab' un' → sy_E n n' ls ls' un un' → ¬ g p → post 0 (nI n', nI p, sh, ar, rs, fl, op, kn, ls', ab', un'))
    (k1 : ∀ n' ls' ab' un', sy_S g rt n' ls' ab' un' → sy_E n n' ls ls' un un' → sy_R sh ar rs fl op (sy_P kn un') s t → post 1 (nI n', nI p, sh, ar, rs, fl, op, kn, ls', ab', un')) :
    wpX_follow post (nI n, nI p, sh, ar, rs, fl, op, kn, ls, ab, un) (nI s) (nI t) := by
  have is : vp_in (nI s) 16 := sy_in hs (by decide)
  have it : vp_in (nI t) 16 := sy_in ht (by decide)
  have cs : (nI s).toNatClampNeg = s := sy_cl (by omega)
  have ct : (nI t).toNatClampNeg = t := sy_cl (by omega)
  unfold wpX_follow
  rw [cs, ct]
  refine ⟨is, ?_⟩
  intro x ex
  subst ex
  refine ⟨it, ?_⟩
  intro y ey
  subst ey
  by_cases h2 : sh t = 2
  · exact br_t h2 (k1 _ _ _ _ hS (sy_Er _ _ _) (Or.inl h2))
  refine br_f h2 ?_
  by_cases h3 : sh s = 3
  · exact br_t h3 (k1 _ _ _ _ hS (sy_Er _ _ _) (Or.inr (Or.inl h3)))
  refine br_f h3 ?_
  by_cases he : sh s = sh t
  case neg =>
    refine br_f he (k0 _ _ _ _ hS (sy_Er _ _ _) (fun z => ?_))
    rcases hg z with w | w | w
    · exact h2 w
    · exact h3 w
    · exact he w.1
  refine br_t he ?_
  have hg' : g p → (sh s = 4 → g ((ar t).toNatClampNeg * 16 + (ar s).toNatClampNeg) ∧ g ((rs s).toNatClampNeg * 16 + (rs t).toNatClampNeg)) ∧ (sh s = 5 → ∀ l, l < 4 → sy_F fl op g (s * 4 + l) (t * 4 + l)) := by
    intro z
    rcases hg z with w | w | w
    · exact absurd w h2
    · exact absurd w h3
    · exact w.2
  by_cases h4 : sh s = 4
  · refine br_t h4 ⟨it, is, ?_⟩
    have n5 : ¬ sh s = 5 := by rw [h4]; decide
    obtain ⟨as, as16, eas⟩ := hW.2.1 s hs
    obtain ⟨at', at16, eat⟩ := hW.2.1 t ht
    obtain ⟨rs', rs16, ers⟩ := hW.2.2.1 s hs
    obtain ⟨rt', rt16, ert⟩ := hW.2.2.1 t ht
    have c1 : (ar s).toNatClampNeg = as := by rw [eas]; exact sy_cl (by omega)
    have c2 : (ar t).toNatClampNeg = at' := by rw [eat]; exact sy_cl (by omega)
    have c3 : (rs s).toNatClampNeg = rs' := by rw [ers]; exact sy_cl (by omega)
    have c4 : (rs t).toNatClampNeg = rt' := by rw [ert]; exact sy_cl (by omega)
    rw [c1, c2, c3, c4] at hg'
    rw [eas, eat]
    have hA : ¬ g (at' * 16 + as) → ¬ g p := fun z w => z ((hg' w).1 h4).1
    have hB : ¬ g (rs' * 16 + rt') → ¬ g p := fun z w => z ((hg' w).1 h4).2
    refine sy_ask hS at16 as16 (Or.inr ⟨p, hp, rfl, hu, hA⟩) ?_ ?_
    · intro z
      exact br_t rfl (k0 _ _ _ _ hS (sy_Er _ _ _) (hA (sy_K2 hK (by omega) z)))
    · intro n' ls' ab' un' hS' hE' hq
      refine br_f sy_10 ⟨is, it, ?_⟩
      rw [ers, ert]
      refine sy_ask hS' rs16 rt16 (Or.inr ⟨p, hp, rfl, hE'.2.2 p hu, hB⟩) ?_ ?_
      · intro z
        exact br_t rfl (k0 _ _ _ _ hS' hE' (hB (sy_K2 hK (by omega) z)))
      · intro n'' ls'' ab'' un'' hS'' hE'' hq'
        refine br_f sy_10 (k1 _ _ _ _ hS'' (sy_Et hE' hE'') (Or.inr (Or.inr ⟨he, fun _ => ?_, fun z => absurd z n5⟩)))
        rw [c1, c2, c3, c4]
        exact ⟨sy_Pm hE''.2.2 _ ⟨by omega, hq⟩, by omega, hq'⟩
  refine br_f h4 ?_
  by_cases h5 : sh s = 5
  · refine br_t h5 ?_
    refine ⟨5, ?_⟩
    refine sy_ffl hW hK hs ht hp (fun z => (hg' z).2 h5) (n0 := n) (ls0 := ls) (un0 := un) ?_ ?_ 4 0 n ls ab un rfl hS hu (sy_Er _ _ _) (fun j hj => absurd hj (Nat.not_lt_zero _))
    · intro n' ls' ab' un' hS' hE' hn
      exact br_t rfl (k0 _ _ _ _ hS' hE' hn)
    · intro n' ls' ab' un' hS' hE' hF
      exact br_f sy_10 (k1 _ _ _ _ hS' hE' (Or.inr (Or.inr ⟨he, fun z => absurd z h4, fun _ => hF⟩)))
  · exact br_f h5 (k1 _ _ _ _ hS (sy_Er _ _ _) (Or.inr (Or.inr ⟨he, fun z => absurd z h4, fun z => absurd z h5⟩)))
end
end
section
section
variable {sh ar rs fl op : Nat → Int32} {g : Nat → Prop}
theorem sy_Ku {kn : Nat → Int32} {p : Nat} {x : Int32} (hK : sy_K g kn) (h : (x = 1 ∧ g p) ∨ (x = 2 ∧ ¬ g p)) : sy_K g (upd kn p x) := by
  intro q hq
  by_cases e : q = p
  · subst e; rw [pk_us]; exact Or.inr h
  · rw [pk_un e]; exact hK q hq
theorem sy_ref4 {rt n : Nat} {ls ab un : Nat → Int32} {tk ak : Int32} {post : SX → Prop} (hS : sy_S g rt n ls ab un)
    (k : ∀ kn, sy_K g kn → post (tk, ak, sh, ar, rs, fl, op, kn, ls, ab, un)) :
    ∀ d i x kn, i + d = 256 → sy_K g kn → (x = -1 ∨ ∃ q, q < 256 ∧ x = nI q ∧ ¬ un q = 0 ∧ ¬ g q) →
    wX_refute_4 post tk ak (d + 1) x (nI i) sh ar rs fl op kn ls ab un := by
  intro d
  induction d with
  | zero =>
    intro i x kn hi hK hx
    have h : (256 : Int32) ≤ nI i := nI_le (a := 256) (by omega) (by omega)
    exact br_t h (k kn hK)
  | succ d ih =>
    intro i x kn hi hK hx
    have h : ¬ (256 : Int32) ≤ nI i := nI_ge (b := 256) (by omega) (by decide)
    refine br_f h ?_
    rcases hx with rfl | ⟨q, hq, rfl, hu, hg⟩
    · exact br_t sy_m1 (k kn hK)
    · refine br_f (sy_nn (by omega)) ?_
      have iq : vp_in (nI q) 256 := sy_in hq (by decide)
      rw [sy_cl (n := q) (by omega), sy_y2]
      refine ⟨iq, ?_⟩
      intro kn' ek
      subst ek
      refine ⟨iq, ?_⟩
      intro y ey z ez
      rw [nI_1] at ez
      subst ey ez
      refine ih (i + 1) _ _ (by omega) (sy_Ku hK (Or.inr ⟨rfl, hg⟩)) ?_
      rcases (hS.2.2.2 q hq hu).2 with e | ⟨r, h1, h2, h3, h4⟩
      · exact Or.inl e
      · exact Or.inr ⟨r, h1, h2, h3, h4 hg⟩
theorem sy_ref {rt n p : Nat} {kn ls ab un : Nat → Int32} {tk ak : Int32} {post : SX → Prop} (hS : sy_S g rt n ls ab un) (hK : sy_K g kn)
    (hp : p < 256) (hu : ¬ un p = 0) (hg : ¬ g p)
    (k : ∀ kn, sy_K g kn → post (tk, ak, sh, ar, rs, fl, op, kn, ls, ab, un)) :
    wpX_refute post (tk, ak, sh, ar, rs, fl, op, kn, ls, ab, un) (nI p) :=
  ⟨257, sy_ref4 hS k 256 0 (nI p) kn rfl hK (Or.inr ⟨p, hp, rfl, hu, hg⟩)⟩
theorem sy_d115 {n : Nat} {ls ab un : Nat → Int32} {ak : Int32} {post : Int32 → SX → Prop} (hn : n ≤ 256)
    (hl : ∀ j, j < n → ∃ p, p < 256 ∧ ls j = nI p ∧ g p)
    (k : ∀ kn, sy_K g kn → post 1 (nI n, ak, sh, ar, rs, fl, op, kn, ls, ab, un)) :
    ∀ d i kn, i + d = n → sy_K g kn → wX_decide_115 post 1 (nI n) ak (d + 1) (nI i) sh ar rs fl op kn ls ab un := by
  intro d
  induction d with
  | zero =>
    intro i kn hi hK
    have h : nI n ≤ nI i := nI_le (by omega) (by omega)
    exact br_t h ⟨rfl, k kn hK⟩
  | succ d ih =>
    intro i kn hi hK
    have h : ¬ nI n ≤ nI i := nI_ge (by omega) (by omega)
    refine br_f h (br_f sy_10 ?_)
    obtain ⟨p, hp, e, hg⟩ := hl i (by omega)
    rw [sy_cl (n := i) (by omega), e, sy_cl (n := p) (by omega), sy_y1]
    refine ⟨sy_in (by omega) (by decide), sy_in hp (by decide), ?_⟩
    intro kn' ek y ey
    rw [nI_1] at ey
    subst ek ey
    exact ih (i + 1) _ (by omega) (sy_Ku hK (Or.inl ⟨rfl, hg⟩))
theorem sy_d0 {kn ls ab un : Nat → Int32} {tk ak x4 : Int32} {post : Int32 → SX → Prop}
    (k : post 0 (tk, ak, sh, ar, rs, fl, op, kn, ls, ab, un)) (m : Nat) : wX_decide_42 post (m + 1) 0 x4 tk ak sh ar rs fl op kn ls ab un := by
  have H : ∃ n115 : Nat, wX_decide_115 post 0 tk ak n115 0 sh ar rs fl op kn ls ab un :=
    ⟨1, br_c (fun _ => ⟨rfl, k⟩) (fun _ => br_t rfl ⟨rfl, k⟩)⟩
  exact br_c (fun _ => H) (fun _ => br_t rfl H)
theorem sy_d42 {rt : Nat} {kn : Nat → Int32} {post : Int32 → SX → Prop} (hW : sy_W sh ar rs fl) (hrt : rt < 256)
    (hK : sy_K (sy_G sh ar rs fl op) kn)
    (k0 : ∀ tk ak kn ls ab un, sy_K (sy_G sh ar rs fl op) kn → ¬ sy_G sh ar rs fl op rt → post 0 (tk, ak, sh, ar, rs, fl, op, kn, ls, ab, un))
    (k1 : ∀ tk ak kn ls ab un, sy_K (sy_G sh ar rs fl op) kn → sy_G sh ar rs fl op rt → post 1 (tk, ak, sh, ar, rs, fl, op, kn, ls, ab, un)) :
    ∀ d i n ak ls ab un, i + d = 257 → i ≤ n → sy_S (sy_G sh ar rs fl op) rt n ls ab un → ¬ un rt = 0 →
    (∀ j, j < i → ∀ p, p < 256 → ls j = nI p → sy_R sh ar rs fl op (sy_P kn un) (p / 16) (p % 16)) →
    wX_decide_42 post (d + 1) 1 (nI i) (nI n) ak sh ar rs fl op kn ls ab un := by
  intro d
  induction d with
  | zero =>
    intro i n ak ls ab un hi hin hS
    have := sy_Sle hS
    omega
  | succ d ih =>
    intro i n ak ls ab un hi hin hS hu hR
    have hn := sy_Sle hS
    by_cases e : i = n
    · subst e
      have h : nI i ≤ nI i := nI_le (by omega) (by omega)
      refine br_t h ⟨i + 1, ?_⟩
      have hall : ∀ p, p < 256 → ¬ un p = 0 → sy_G sh ar rs fl op p := by
        intro p hp hm
        refine sy_Gc (P := fun q => q < 256 ∧ ¬ un q = 0) ?_ ⟨hp, hm⟩
        intro q hq
        refine ⟨hq.1, ?_⟩
        obtain ⟨j, hj, ej⟩ := hS.2.2.1 q hq.1 hq.2
        refine sy_Rm ?_ (hR j hj q hq.1 ej)
        intro r hr
        rcases hr with ⟨h1, h2 | h2⟩
        · exact Or.inr (sy_K1 hK h1 h2)
        · exact Or.inl ⟨h1, h2⟩
      refine sy_d115 (g := sy_G sh ar rs fl op) hn ?_ (fun kn' hK' => k1 _ _ _ _ _ _ hK' (hall rt hrt hu)) i 0 kn (by omega) hK
      intro j hj
      obtain ⟨p, h1, h2, h3⟩ := hS.2.1 j hj
      exact ⟨p, h1, h2, hall p h1 h3⟩
    · have hlt : i < n := by omega
      have h : ¬ nI n ≤ nI i := nI_ge hlt (by omega)
      obtain ⟨p, hp, ep, hup⟩ := hS.2.1 i hlt
      have ii : vp_in (nI i) 256 := sy_in (by omega) (by decide)
      have h16 : ¬ (16 : Int32) = 0 := by decide
      refine br_f h (br_f sy_10 ?_)
      rw [sy_cl (n := i) (by omega), ep, sy_rm hp, sy_dv hp]
      refine ⟨ii, ?_⟩
      intro ak' eak
      subst eak
      refine ⟨ii, h16, ii, h16, ?_⟩
      refine sy_fol hW hK (by omega) (Nat.mod_lt _ (by decide)) hp (fun z => (sy_GR z).2) hS hup ?_ ?_
      · intro n' ls' ab' un' hS' hE' hg
        have ei : ls' i = nI p := (hE'.2.1 i hlt).trans ep
        refine br_t rfl ⟨ii, ?_⟩
        rw [ei]
        refine sy_ref hS' hK hp (hE'.2.2 p hup) hg ?_
        intro kn' hK'
        intro y ey
        exact sy_d0 (k0 _ _ _ _ _ _ hK' ((hS'.2.2.2 p hp (hE'.2.2 p hup)).1 hg)) d
      · intro n' ls' ab' un' hS' hE' hRp
        refine br_f sy_10 ?_
        intro y ey
        rw [nI_1] at ey
        subst ey
        refine ih (i + 1) n' _ ls' ab' un' (by omega) (by have := hE'.1; omega) hS' (hE'.2.2 rt hu) ?_
        intro j hj q hq ej
        by_cases eji : j = i
        · subst eji
          rw [hE'.2.1 j hlt, ep] at ej
          have := sy_inj (by omega) (by omega) ej
          subst this
          exact hRp
        · rw [hE'.2.1 j (by omega)] at ej
          exact sy_Rm (sy_Pm hE'.2.2) (hR j (by omega) q hq ej)
theorem sy_d12 {s t : Nat} {kn ls ab : Nat → Int32} {post : Int32 → SX → Prop} (hW : sy_W sh ar rs fl) (hs : s < 16) (ht : t < 16)
    (hK : sy_K (sy_G sh ar rs fl op) kn) (hz : kn (s * 16 + t) = 0)
    (k0 : ∀ tk ak kn ls ab un, sy_K (sy_G sh ar rs fl op) kn → ¬ sy_G sh ar rs fl op (s * 16 + t) → post 0 (tk, ak, sh, ar, rs, fl, op, kn, ls, ab, un))
    (k1 : ∀ tk ak kn ls ab un, sy_K (sy_G sh ar rs fl op) kn → sy_G sh ar rs fl op (s * 16 + t) → post 1 (tk, ak, sh, ar, rs, fl, op, kn, ls, ab, un)) :
    ∀ d i un, i + d = 256 → (∀ p, p < i → un p = 0) → wX_decide_12 post (nI s) (nI t) 0 (-1) (d + 1) (nI i) sh ar rs fl op kn ls ab un := by
  intro d
  induction d with
  | zero =>
    intro i un hi hun
    have h : (256 : Int32) ≤ nI i := nI_le (a := 256) (by omega) (by omega)
    have hS : sy_S (sy_G sh ar rs fl op) (s * 16 + t) 0 ls ab un :=
      ⟨(sy_c_z (fun j hj => hun j (by omega))).symm, fun j hj => absurd hj (Nat.not_lt_zero _), fun p hp hn => absurd (hun p (by omega)) hn, fun p hp hn => absurd (hun p (by omega)) hn⟩
    refine br_t h ?_
    refine sy_ask (n := 0) hS hs ht (Or.inl ⟨rfl, rfl⟩) ?_ ?_
    · intro z
      rw [hz] at z
      exact absurd z (by decide)
    · intro n' ls' ab' un' hS' hE' hq
      refine ⟨258, ?_⟩
      refine sy_d42 hW (by omega) hK k0 k1 257 0 n' (-1) ls' ab' un' rfl (Nat.zero_le _) hS' ?_ (fun j hj => absurd hj (Nat.not_lt_zero _))
      rcases hq with hq | hq
      · rw [hz] at hq
        exact absurd hq (by decide)
      · exact hq
  | succ d ih =>
    intro i un hi hun
    have h : ¬ (256 : Int32) ≤ nI i := nI_ge (b := 256) (by omega) (by decide)
    refine br_f h ⟨sy_in (by omega) (by decide), ?_⟩
    rw [sy_cl (n := i) (by omega), sy_z0]
    intro un' eu y ey
    rw [nI_1] at ey
    subst eu ey
    refine ih (i + 1) _ (by omega) (fun p hp => ?_)
    by_cases e : p = i
    · subst e; exact pk_us
    · rw [pk_un e]; exact hun p (by omega)
end
-- X's state, whatever a search has left
def sy_X (sh ar rs fl op : Nat → Int32) (u : SX) : Prop :=
  ∃ tk ak kn ls ab un, u = (tk, ak, sh, ar, rs, fl, op, kn, ls, ab, un) ∧ sy_K (sy_G sh ar rs fl op) kn
theorem sy_isu {sh ar rs fl op : Nat → Int32} {u : SX} {s t : Nat} {post : Int32 → SX → Prop} (hW : sy_W sh ar rs fl) (hu : sy_X sh ar rs fl op u) (hs : s < 16) (ht : t < 16)
    (k : ∀ u', sy_X sh ar rs fl op u' → post (sy_b (sy_G sh ar rs fl op (s * 16 + t))) u') : wpX_isSubtype post u (nI s) (nI t) := by
  obtain ⟨tk, ak, kn, ls, ab, un, rfl, hK⟩ := hu
  have hp : s * 16 + t < 256 := by omega
  unfold wpX_isSubtype
  rw [sy_pr, sy_cl (n := s * 16 + t) (by omega)]
  refine ⟨sy_in hp (by decide), ?_⟩
  intro x ex
  subst ex
  rcases hK _ hp with e | ⟨e, h⟩ | ⟨e, h⟩
  · refine br_t e ⟨257, ?_⟩
    refine sy_d12 hW hs ht hK e ?_ ?_ 256 0 un rfl (fun p hp => absurd hp (Nat.not_lt_zero _))
    · intro tk ak kn ls ab un hK' hg
      refine ⟨rfl, ?_⟩
      rw [← sy_bf hg]
      exact k _ ⟨tk, ak, kn, ls, ab, un, rfl, hK'⟩
    · intro tk ak kn ls ab un hK' hg
      refine ⟨rfl, ?_⟩
      rw [← sy_bt hg]
      exact k _ ⟨tk, ak, kn, ls, ab, un, rfl, hK'⟩
  · refine br_f (by rw [e]; decide) (br_t e ?_)
    rw [← sy_bt h]
    exact k _ ⟨tk, ak, kn, ls, ab, un, rfl, hK⟩
  · refine br_f (by rw [e]; decide) (br_f (by rw [e]; decide) ?_)
    rw [← sy_bf h]
    exact k _ ⟨tk, ak, kn, ls, ab, un, rfl, hK⟩
end
section
-- the pairs that are not struck
def sy_D (bl : Nat → Int32) (q : Nat) : Prop := q < 256 ∧ ¬ bl q = 0
def sy_B (bl : Nat → Int32) : Prop := ∀ p, p < 256 → bl p = 0 ∨ bl p = 1
section
variable {sh ar rs fl op bl : Nat → Int32} {fk : Int32}
theorem sy_DB (hb : sy_B bl) {p : Nat} (hp : p < 256) : bl p = sy_b (sy_D bl p) := by
  rcases hb p hp with e | e
  · rw [e, sy_bf (fun z => z.2 e)]
  · rw [e, sy_bt ⟨hp, by rw [e]; exact sy_10⟩]
theorem sy_fok {i j : Nat} {post : Int32 → Prop} (hW : sy_W sh ar rs fl) (hB : sy_B bl) (hi : i < 64) (hj : j < 64)
    (k : post (sy_b (sy_F fl op (sy_D bl) i j))) : wpY_fieldOk post (fk, sh, ar, rs, fl, op, bl) (nI i) (nI j) := by
  have ii : vp_in (nI i) 64 := sy_in hi (by decide)
  have ij : vp_in (nI j) 64 := sy_in hj (by decide)
  have ci : (nI i).toNatClampNeg = i := sy_cl (by omega)
  have cj : (nI j).toNatClampNeg = j := sy_cl (by omega)
  unfold wpY_fieldOk
  rw [ci, cj]
  refine ⟨ij, ?_⟩
  by_cases hb : fl j < 0
  · refine br_f (Int32.not_le.mpr hb) ?_
    rw [sy_bt (P := sy_F fl op (sy_D bl) i j) (Or.inl hb)] at k
    exact k
  refine br_t (Int32.not_lt.mp hb) ⟨ii, ?_⟩
  by_cases ha : fl i < 0
  · refine br_t ha ?_
    rw [sy_bf] at k
    · exact k
    · intro z
      rcases z with z | z
      · exact hb z
      · exact z.1 ha
  refine br_f ha ⟨ii, ?_⟩
  obtain ⟨a, a16, ea⟩ := (hW.2.2.2 i hi).resolve_left ha
  obtain ⟨b, b16, eb⟩ := (hW.2.2.2 j hj).resolve_left hb
  have cea : (fl i).toNatClampNeg = a := by rw [ea]; exact sy_cl (by omega)
  have ceb : (fl j).toNatClampNeg = b := by rw [eb]; exact sy_cl (by omega)
  have hab : a * 16 + b < 256 := by omega
  have hmid : (op i = 0 ∨ ¬ op j = 0) → wY_fieldOk_40 post (nI i) (nI j) fk sh ar rs fl op bl := by
    intro ho
    unfold wY_fieldOk_40
    rw [ci, cj, ea, eb, sy_pr, sy_cl (n := a * 16 + b) (by omega)]
    have e : sy_b (sy_F fl op (sy_D bl) i j) = bl (a * 16 + b) := by
      rw [sy_DB hB hab]
      refine sy_bc ⟨fun z => ?_, fun z => Or.inr ⟨ha, ho, ?_⟩⟩
      · rcases z with z | z
        · exact absurd z hb
        · have w := z.2.2
          rw [cea, ceb] at w
          exact w
      · rw [cea, ceb]; exact z
    rw [e] at k
    refine ⟨ii, ij, sy_in hab (by decide), ?_, k⟩
    rw [← e]
    exact sy_bn _
  by_cases o1 : op i = 0
  · exact br_t o1 (hmid (Or.inl o1))
  · refine br_f o1 ⟨ij, ?_⟩
    by_cases o2 : op j = 0
    · refine br_t o2 ?_
      rw [sy_bf] at k
      · exact k
      · intro z
        rcases z with z | ⟨_, z | z, _⟩
        · exact hb z
        · exact o1 z
        · exact z o2
    · exact br_f o2 (hmid (Or.inr o2))
theorem sy_hld {s t : Nat} {post : Int32 → Prop} (hW : sy_W sh ar rs fl) (hB : sy_B bl) (hs : s < 16) (ht : t < 16)
    (k : post (sy_b (sy_R sh ar rs fl op (sy_D bl) s t))) : wpY_holds post (fk, sh, ar, rs, fl, op, bl) (nI s) (nI t) := by
  have is : vp_in (nI s) 16 := sy_in hs (by decide)
  have it : vp_in (nI t) 16 := sy_in ht (by decide)
  have cs : (nI s).toNatClampNeg = s := sy_cl (by omega)
  have ct : (nI t).toNatClampNeg = t := sy_cl (by omega)
  unfold wpY_holds
  rw [cs, ct]
  refine ⟨it, ?_⟩
  by_cases h2 : sh t = 2
  · refine br_t h2 ?_
    rw [sy_bt (P := sy_R sh ar rs fl op (sy_D bl) s t) (Or.inl h2)] at k
    exact k
  refine br_f h2 ⟨is, ?_⟩
  by_cases h3 : sh s = 3
  · refine br_t h3 ?_
    rw [sy_bt (P := sy_R sh ar rs fl op (sy_D bl) s t) (Or.inr (Or.inl h3))] at k
    exact k
  refine br_f h3 ⟨is, it, ?_⟩
  by_cases he : sh s = sh t
  case neg =>
    refine br_f he ?_
    rw [sy_bf] at k
    · exact k
    · intro z
      rcases z with z | z | z
      · exact h2 z
      · exact h3 z
      · exact he z.1
  refine br_t he ⟨is, ?_⟩
  have e : sy_b (sy_R sh ar rs fl op (sy_D bl) s t) = sy_b ((sh s = 4 → sy_D bl ((ar t).toNatClampNeg * 16 + (ar s).toNatClampNeg) ∧ sy_D bl ((rs s).toNatClampNeg * 16 + (rs t).toNatClampNeg)) ∧ (sh s = 5 → ∀ l, l < 4 → sy_F fl op (sy_D bl) (s * 4 + l) (t * 4 + l))) := by
    refine sy_bc ⟨fun z => ?_, fun z => Or.inr (Or.inr ⟨he, z⟩)⟩
    rcases z with z | z | z
    · exact absurd z h2
    · exact absurd z h3
    · exact z.2
  rw [e] at k
  by_cases h4 : sh s = 4
  · refine br_t h4 ⟨it, is, ?_⟩
    have n5 : ¬ sh s = 5 := by rw [h4]; decide
    obtain ⟨as, as16, eas⟩ := hW.2.1 s hs
    obtain ⟨at', at16, eat⟩ := hW.2.1 t ht
    obtain ⟨rs', rs16, ers⟩ := hW.2.2.1 s hs
    obtain ⟨rt', rt16, ert⟩ := hW.2.2.1 t ht
    rw [eas, eat, ers, ert, sy_cl (n := as) (by omega), sy_cl (n := at') (by omega), sy_cl (n := rs') (by omega), sy_cl (n := rt') (by omega)] at k
    rw [eas, eat, ers, ert, sy_pr, sy_pr, sy_cl (n := at' * 16 + as) (by omega), sy_cl (n := rs' * 16 + rt') (by omega)]
    have hA : at' * 16 + as < 256 := by omega
    have hB' : rs' * 16 + rt' < 256 := by omega
    refine ⟨sy_in hA (by decide), ?_⟩
    by_cases p1 : bl (at' * 16 + as) = 0
    · refine br_t p1 ?_
      rw [sy_bf] at k
      · exact k
      · exact fun z => (z.1 h4).1.2 p1
    refine br_f p1 ⟨is, it, sy_in hB' (by decide), ?_⟩
    by_cases p2 : bl (rs' * 16 + rt') = 0
    · refine br_t p2 ?_
      rw [sy_bf] at k
      · exact k
      · exact fun z => (z.1 h4).2.2 p2
    · refine br_f p2 ?_
      rw [sy_bt ⟨fun _ => ⟨⟨hA, p1⟩, hB', p2⟩, fun z => absurd z n5⟩] at k
      exact k
  refine br_f h4 ⟨is, ?_⟩
  by_cases h5 : sh s = 5
  · refine br_t h5 ?_
    rw [sy_f0 s, sy_f0 t]
    refine sy_fok hW hB (by omega) (by omega) ?_
    by_cases f0 : sy_F fl op (sy_D bl) (s * 4 + 0) (t * 4 + 0)
    case neg =>
      rw [sy_bf f0]
      rw [sy_bf (fun z => f0 (z.2 h5 0 (by decide)))] at k
      exact br_t rfl k
    rw [sy_bt f0]
    refine br_f sy_10 ?_
    rw [← sy_f0 s, ← sy_f0 t, sy_f1 s, sy_f1 t]
    refine sy_fok hW hB (by omega) (by omega) ?_
    by_cases f1 : sy_F fl op (sy_D bl) (s * 4 + 1) (t * 4 + 1)
    case neg =>
      rw [sy_bf f1]
      rw [sy_bf (fun z => f1 (z.2 h5 1 (by decide)))] at k
      exact br_t rfl k
    rw [sy_bt f1]
    refine br_f sy_10 ?_
    rw [sy_f2 s, sy_f2 t]
    refine sy_fok hW hB (by omega) (by omega) ?_
    by_cases f2 : sy_F fl op (sy_D bl) (s * 4 + 2) (t * 4 + 2)
    case neg =>
      rw [sy_bf f2]
      rw [sy_bf (fun z => f2 (z.2 h5 2 (by decide)))] at k
      exact br_t rfl k
    rw [sy_bt f2]
    refine br_f sy_10 ?_
    rw [sy_f3 s, sy_f3 t]
    refine sy_fok hW hB (by omega) (by omega) ?_
    by_cases f3 : sy_F fl op (sy_D bl) (s * 4 + 3) (t * 4 + 3)
    case neg =>
      rw [sy_bf f3]
      rw [sy_bf (fun z => f3 (z.2 h5 3 (by decide)))] at k
      exact br_t rfl k
    rw [sy_bt f3]
    refine br_f sy_10 ?_
    have hall : ∀ l, l < 4 → sy_F fl op (sy_D bl) (s * 4 + l) (t * 4 + l) := by
      intro l hl
      rcases (by omega : l = 0 ∨ l = 1 ∨ l = 2 ∨ l = 3) with rfl | rfl | rfl | rfl
      · exact f0
      · exact f1
      · exact f2
      · exact f3
    rw [sy_bt ⟨fun z => absurd z h4, fun _ => hall⟩] at k
    exact k
  refine br_f h5 ⟨is, ?_⟩
  rw [sy_bt ⟨fun z => absurd z h4, fun z => absurd z h5⟩] at k
  by_cases h0 : sh s = 0
  · exact br_t h0 k
  refine br_f h0 ⟨is, ?_⟩
  have h1 : sh s = 1 := by
    rcases hW.1 s hs with w | w | w | w | w | w
    · exact absurd w h0
    · exact w
    · exact absurd (he ▸ w) h2
    · exact absurd w h3
    · exact absurd w h4
    · exact absurd w h5
  exact br_t h1 k
theorem sy_Gb (hg : ∀ p, sy_G sh ar rs fl op p → ¬ bl p = 0) {p : Nat} (h : ¬ sy_R sh ar rs fl op (sy_D bl) (p / 16) (p % 16)) : ¬ sy_G sh ar rs fl op p := by
  intro z
  refine h (sy_Rm ?_ (sy_GR z).2)
  intro q hq
  exact ⟨(sy_GR hq).1, hg q hq⟩
theorem sy_Bu (hB : sy_B bl) (p : Nat) : sy_B (upd bl p 0) := by
  intro q hq
  by_cases e : q = p
  · subst e; exact Or.inl pk_us
  · rw [pk_un e]; exact hB q hq
end
section
variable {sh ar rs fl op : Nat → Int32} {fk : Int32}
theorem sy_s54 {post : SY → Prop} {J : Int32 → Int32 → (Nat → Int32) → (Nat → Int32) → (Nat → Int32) → (Nat → Int32) → (Nat → Int32) → (Nat → Int32) → Prop} {kk c : Nat} (hW : sy_W sh ar rs fl)
    (k0 : ∀ bl, sy_B bl → (∀ p, sy_G sh ar rs fl op p → ¬ bl p = 0) → (∀ j, j < 256 → ¬ bl j = 0 → sy_R sh ar rs fl op (sy_D bl) (j / 16) (j % 16)) → J 0 (nI (kk + 1)) sh ar rs fl op bl)
    (k1 : ∀ bl, sy_B bl → (∀ p, sy_G sh ar rs fl op p → ¬ bl p = 0) → sy_c bl 256 < c → J 1 (nI (kk + 1)) sh ar rs fl op bl) :
    ∀ d i x1 bl, i + d = 256 → sy_B bl → (∀ p, sy_G sh ar rs fl op p → ¬ bl p = 0) →
    ((x1 = 0 ∧ sy_c bl 256 ≤ c ∧ ∀ j, j < i → ¬ bl j = 0 → sy_R sh ar rs fl op (sy_D bl) (j / 16) (j % 16)) ∨ (x1 = 1 ∧ sy_c bl 256 < c)) →
    wY_strike_54 post J (nI kk) fk (d + 1) x1 (nI i) sh ar rs fl op bl := by
  intro d
  induction d with
  | zero =>
    intro i x1 bl hi hB hg hx
    have h : (256 : Int32) ≤ nI i := nI_le (a := 256) (by omega) (by omega)
    refine br_t h ?_
    intro y ey
    rw [nI_1] at ey
    subst ey
    rcases hx with ⟨rfl, h1, h2⟩ | ⟨rfl, h1⟩
    · exact k0 bl hB hg (fun j hj => h2 j (by omega))
    · exact k1 bl hB hg h1
  | succ d ih =>
    intro i x1 bl hi hB hg hx
    have h : ¬ (256 : Int32) ≤ nI i := nI_ge (b := 256) (by omega) (by decide)
    have ii : vp_in (nI i) 256 := sy_in (by omega) (by decide)
    have h16 : ¬ (16 : Int32) = 0 := by decide
    have hi' : i < 256 := by omega
    refine br_f h ⟨ii, ?_⟩
    rw [sy_cl (n := i) (by omega)]
    by_cases hz : bl i = 0
    · refine br_t hz ?_
      intro y ey
      rw [nI_1] at ey
      subst ey
      refine ih (i + 1) x1 bl (by omega) hB hg ?_
      rcases hx with ⟨h1, h2, h3⟩ | h1
      · refine Or.inl ⟨h1, h2, fun j hj hn => ?_⟩
        by_cases e : j = i
        · subst e; exact absurd hz hn
        · exact h3 j (by omega) hn
      · exact Or.inr h1
    · refine br_f hz ⟨h16, h16, ?_⟩
      rw [sy_rm hi', sy_dv hi']
      refine sy_hld hW hB (by omega) (Nat.mod_lt _ (by decide)) ?_
      by_cases hR : sy_R sh ar rs fl op (sy_D bl) (i / 16) (i % 16)
      · rw [sy_bt hR]
        refine br_f sy_10 ?_
        intro y ey
        rw [nI_1] at ey
        subst ey
        refine ih (i + 1) x1 bl (by omega) hB hg ?_
        rcases hx with ⟨h1, h2, h3⟩ | h1
        · refine Or.inl ⟨h1, h2, fun j hj hn => ?_⟩
          by_cases e : j = i
          · subst e; exact hR
          · exact h3 j (by omega) hn
        · exact Or.inr h1
      · rw [sy_bf hR]
        refine br_t rfl ⟨ii, ?_⟩
        intro bl' eb y ey
        rw [nI_1] at ey
        rw [sy_z0] at eb
        subst eb ey
        have hc := sy_c_dn hz hi'
        refine ih (i + 1) 1 _ (by omega) (sy_Bu hB i) ?_ (Or.inr ⟨rfl, ?_⟩)
        · intro p hp
          by_cases e : p = i
          · subst e; exact absurd hp (sy_Gb hg hR)
          · rw [pk_un e]; exact hg p hp
        · rcases hx with ⟨_, h2, _⟩ | ⟨_, h2⟩ <;> omega
theorem sy_s39 {post : SY → Prop} (hW : sy_W sh ar rs fl)
    (k : ∀ bl, (∀ p, p < 256 → bl p = sy_b (sy_G sh ar rs fl op p)) → post (fk, sh, ar, rs, fl, op, bl)) :
    ∀ d kk bl, kk + d = 257 → sy_B bl → (∀ p, sy_G sh ar rs fl op p → ¬ bl p = 0) → sy_c bl 256 + kk ≤ 256 →
    wY_strike_39 post fk (d + 1) 1 (nI kk) sh ar rs fl op bl := by
  intro d
  induction d with
  | zero =>
    intro kk bl hk hB hg hc
    omega
  | succ d ih =>
    intro kk bl hk hB hg hc
    have h : ¬ (257 : Int32) ≤ nI kk := nI_ge (b := 257) (by omega) (by decide)
    refine br_f h (br_f sy_10 ⟨257, ?_⟩)
    refine sy_s54 (c := sy_c bl 256) hW ?_ ?_ 256 0 0 bl rfl hB hg (Or.inl ⟨rfl, Nat.le_refl _, fun j hj => absurd hj (Nat.not_lt_zero _)⟩)
    · intro bl' hB' hg' hR'
      have H : post (fk, sh, ar, rs, fl, op, bl') := by
        refine k bl' (fun p hp => ?_)
        rw [sy_DB hB' hp]
        refine sy_bc ⟨fun z => ?_, fun z => ⟨hp, hg' p z⟩⟩
        exact ⟨sy_D bl', fun q hq => ⟨hq.1, hR' q hq.1 hq.2⟩, z⟩
      exact br_c (fun _ => H) (fun _ => br_t rfl H)
    · intro bl' hB' hg' hc'
      exact ih (kk + 1) bl' (by omega) hB' hg' (by omega)
theorem sy_s15 {post : SY → Prop} (hW : sy_W sh ar rs fl)
    (k : ∀ bl, (∀ p, p < 256 → bl p = sy_b (sy_G sh ar rs fl op p)) → post (fk, sh, ar, rs, fl, op, bl)) :
    ∀ d i bl, i + d = 256 → (∀ p, p < i → bl p = 1) → wY_strike_15 post fk (d + 1) (nI i) sh ar rs fl op bl := by
  intro d
  induction d with
  | zero =>
    intro i bl hi hb
    have h : (256 : Int32) ≤ nI i := nI_le (a := 256) (by omega) (by omega)
    refine br_t h ⟨258, ?_⟩
    refine sy_s39 hW k 257 0 bl rfl (fun p hp => Or.inr (hb p (by omega))) ?_ (sy_c_le bl 256)
    intro p hp
    rw [hb p (by have := (sy_GR hp).1; omega)]
    exact sy_10
  | succ d ih =>
    intro i bl hi hb
    have h : ¬ (256 : Int32) ≤ nI i := nI_ge (b := 256) (by omega) (by decide)
    refine br_f h ⟨sy_in (by omega) (by decide), ?_⟩
    rw [sy_cl (n := i) (by omega), sy_z1]
    intro bl' eb y ey
    rw [nI_1] at ey
    subst eb ey
    refine ih (i + 1) _ (by omega) (fun p hp => ?_)
    by_cases e : p = i
    · subst e; exact pk_us
    · rw [pk_un e]; exact hb p (by omega)
end
-- Y's state
def sy_Y (sh ar rs fl op : Nat → Int32) (v : SY) : Prop :=
  ∃ fk bl, v = (fk, sh, ar, rs, fl, op, bl) ∧ (fk = 0 ∨ ∀ p, p < 256 → bl p = sy_b (sy_G sh ar rs fl op p))
theorem sy_bdx {j : Nat} {post : Int32 → Prop} (hj : j < 16) (k : post 0) : wpX_bad post (nI j) :=
  br_f (sy_nn (by omega)) (br_t (nI_lt (b := 16) hj (by decide)) k)
theorem sy_bdy {j : Nat} {post : Int32 → Prop} {v : SY} (hj : j < 16) (k : post 0) : wpY_bad post v (nI j) := by
  obtain ⟨a, b, c, d, e, f, g⟩ := v
  exact br_f (sy_nn (by omega)) (br_t (nI_le (b := 15) (by omega) (by decide)) k)
theorem sy_bd (v : Int32) : (∃ j, j < 16 ∧ v = nI j) ∨ ((∀ post : Int32 → Prop, post 1 → wpX_bad post v) ∧ (∀ (post : Int32 → Prop) (y : SY), post 1 → wpY_bad post y v)) := by
  by_cases h0 : v < 0
  · refine Or.inr ⟨fun post k => br_t h0 k, fun post y k => ?_⟩
    obtain ⟨a, b, c, d, e, f, g⟩ := y
    exact br_t h0 k
  · obtain ⟨j, hj, rfl⟩ := nI_of h0
    by_cases h : j < 16
    · exact Or.inl ⟨j, h, rfl⟩
    · refine Or.inr ⟨fun post k => br_f h0 (br_f (nI_nlt (b := 16) (by omega) hj) k), fun post y k => ?_⟩
      obtain ⟨a, b, c, d, e, f, g⟩ := y
      exact br_f h0 (br_f (nI_ge (a := 15) (by omega) hj) k)
theorem sy_ysu {sh ar rs fl op : Nat → Int32} {v : SY} {s t : Nat} {post : Int32 → SY → Prop} (hW : sy_W sh ar rs fl) (hv : sy_Y sh ar rs fl op v) (hs : s < 16) (ht : t < 16)
    (k : ∀ v', sy_Y sh ar rs fl op v' → post (sy_b (sy_G sh ar rs fl op (s * 16 + t))) v') : wpY_subtype post v (nI s) (nI t) := by
  obtain ⟨fk, bl, rfl, hb⟩ := hv
  have hp : s * 16 + t < 256 := by omega
  unfold wpY_subtype
  refine sy_bdy hs (br_t rfl (sy_bdy ht (br_t rfl ?_)))
  rw [sy_pr, sy_cl (n := s * 16 + t) (by omega)]
  have K : ∀ fk bl, (∀ p, p < 256 → bl p = sy_b (sy_G sh ar rs fl op p)) → vp_in (nI (s * 16 + t)) 256 ∧ (narrow .boolean (.int (bl (s * 16 + t))) = .int (bl (s * 16 + t)) ∧ (post (bl (s * 16 + t)) (fk, sh, ar, rs, fl, op, bl))) := by
    intro fk bl hb
    refine ⟨sy_in hp (by decide), ?_, ?_⟩
    · rw [hb _ hp]; exact sy_bn _
    · rw [hb _ hp]; exact k _ ⟨fk, bl, rfl, Or.inr hb⟩
  by_cases h0 : fk = 0
  · refine br_t h0 ⟨257, ?_⟩
    exact sy_s15 hW (fun bl' hb' => K 1 bl' hb') 256 0 bl rfl (fun p hp => absurd hp (Nat.not_lt_zero _))
  · refine br_f h0 ?_
    exact K fk bl (hb.resolve_left h0)
end
section
-- the answers, as pure values of the set g of pairs
noncomputable def sy_i {α : Type} (P : Prop) (a b : α) : α := @ite α P (Classical.propDecidable P) a b
theorem sy_it {α : Type} {P : Prop} {a b : α} (h : P) : sy_i P a b = a := by unfold sy_i; rw [if_pos h]
theorem sy_if {α : Type} {P : Prop} {a b : α} (h : ¬ P) : sy_i P a b = b := by unfold sy_i; rw [if_neg h]
noncomputable def sy_m (g : Nat → Prop) (t : Nat) : Nat → Int32
  | 0 => 0
  | s + 1 => sy_i (g (s * 16 + t)) (sy_m g t s ||| ((1 : Int32) <<< (nI s &&& 31))) (sy_m g t s)
def sy_fq (g : Nat → Prop) (t s : Nat) : Prop := ∀ j, j < s → ¬ (g (j * 16 + t) ∧ g (t * 16 + j))
noncomputable def sy_k (g : Nat → Prop) : Nat → Int32
  | 0 => 0
  | t + 1 => sy_i (sy_fq g t t) (sy_k g t + 1) (sy_k g t)
theorem sy_fr0 (g : Nat → Prop) (t : Nat) : sy_fq g t 0 := fun j hj => absurd hj (Nat.not_lt_zero _)
theorem sy_frt {g : Nat → Prop} {t s : Nat} (h : g (s * 16 + t) ∧ g (t * 16 + s)) : ¬ sy_fq g t (s + 1) := fun z => z s (Nat.lt_succ_self _) h
theorem sy_frf {g : Nat → Prop} {t s : Nat} (h : ¬ (g (s * 16 + t) ∧ g (t * 16 + s))) : sy_fq g t (s + 1) ↔ sy_fq g t s := by
  refine ⟨fun z j hj => z j (by omega), fun z j hj => ?_⟩
  by_cases e : j = s
  · subst e; exact h
  · exact z j (by omega)
noncomputable def sy_e (g : Nat → Prop) (s t : Nat) : Nat := sy_i (¬ g (s * 16 + t) ∧ ¬ g (t * 16 + s)) 1 0
def sy_ux (e : Nat → Nat → Nat) (s : Nat) : Nat → Nat
  | 0 => 0
  | t + 1 => sy_ux e s t + (if s < t then e s t else 0)
def sy_ox (e : Nat → Nat → Nat) (N : Nat) : Nat → Nat
  | 0 => 0
  | s + 1 => sy_ox e N s + sy_ux e s N
def sy_uy (e : Nat → Nat → Nat) (t : Nat) : Nat → Nat
  | 0 => 0
  | s + 1 => sy_uy e t s + e s t
def sy_oy (e : Nat → Nat → Nat) : Nat → Nat
  | 0 => 0
  | t + 1 => sy_oy e t + sy_uy e t t
theorem sy_ux0 (e : Nat → Nat → Nat) (s : Nat) : ∀ t, t ≤ s + 1 → sy_ux e s t = 0
  | 0, _ => rfl
  | t + 1, h => by
    unfold sy_ux
    rw [sy_ux0 e s t (by omega), if_neg (by omega)]
theorem sy_uxs {e : Nat → Nat → Nat} {s t : Nat} (h : s < t) : sy_ux e s (t + 1) = sy_ux e s t + e s t := by
  show sy_ux e s t + (if s < t then e s t else 0) = _
  rw [if_pos h]
theorem sy_oxa (e : Nat → Nat → Nat) (N : Nat) : ∀ n, n ≤ N → sy_ox e (N + 1) n = sy_ox e N n + sy_uy e N n
  | 0, _ => rfl
  | n + 1, h => by
    have := sy_oxa e N n (by omega)
    have w := sy_uxs (e := e) (s := n) (t := N) (by omega)
    show sy_ox e (N + 1) n + sy_ux e n (N + 1) = (sy_ox e N n + sy_ux e n N) + (sy_uy e N n + e n N)
    omega
theorem sy_oxy (e : Nat → Nat → Nat) : ∀ N, sy_ox e N N = sy_oy e N
  | 0 => rfl
  | N + 1 => by
    have a := sy_oxa e N N (Nat.le_refl _)
    have b := sy_ux0 e N (N + 1) (Nat.le_refl _)
    have c := sy_oxy e N
    show sy_ox e (N + 1) N + sy_ux e N (N + 1) = sy_oy e N + sy_uy e N N
    omega
end
section
section
variable {sh ar rs fl op : Nat → Int32}
theorem sy_bth {u : SX} {s t : Nat} {post : Int32 → SX → Prop} (hW : sy_W sh ar rs fl) (hu : sy_X sh ar rs fl op u) (hs : s < 16) (ht : t < 16)
    (k : ∀ u', sy_X sh ar rs fl op u' → post (sy_b (sy_G sh ar rs fl op (s * 16 + t) ∧ sy_G sh ar rs fl op (t * 16 + s))) u') : wpX_both post u (nI s) (nI t) := by
  obtain ⟨tk, ak, kn, ls, ab, un, rfl, hK⟩ := hu
  unfold wpX_both
  refine sy_isu hW ⟨tk, ak, kn, ls, ab, un, rfl, hK⟩ hs ht ?_
  intro u' hu'
  obtain ⟨tk, ak, kn, ls, ab, un, rfl, hK⟩ := hu'
  by_cases a : sy_G sh ar rs fl op (s * 16 + t)
  · rw [sy_bt a]
    refine br_f sy_10 ?_
    refine sy_isu hW ⟨tk, ak, kn, ls, ab, un, rfl, hK⟩ ht hs ?_
    intro u' hu'
    obtain ⟨tk, ak, kn, ls, ab, un, rfl, hK⟩ := hu'
    have K := k _ ⟨tk, ak, kn, ls, ab, un, rfl, hK⟩
    by_cases b : sy_G sh ar rs fl op (t * 16 + s)
    · rw [sy_bt b]
      rw [sy_bt ⟨a, b⟩] at K
      exact br_f sy_10 K
    · rw [sy_bf b]
      rw [sy_bf (fun z => b z.2)] at K
      exact br_t rfl K
  · rw [sy_bf a]
    have K := k _ ⟨tk, ak, kn, ls, ab, un, rfl, hK⟩
    rw [sy_bf (fun z => a z.1)] at K
    exact br_t rfl K
theorem sy_xm {t : Nat} {post : Int32 → SX → Prop} (hW : sy_W sh ar rs fl) (ht : t < 16)
    (k : ∀ u', sy_X sh ar rs fl op u' → post (sy_m (sy_G sh ar rs fl op) t 16) u') :
    ∀ d s tk ak kn ls ab un, s + d = 16 → sy_K (sy_G sh ar rs fl op) kn → wX_subtypes_13 post (nI t) (d + 1) (sy_m (sy_G sh ar rs fl op) t s) (nI s) tk ak sh ar rs fl op kn ls ab un := by
  intro d
  induction d with
  | zero =>
    intro s tk ak kn ls ab un hs hK
    have h : (16 : Int32) ≤ nI s := nI_le (a := 16) (by omega) (by omega)
    obtain rfl : s = 16 := by omega
    exact br_t h (k _ ⟨tk, ak, kn, ls, ab, un, rfl, hK⟩)
  | succ d ih =>
    intro s tk ak kn ls ab un hs hK
    have h : ¬ (16 : Int32) ≤ nI s := nI_ge (b := 16) (by omega) (by decide)
    refine br_f h ?_
    refine sy_isu hW ⟨tk, ak, kn, ls, ab, un, rfl, hK⟩ (by omega) ht ?_
    intro u' hu'
    obtain ⟨tk, ak, kn, ls, ab, un, rfl, hK⟩ := hu'
    have K := ih (s + 1) tk ak kn ls ab un (by omega) hK
    by_cases a : sy_G sh ar rs fl op (s * 16 + t)
    · rw [sy_bt a]
      refine br_f sy_10 ?_
      intro m em y ey
      rw [nI_1] at ey
      subst em ey
      rw [sy_m, sy_it a] at K
      exact K
    · rw [sy_bf a]
      refine br_t rfl ?_
      intro y ey
      rw [nI_1] at ey
      subst ey
      rw [sy_m, sy_if a] at K
      exact K
theorem sy_xk15 {t : Nat} {x1 : Int32} {post : Int32 → SX → Prop} {J : Int32 → Int32 → Int32 → Int32 → (Nat → Int32) → (Nat → Int32) → (Nat → Int32) → (Nat → Int32) → (Nat → Int32) → (Nat → Int32) → (Nat → Int32) → (Nat → Int32) → (Nat → Int32) → Prop} (hW : sy_W sh ar rs fl) (ht : t < 16)
    (k : ∀ tk ak kn ls ab un, sy_K (sy_G sh ar rs fl op) kn → J (sy_i (sy_fq (sy_G sh ar rs fl op) t t) (x1 + 1) x1) (nI (t + 1)) tk ak sh ar rs fl op kn ls ab un) :
    ∀ d s tk ak kn ls ab un, s + d = t → sy_K (sy_G sh ar rs fl op) kn → wX_kinds_15 post J x1 (nI t) (d + 1) (sy_b (sy_fq (sy_G sh ar rs fl op) t s)) (nI s) tk ak sh ar rs fl op kn ls ab un := by
  intro d
  induction d with
  | zero =>
    intro s tk ak kn ls ab un hs hK
    obtain rfl : s = t := by omega
    have h : nI s ≤ nI s := nI_le (by omega) (by omega)
    refine br_t h ?_
    have K := k tk ak kn ls ab un hK
    by_cases a : sy_fq (sy_G sh ar rs fl op) s s
    · rw [sy_it a] at K
      refine br_f (by rw [sy_bt a]; exact sy_10) ?_
      intro y ey z ez
      rw [nI_1] at ez
      subst ey ez
      exact K
    · rw [sy_if a] at K
      refine br_t (sy_bf a) ?_
      intro z ez
      rw [nI_1] at ez
      subst ez
      exact K
  | succ d ih =>
    intro s tk ak kn ls ab un hs hK
    have h : ¬ nI t ≤ nI s := nI_ge (by omega) (by omega)
    refine br_f h ?_
    refine sy_bth hW ⟨tk, ak, kn, ls, ab, un, rfl, hK⟩ (by omega) ht ?_
    intro u' hu'
    obtain ⟨tk, ak, kn, ls, ab, un, rfl, hK⟩ := hu'
    have K := ih (s + 1) tk ak kn ls ab un (by omega) hK
    by_cases a : sy_G sh ar rs fl op (s * 16 + t) ∧ sy_G sh ar rs fl op (t * 16 + s)
    · rw [sy_bt a]
      refine br_f sy_10 ?_
      intro y ey
      rw [nI_1] at ey
      subst ey
      rw [sy_bf (sy_frt a)] at K
      exact K
    · rw [sy_bf a]
      refine br_t rfl ?_
      intro y ey
      rw [nI_1] at ey
      subst ey
      rw [sy_bc (sy_frf a)] at K
      exact K
theorem sy_xk4 {post : Int32 → SX → Prop} (hW : sy_W sh ar rs fl)
    (k : ∀ u', sy_X sh ar rs fl op u' → post (sy_k (sy_G sh ar rs fl op) 16) u') :
    ∀ d t tk ak kn ls ab un, t + d = 16 → sy_K (sy_G sh ar rs fl op) kn → wX_kinds_4 post (d + 1) (sy_k (sy_G sh ar rs fl op) t) (nI t) tk ak sh ar rs fl op kn ls ab un := by
  intro d
  induction d with
  | zero =>
    intro t tk ak kn ls ab un ht hK
    have h : (16 : Int32) ≤ nI t := nI_le (a := 16) (by omega) (by omega)
    obtain rfl : t = 16 := by omega
    exact br_t h (k _ ⟨tk, ak, kn, ls, ab, un, rfl, hK⟩)
  | succ d ih =>
    intro t tk ak kn ls ab un ht hK
    have h : ¬ (16 : Int32) ≤ nI t := nI_ge (b := 16) (by omega) (by decide)
    refine br_f h ⟨t + 1, ?_⟩
    rw [← sy_bt (sy_fr0 (sy_G sh ar rs fl op) t)]
    refine sy_xk15 hW (by omega) ?_ t 0 tk ak kn ls ab un (by omega) hK
    intro tk ak kn ls ab un hK
    exact ih (t + 1) tk ak kn ls ab un (by omega) hK
theorem sy_e1 {g : Nat → Prop} {s t : Nat} (a : ¬ g (s * 16 + t)) (b : ¬ g (t * 16 + s)) : sy_e g s t = 1 := sy_it ⟨a, b⟩
theorem sy_ea {g : Nat → Prop} {s t : Nat} (a : g (s * 16 + t)) : sy_e g s t = 0 := sy_if fun z => z.1 a
theorem sy_eb {g : Nat → Prop} {s t : Nat} (a : g (t * 16 + s)) : sy_e g s t = 0 := sy_if fun z => z.2 a
theorem sy_xu14 {s c : Nat} {post : Int32 → SX → Prop} {J : Int32 → Int32 → Int32 → Int32 → (Nat → Int32) → (Nat → Int32) → (Nat → Int32) → (Nat → Int32) → (Nat → Int32) → (Nat → Int32) → (Nat → Int32) → (Nat → Int32) → (Nat → Int32) → Prop} (hW : sy_W sh ar rs fl) (hs : s < 16)
    (k : ∀ tk ak kn ls ab un, sy_K (sy_G sh ar rs fl op) kn → J (nI (c + sy_ux (sy_e (sy_G sh ar rs fl op)) s 16)) (nI (s + 1)) tk ak sh ar rs fl op kn ls ab un) :
    ∀ d t tk ak kn ls ab un, t + d = 16 → s < t → sy_K (sy_G sh ar rs fl op) kn → wX_unrelated_14 post J (nI s) (d + 1) (nI (c + sy_ux (sy_e (sy_G sh ar rs fl op)) s t)) (nI t) tk ak sh ar rs fl op kn ls ab un := by
  intro d
  induction d with
  | zero =>
    intro t tk ak kn ls ab un ht hst hK
    have h : (16 : Int32) ≤ nI t := nI_le (a := 16) (by omega) (by omega)
    obtain rfl : t = 16 := by omega
    refine br_t h ?_
    intro y ey
    rw [nI_1] at ey
    subst ey
    exact k tk ak kn ls ab un hK
  | succ d ih =>
    intro t tk ak kn ls ab un ht hst hK
    have h : ¬ (16 : Int32) ≤ nI t := nI_ge (b := 16) (by omega) (by decide)
    refine br_f h ?_
    refine sy_isu hW ⟨tk, ak, kn, ls, ab, un, rfl, hK⟩ hs (by omega) ?_
    intro u' hu'
    obtain ⟨tk, ak, kn, ls, ab, un, rfl, hK⟩ := hu'
    refine sy_isu hW ⟨tk, ak, kn, ls, ab, un, rfl, hK⟩ (by omega) hs ?_
    intro u' hu'
    obtain ⟨tk, ak, kn, ls, ab, un, rfl, hK⟩ := hu'
    have K := ih (t + 1) tk ak kn ls ab un (by omega) (by omega) hK
    rw [sy_uxs hst] at K
    by_cases a : sy_G sh ar rs fl op (s * 16 + t)
    · refine br_f (by rw [sy_bt a]; exact sy_10) ?_
      intro y ey
      rw [nI_1] at ey
      subst ey
      rw [sy_ea a] at K
      exact K
    · refine br_t (sy_bf a) ?_
      by_cases b : sy_G sh ar rs fl op (t * 16 + s)
      · refine br_f (by rw [sy_bt b]; exact sy_10) ?_
        intro y ey
        rw [nI_1] at ey
        subst ey
        rw [sy_eb b] at K
        exact K
      · refine br_t (sy_bf b) ?_
        intro z ez y ey
        rw [nI_1] at ey ez
        subst ey ez
        rw [sy_e1 a b] at K
        exact K
theorem sy_xu4 {post : Int32 → SX → Prop} (hW : sy_W sh ar rs fl)
    (k : ∀ u', sy_X sh ar rs fl op u' → post (nI (sy_ox (sy_e (sy_G sh ar rs fl op)) 16 16)) u') :
    ∀ d s tk ak kn ls ab un, s + d = 16 → sy_K (sy_G sh ar rs fl op) kn → wX_unrelated_4 post (d + 1) (nI (sy_ox (sy_e (sy_G sh ar rs fl op)) 16 s)) (nI s) tk ak sh ar rs fl op kn ls ab un := by
  intro d
  induction d with
  | zero =>
    intro s tk ak kn ls ab un hs hK
    have h : (16 : Int32) ≤ nI s := nI_le (a := 16) (by omega) (by omega)
    obtain rfl : s = 16 := by omega
    exact br_t h (k _ ⟨tk, ak, kn, ls, ab, un, rfl, hK⟩)
  | succ d ih =>
    intro s tk ak kn ls ab un hs hK
    have h : ¬ (16 : Int32) ≤ nI s := nI_ge (b := 16) (by omega) (by decide)
    refine br_f h ?_
    intro y ey
    rw [nI_1] at ey
    subst ey
    refine ⟨(15 - s) + 1, ?_⟩
    have K := sy_xu14 (op := op) (post := post) (J := wX_unrelated_4 post (d + 1)) (s := s) (c := sy_ox (sy_e (sy_G sh ar rs fl op)) 16 s) hW (by omega) (fun tk ak kn ls ab un hK => ih (s + 1) tk ak kn ls ab un (by omega) hK) (15 - s) (s + 1) tk ak kn ls ab un (by omega) (by omega) hK
    rw [sy_ux0 _ s (s + 1) (Nat.le_refl _), Nat.add_zero] at K
    exact K
end
end
section
section
variable {sh ar rs fl op : Nat → Int32}
theorem sy_yeq {v : SY} {s t : Nat} {post : Int32 → SY → Prop} (hW : sy_W sh ar rs fl) (hv : sy_Y sh ar rs fl op v) (hs : s < 16) (ht : t < 16)
    (k : ∀ v', sy_Y sh ar rs fl op v' → post (sy_b (sy_G sh ar rs fl op (s * 16 + t) ∧ sy_G sh ar rs fl op (t * 16 + s))) v') : wpY_equivalent post v (nI s) (nI t) := by
  obtain ⟨fk, bl, rfl, hb⟩ := hv
  unfold wpY_equivalent
  refine sy_ysu hW ⟨fk, bl, rfl, hb⟩ hs ht ?_
  intro v' hv'
  obtain ⟨fk, bl, rfl, hb⟩ := hv'
  by_cases a : sy_G sh ar rs fl op (s * 16 + t)
  · rw [sy_bt a]
    refine br_f sy_10 ?_
    refine sy_ysu hW ⟨fk, bl, rfl, hb⟩ ht hs ?_
    intro v' hv'
    obtain ⟨fk, bl, rfl, hb⟩ := hv'
    have K := k _ ⟨fk, bl, rfl, hb⟩
    by_cases b : sy_G sh ar rs fl op (t * 16 + s)
    · rw [sy_bt b]
      rw [sy_bt ⟨a, b⟩] at K
      exact br_f sy_10 K
    · rw [sy_bf b]
      rw [sy_bf (fun z => b z.2)] at K
      exact br_t rfl K
  · rw [sy_bf a]
    have K := k _ ⟨fk, bl, rfl, hb⟩
    rw [sy_bf (fun z => a z.1)] at K
    exact br_t rfl K
theorem sy_ym {t : Nat} {post : Int32 → SY → Prop} (hW : sy_W sh ar rs fl) (ht : t < 16)
    (k : ∀ v', sy_Y sh ar rs fl op v' → post (sy_m (sy_G sh ar rs fl op) t 16) v') :
    ∀ d s fk bl, s + d = 16 → (fk = 0 ∨ ∀ p, p < 256 → bl p = sy_b (sy_G sh ar rs fl op p)) → wY_subtypes_14 post (nI t) (d + 1) (sy_m (sy_G sh ar rs fl op) t s) (nI s) fk sh ar rs fl op bl := by
  intro d
  induction d with
  | zero =>
    intro s fk bl hs hb
    have h : (16 : Int32) ≤ nI s := nI_le (a := 16) (by omega) (by omega)
    obtain rfl : s = 16 := by omega
    exact br_t h (k _ ⟨fk, bl, rfl, hb⟩)
  | succ d ih =>
    intro s fk bl hs hb
    have h : ¬ (16 : Int32) ≤ nI s := nI_ge (b := 16) (by omega) (by decide)
    refine br_f h ?_
    refine sy_ysu hW ⟨fk, bl, rfl, hb⟩ (by omega) ht ?_
    intro v' hv'
    obtain ⟨fk, bl, rfl, hb⟩ := hv'
    have K := ih (s + 1) fk bl (by omega) hb
    by_cases a : sy_G sh ar rs fl op (s * 16 + t)
    · rw [sy_bt a]
      refine br_f sy_10 ?_
      intro m em y ey
      rw [nI_1] at ey
      subst em ey
      rw [sy_m, sy_it a] at K
      exact K
    · rw [sy_bf a]
      refine br_t rfl ?_
      intro y ey
      rw [nI_1] at ey
      subst ey
      rw [sy_m, sy_if a] at K
      exact K
theorem sy_yk15 {t : Nat} {x1 : Int32} {post : Int32 → SY → Prop} {J : Int32 → Int32 → Int32 → (Nat → Int32) → (Nat → Int32) → (Nat → Int32) → (Nat → Int32) → (Nat → Int32) → (Nat → Int32) → Prop} (hW : sy_W sh ar rs fl) (ht : t < 16)
    (k : ∀ fk bl, (fk = 0 ∨ ∀ p, p < 256 → bl p = sy_b (sy_G sh ar rs fl op p)) → J (sy_i (sy_fq (sy_G sh ar rs fl op) t t) (x1 + 1) x1) (nI (t + 1)) fk sh ar rs fl op bl) :
    ∀ d s fk bl, s + d = t → (fk = 0 ∨ ∀ p, p < 256 → bl p = sy_b (sy_G sh ar rs fl op p)) → wY_kinds_15 post J x1 (nI t) (d + 1) (sy_b (sy_fq (sy_G sh ar rs fl op) t s)) (nI s) fk sh ar rs fl op bl := by
  intro d
  induction d with
  | zero =>
    intro s fk bl hs hb
    obtain rfl : s = t := by omega
    have h : nI s ≤ nI s := nI_le (by omega) (by omega)
    refine br_t h ?_
    have K := k fk bl hb
    by_cases a : sy_fq (sy_G sh ar rs fl op) s s
    · rw [sy_it a] at K
      refine br_f (by rw [sy_bt a]; exact sy_10) ?_
      intro y ey z ez
      rw [nI_1] at ez
      subst ey ez
      exact K
    · rw [sy_if a] at K
      refine br_t (sy_bf a) ?_
      intro z ez
      rw [nI_1] at ez
      subst ez
      exact K
  | succ d ih =>
    intro s fk bl hs hb
    have h : ¬ nI t ≤ nI s := nI_ge (by omega) (by omega)
    refine br_f h ?_
    refine sy_yeq hW ⟨fk, bl, rfl, hb⟩ (by omega) ht ?_
    intro v' hv'
    obtain ⟨fk, bl, rfl, hb⟩ := hv'
    have K := ih (s + 1) fk bl (by omega) hb
    by_cases a : sy_G sh ar rs fl op (s * 16 + t) ∧ sy_G sh ar rs fl op (t * 16 + s)
    · rw [sy_bt a]
      refine br_f sy_10 ?_
      intro y ey
      rw [nI_1] at ey
      subst ey
      rw [sy_bf (sy_frt a)] at K
      exact K
    · rw [sy_bf a]
      refine br_t rfl ?_
      intro y ey
      rw [nI_1] at ey
      subst ey
      rw [sy_bc (sy_frf a)] at K
      exact K
theorem sy_yk4 {post : Int32 → SY → Prop} (hW : sy_W sh ar rs fl)
    (k : ∀ v', sy_Y sh ar rs fl op v' → post (sy_k (sy_G sh ar rs fl op) 16) v') :
    ∀ d t fk bl, t + d = 16 → (fk = 0 ∨ ∀ p, p < 256 → bl p = sy_b (sy_G sh ar rs fl op p)) → wY_kinds_4 post (d + 1) (sy_k (sy_G sh ar rs fl op) t) (nI t) fk sh ar rs fl op bl := by
  intro d
  induction d with
  | zero =>
    intro t fk bl ht hb
    have h : (16 : Int32) ≤ nI t := nI_le (a := 16) (by omega) (by omega)
    obtain rfl : t = 16 := by omega
    exact br_t h (k _ ⟨fk, bl, rfl, hb⟩)
  | succ d ih =>
    intro t fk bl ht hb
    have h : ¬ (16 : Int32) ≤ nI t := nI_ge (b := 16) (by omega) (by decide)
    refine br_f h ⟨t + 1, ?_⟩
    rw [← sy_bt (sy_fr0 (sy_G sh ar rs fl op) t)]
    refine sy_yk15 hW (by omega) ?_ t 0 fk bl (by omega) hb
    intro fk bl hb
    exact ih (t + 1) fk bl (by omega) hb
theorem sy_yu12 {t c : Nat} {post : Int32 → SY → Prop} {J : Int32 → Int32 → Int32 → (Nat → Int32) → (Nat → Int32) → (Nat → Int32) → (Nat → Int32) → (Nat → Int32) → (Nat → Int32) → Prop} (hW : sy_W sh ar rs fl) (ht : t < 16)
    (k : ∀ fk bl, (fk = 0 ∨ ∀ p, p < 256 → bl p = sy_b (sy_G sh ar rs fl op p)) → J (nI (c + sy_uy (sy_e (sy_G sh ar rs fl op)) t t)) (nI (t + 1)) fk sh ar rs fl op bl) :
    ∀ d s fk bl, s + d = t → (fk = 0 ∨ ∀ p, p < 256 → bl p = sy_b (sy_G sh ar rs fl op p)) → wY_unrelated_12 post J (nI t) (d + 1) (nI (c + sy_uy (sy_e (sy_G sh ar rs fl op)) t s)) (nI s) fk sh ar rs fl op bl := by
  intro d
  induction d with
  | zero =>
    intro s fk bl hs hb
    obtain rfl : s = t := by omega
    have h : nI s ≤ nI s := nI_le (by omega) (by omega)
    refine br_t h ?_
    intro y ey
    rw [nI_1] at ey
    subst ey
    exact k fk bl hb
  | succ d ih =>
    intro s fk bl hs hb
    have h : ¬ nI t ≤ nI s := nI_ge (by omega) (by omega)
    refine br_f h ?_
    refine sy_ysu hW ⟨fk, bl, rfl, hb⟩ (by omega) ht ?_
    intro v' hv'
    obtain ⟨fk, bl, rfl, hb⟩ := hv'
    by_cases a : sy_G sh ar rs fl op (s * 16 + t)
    · refine br_f (by rw [sy_bt a]; exact sy_10) ?_
      intro y ey
      rw [nI_1] at ey
      subst ey
      have K := ih (s + 1) fk bl (by omega) hb
      rw [sy_uy, sy_ea a] at K
      exact K
    · refine br_t (sy_bf a) ?_
      refine sy_ysu hW ⟨fk, bl, rfl, hb⟩ ht (by omega) ?_
      intro v' hv'
      obtain ⟨fk, bl, rfl, hb⟩ := hv'
      have K := ih (s + 1) fk bl (by omega) hb
      by_cases b : sy_G sh ar rs fl op (t * 16 + s)
      · refine br_f (by rw [sy_bt b]; exact sy_10) ?_
        intro y ey
        rw [nI_1] at ey
        subst ey
        rw [sy_uy, sy_eb b] at K
        exact K
      · refine br_t (sy_bf b) ?_
        intro z ez y ey
        rw [nI_1] at ey ez
        subst ey ez
        rw [sy_uy, sy_e1 a b] at K
        exact K
theorem sy_yu4 {post : Int32 → SY → Prop} (hW : sy_W sh ar rs fl)
    (k : ∀ v', sy_Y sh ar rs fl op v' → post (nI (sy_oy (sy_e (sy_G sh ar rs fl op)) 16)) v') :
    ∀ d t fk bl, t + d = 16 → (fk = 0 ∨ ∀ p, p < 256 → bl p = sy_b (sy_G sh ar rs fl op p)) → wY_unrelated_4 post (d + 1) (nI (sy_oy (sy_e (sy_G sh ar rs fl op)) t)) (nI t) fk sh ar rs fl op bl := by
  intro d
  induction d with
  | zero =>
    intro t fk bl ht hb
    have h : (16 : Int32) ≤ nI t := nI_le (a := 16) (by omega) (by omega)
    obtain rfl : t = 16 := by omega
    exact br_t h (k _ ⟨fk, bl, rfl, hb⟩)
  | succ d ih =>
    intro t fk bl ht hb
    have h : ¬ (16 : Int32) ≤ nI t := nI_ge (b := 16) (by omega) (by decide)
    refine br_f h ⟨t + 1, ?_⟩
    exact sy_yu12 (op := op) (post := post) (J := wY_unrelated_4 post (d + 1)) (t := t) (c := sy_oy (sy_e (sy_G sh ar rs fl op)) t) hW (by omega) (fun fk bl hb => ih (t + 1) fk bl (by omega) hb) t 0 fk bl (by omega) hb
end
end
section
section
variable {sh ar rs fl op : Nat → Int32}
theorem sy_Wsh {x : Int32} {t : Nat} (hW : sy_W sh ar rs fl) (hx : x = 0 ∨ x = 1 ∨ x = 2 ∨ x = 3 ∨ x = 4 ∨ x = 5) : sy_W (upd sh t x) ar rs fl := by
  refine ⟨fun j hj => ?_, hW.2⟩
  by_cases e : j = t
  · subst e; rw [pk_us]; exact hx
  · rw [pk_un e]; exact hW.1 j hj
theorem sy_War {t a : Nat} (hW : sy_W sh ar rs fl) (ha : a < 16) : sy_W sh (upd ar t (nI a)) rs fl := by
  refine ⟨hW.1, fun j hj => ?_, hW.2.2⟩
  by_cases e : j = t
  · subst e; rw [pk_us]; exact ⟨a, ha, rfl⟩
  · rw [pk_un e]; exact hW.2.1 j hj
theorem sy_Wrs {t a : Nat} (hW : sy_W sh ar rs fl) (ha : a < 16) : sy_W sh ar (upd rs t (nI a)) fl := by
  refine ⟨hW.1, hW.2.1, fun j hj => ?_, hW.2.2.2⟩
  by_cases e : j = t
  · subst e; rw [pk_us]; exact ⟨a, ha, rfl⟩
  · rw [pk_un e]; exact hW.2.2.1 j hj
theorem sy_Wfl {fl1 : Nat → Int32} (hW : sy_W sh ar rs fl) (h : ∀ i, i < 64 → fl1 i = fl i ∨ fl1 i < 0 ∨ ∃ a, a < 16 ∧ fl1 i = nI a) : sy_W sh ar rs fl1 := by
  refine ⟨hW.1, hW.2.1, hW.2.2.1, fun i hi => ?_⟩
  rcases h i hi with e | e
  · rw [e]; exact hW.2.2.2 i hi
  · exact e
theorem sy_Wu {i : Nat} {x : Int32} (hW : sy_W sh ar rs fl) (hx : x < 0 ∨ ∃ a, a < 16 ∧ x = nI a) : sy_W sh ar rs (upd fl i x) := by
  refine sy_Wfl hW (fun j hj => ?_)
  by_cases e : j = i
  · subst e; rw [pk_us]; exact Or.inr hx
  · exact Or.inl (pk_un e)
end
-- a row of four that is cleared, and the rest as it was
def sy_N (t n : Nat) (x : Int32) (fl fl1 : Nat → Int32) : Prop :=
  (∀ j, j < n → fl1 (t * 4 + j) = x) ∧ ∀ i, (∀ j, j < n → i ≠ t * 4 + j) → fl1 i = fl i
theorem sy_N0 (t : Nat) (x : Int32) (fl : Nat → Int32) : sy_N t 0 x fl fl := ⟨fun _ hj => absurd hj (Nat.not_lt_zero _), fun _ _ => rfl⟩
theorem sy_Ns {t n : Nat} {x : Int32} {fl fl1 : Nat → Int32} (h : sy_N t n x fl fl1) : sy_N t (n + 1) x fl (upd fl1 (t * 4 + n) x) := by
  refine ⟨fun j hj => ?_, fun i hi => ?_⟩
  · by_cases e : j = n
    · subst e; exact pk_us
    · rw [pk_un (by omega)]; exact h.1 j (by omega)
  · rw [pk_un (hi n (Nat.lt_succ_self _))]
    exact h.2 i (fun j hj => hi j (by omega))
theorem sy_WN {sh ar rs fl fl1 : Nat → Int32} {t : Nat} (hW : sy_W sh ar rs fl) (h : sy_N t 4 (-1) fl fl1) : sy_W sh ar rs fl1 := by
  refine sy_Wfl hW (fun i hi => ?_)
  by_cases e : ∃ j, j < 4 ∧ i = t * 4 + j
  · obtain ⟨j, hj, rfl⟩ := e
    rw [h.1 j hj]
    exact Or.inr (Or.inl sy_m1)
  · exact Or.inl (h.2 i (fun j hj z => e ⟨j, hj, z⟩))
theorem sy_No {t t' l : Nat} {x : Int32} {fl fl1 : Nat → Int32} (h : sy_N t 4 x fl fl1) (hn : ¬ t' = t) (hl : l < 4) : fl1 (t' * 4 + l) = fl (t' * 4 + l) :=
  h.2 _ (fun j hj => by omega)
-- shape: both clear the row; X clears optional too
theorem sy_A5 {sh fl op fl' op' fl1 op1 fl1' : Nat → Int32} {t : Nat} {x : Int32} (hA : sy_A sh fl op fl' op') (h1 : sy_N t 4 (-1) fl fl1) (h2 : sy_N t 4 0 op op1) (h3 : sy_N t 4 (-1) fl' fl1') : sy_A (upd sh t x) fl1 op1 fl1' op' := by
  intro t' ht' h5 l hl
  by_cases e : t' = t
  · subst e
    rw [h1.1 l hl, h3.1 l hl]
    exact ⟨rfl, fun z => absurd sy_m1 z⟩
  · rw [pk_un e] at h5
    rw [sy_No h1 e hl, sy_No h2 e hl, sy_No h3 e hl]
    exact hA t' ht' h5 l hl
-- fun: X clears, Y keeps
theorem sy_A4 {sh fl op fl' op' fl1 op1 : Nat → Int32} {t : Nat} (hA : sy_A sh fl op fl' op') (h1 : sy_N t 4 (-1) fl fl1) (h2 : sy_N t 4 0 op op1) : sy_A (upd sh t 4) fl1 op1 fl' op' := by
  intro t' ht' h5 l hl
  by_cases e : t' = t
  · subst e
    rw [pk_us] at h5
    exact absurd h5 (by decide)
  · rw [pk_un e] at h5
    rw [sy_No h1 e hl, sy_No h2 e hl]
    exact hA t' ht' h5 l hl
theorem sy_Au {sh fl op fl' op' : Nat → Int32} {i : Nat} {x y : Int32} (hA : sy_A sh fl op fl' op') : sy_A sh (upd fl i x) (upd op i y) (upd fl' i x) (upd op' i y) := by
  intro t ht h5 l hl
  by_cases e : t * 4 + l = i
  · rw [e, pk_us, pk_us, pk_us, pk_us]
    exact ⟨rfl, fun _ => rfl⟩
  · rw [pk_un e, pk_un e, pk_un e, pk_un e]
    exact hA t ht h5 l hl
section
variable {sh ar rs fl op kn ls ab un : Nat → Int32} {tk ak : Int32}
theorem sy_fg2 {post : SX → Prop} (k : ∀ kn, (∀ p, p < 256 → kn p = 0) → post (tk, ak, sh, ar, rs, fl, op, kn, ls, ab, un)) :
    ∀ d i kn, i + d = 256 → (∀ p, p < i → kn p = 0) → wX_forgetAll_2 post tk ak (d + 1) (nI i) sh ar rs fl op kn ls ab un := by
  intro d
  induction d with
  | zero =>
    intro i kn hi hk
    have h : (256 : Int32) ≤ nI i := nI_le (a := 256) (by omega) (by omega)
    exact br_t h (k kn (fun p hp => hk p (by omega)))
  | succ d ih =>
    intro i kn hi hk
    have h : ¬ (256 : Int32) ≤ nI i := nI_ge (b := 256) (by omega) (by decide)
    refine br_f h ⟨sy_in (by omega) (by decide), ?_⟩
    rw [sy_cl (n := i) (by omega), sy_y0]
    intro kn' ek y ey
    rw [nI_1] at ey
    subst ek ey
    refine ih (i + 1) _ (by omega) (fun p hp => ?_)
    by_cases e : p = i
    · subst e; exact pk_us
    · rw [pk_un e]; exact hk p (by omega)
theorem sy_fga {post : SX → Prop} (k : ∀ kn, (∀ p, p < 256 → kn p = 0) → post (tk, ak, sh, ar, rs, fl, op, kn, ls, ab, un)) :
    wpX_forgetAll post (tk, ak, sh, ar, rs, fl, op, kn, ls, ab, un) :=
  ⟨257, sy_fg2 k 256 0 kn rfl (fun _ hp => absurd hp (Nat.not_lt_zero _))⟩
theorem sy_be17 {post : Int32 → SX → Prop} {t : Nat} {x3 : Int32} (ht : t < 16)
    (k : ∀ fl1 op1 kn, sy_N t 4 (-1) fl fl1 → sy_N t 4 0 op op1 → (∀ p, p < 256 → kn p = 0) → post x3 (tk, ak, sh, ar, rs, fl1, op1, kn, ls, ab, un)) :
    ∀ d l fl1 op1, l + d = 4 → sy_N t l (-1) fl fl1 → sy_N t l 0 op op1 → wX_become_17 post (nI t) x3 tk ak (d + 1) (nI l) sh ar rs fl1 op1 kn ls ab un := by
  intro d
  induction d with
  | zero =>
    intro l fl1 op1 hl h1 h2
    have h : (4 : Int32) ≤ nI l := nI_le (a := 4) (by omega) (by omega)
    obtain rfl : l = 4 := by omega
    refine br_t h ?_
    refine sy_fga ?_
    intro kn' hk
    exact k fl1 op1 kn' h1 h2 hk
  | succ d ih =>
    intro l fl1 op1 hl h1 h2
    have h : ¬ (4 : Int32) ≤ nI l := nI_ge (b := 4) (by omega) (by decide)
    have ii : vp_in (nI (t * 4 + l)) 64 := sy_in (by omega) (by decide)
    refine br_f h ?_
    rw [sy_fr, sy_cl (n := t * 4 + l) (by omega), sy_z0]
    refine ⟨ii, ?_⟩
    intro fl2 e1
    refine ⟨ii, ?_⟩
    intro op2 e2 y ey
    rw [nI_1] at ey
    subst e1 e2 ey
    exact ih (l + 1) _ _ (by omega) (sy_Ns h1) (sy_Ns h2)
theorem sy_bec {post : Int32 → SX → Prop} {t : Nat} {x : Int32} (ht : t < 16)
    (k : ∀ fl1 op1 kn, sy_N t 4 (-1) fl fl1 → sy_N t 4 0 op op1 → (∀ p, p < 256 → kn p = 0) → post (sh t) (tk, ak, upd sh t x, ar, rs, fl1, op1, kn, ls, ab, un)) :
    wpX_become post (tk, ak, sh, ar, rs, fl, op, kn, ls, ab, un) (nI t) x := by
  have it : vp_in (nI t) 16 := sy_in ht (by decide)
  unfold wpX_become
  rw [sy_cl (n := t) (by omega)]
  refine ⟨it, ?_⟩
  intro y ey
  refine ⟨it, ?_⟩
  intro sh' es
  subst ey es
  exact ⟨5, sy_be17 ht k 4 0 fl op rfl (sy_N0 _ _ _) (sy_N0 _ _ _)⟩
theorem sy_xf63 {post : Int32 → SX → Prop} {i : Nat} {x3 x4 z0 : Int32} (hi : i < 64)
    (k : ∀ kn, (∀ p, p < 256 → kn p = 0) → post z0 (tk, ak, sh, ar, rs, upd fl i x3, upd op i (sy_b (¬ x4 = 0)), kn, ls, ab, un)) :
    wX_field_63 post x3 x4 (nI i) z0 tk ak sh ar rs fl op kn ls ab un := by
  have ii : vp_in (nI i) 64 := sy_in hi (by decide)
  unfold wX_field_63
  rw [sy_cl (n := i) (by omega)]
  refine ⟨ii, ?_⟩
  intro fl' ef
  subst ef
  by_cases h : x4 = 0
  · refine br_t h ?_
    unfold wX_field_89
    rw [sy_cl (n := i) (by omega), sy_z0]
    refine ⟨ii, ?_⟩
    intro op' eo
    subst eo
    rw [sy_bf (fun z => z h)] at k
    exact sy_fga k
  · refine br_f h ?_
    unfold wX_field_89
    rw [sy_cl (n := i) (by omega), sy_z1]
    refine ⟨ii, ?_⟩
    intro op' eo
    subst eo
    rw [sy_bt h] at k
    exact sy_fga k
theorem sy_xd54 {post : Int32 → SX → Prop} {i : Nat} {z0 : Int32} (hi : i < 64)
    (k : ∀ kn, (∀ p, p < 256 → kn p = 0) → post z0 (tk, ak, sh, ar, rs, upd fl i (-1), upd op i 0, kn, ls, ab, un)) :
    wX_dropField_54 post (nI i) z0 tk ak sh ar rs fl op kn ls ab un := by
  have ii : vp_in (nI i) 64 := sy_in hi (by decide)
  unfold wX_dropField_54
  rw [sy_cl (n := i) (by omega), sy_z0]
  refine ⟨ii, ?_⟩
  intro fl' ef
  refine ⟨ii, ?_⟩
  intro op' eo
  subst ef eo
  exact sy_fga k
end
section
variable {sh ar rs fl op bl : Nat → Int32} {fk : Int32}
theorem sy_ys44 {post : Int32 → SY → Prop} {t : Nat} {x3 : Int32} (ht : t < 16)
    (k : ∀ fl1, sy_N t 4 (-1) fl fl1 → post x3 (0, sh, ar, rs, fl1, op, bl)) :
    ∀ d l fl1, l + d = 4 → sy_N t l (-1) fl fl1 → wY_shape_44 post (nI t) x3 fk (d + 1) (nI l) sh ar rs fl1 op bl := by
  intro d
  induction d with
  | zero =>
    intro l fl1 hl h1
    have h : (4 : Int32) ≤ nI l := nI_le (a := 4) (by omega) (by omega)
    obtain rfl : l = 4 := by omega
    exact br_t h (k fl1 h1)
  | succ d ih =>
    intro l fl1 hl h1
    have h : ¬ (4 : Int32) ≤ nI l := nI_ge (b := 4) (by omega) (by decide)
    refine br_f h ?_
    rw [sy_fr, sy_cl (n := t * 4 + l) (by omega)]
    refine ⟨sy_in (by omega) (by decide), ?_⟩
    intro fl2 e1 y ey
    rw [nI_1] at ey
    subst e1 ey
    exact ih (l + 1) _ (by omega) (sy_Ns h1)
theorem sy_ysf {post : Int32 → SY → Prop} {i : Nat} {x y : Int32} (hi : i < 64) (hy : vp_nar .boolean y = y)
    (k : post (sy_b (¬ fl i < 0)) (0, sh, ar, rs, upd fl i x, upd op i y, bl)) :
    wpY_setField post (fk, sh, ar, rs, fl, op, bl) (nI i) x y := by
  have ii : vp_in (nI i) 64 := sy_in hi (by decide)
  have ci : (nI i).toNatClampNeg = i := sy_cl (by omega)
  unfold wpY_setField
  rw [ci]
  refine ⟨ii, ?_⟩
  by_cases h : fl i < 0
  · refine br_t h ?_
    unfold wY_setField_14
    rw [ci, hy]
    refine ⟨ii, ?_⟩
    intro fl' ef
    refine ⟨ii, ?_⟩
    intro op' eo
    subst ef eo
    rw [sy_bf (fun z => z h)] at k
    exact k
  · refine br_f h ?_
    unfold wY_setField_14
    rw [ci, hy]
    refine ⟨ii, ?_⟩
    intro fl' ef
    refine ⟨ii, ?_⟩
    intro op' eo
    subst ef eo
    rw [sy_bt h] at k
    exact k
end
theorem sy_K0 {g : Nat → Prop} {kn : Nat → Int32} (h : ∀ p, p < 256 → kn p = 0) : sy_K g kn := fun p hp => Or.inl (h p hp)
end
section
/-- the same shapes and parts, fields that agree where a record has them; what X knows and what Y holds as below is the greatest set -/
def i_Rel (_ : Nat) (u : SX) (v : SY) : Prop :=
  ∃ sh ar rs fl op fl' op', sy_W sh ar rs fl ∧ sy_W sh ar rs fl' ∧ sy_A sh fl op fl' op' ∧ sy_X sh ar rs fl op u ∧ sy_Y sh ar rs fl' op' v
theorem i_up {k : Nat} {u : SX} {v : SY} (h : i_Rel k u v) : i_Rel (k + 5) u v := h
theorem sy_i82 {post : SX → Prop} (k : ∀ fl, (∀ j, j < 64 → fl j = -1) → post (0, 0, (fun _ => 0), (fun _ => 0), (fun _ => 0), fl, (fun _ => 0), (fun _ => 0), (fun _ => 0), (fun _ => 0), (fun _ => 0))) :
    ∀ d i fl, i + d = 64 → (∀ j, j < i → fl j = -1) → wX_init_82 post 0 0 (d + 1) (nI i) (fun _ => 0) (fun _ => 0) (fun _ => 0) fl (fun _ => 0) (fun _ => 0) (fun _ => 0) (fun _ => 0) (fun _ => 0) := by
  intro d
  induction d with
  | zero =>
    intro i fl hi hf
    have h : (64 : Int32) ≤ nI i := nI_le (a := 64) (by omega) (by omega)
    exact br_t h (k fl (fun j hj => hf j (by omega)))
  | succ d ih =>
    intro i fl hi hf
    have h : ¬ (64 : Int32) ≤ nI i := nI_ge (b := 64) (by omega) (by decide)
    refine br_f h ⟨sy_in (by omega) (by decide), ?_⟩
    rw [sy_cl (n := i) (by omega)]
    intro fl' ef y ey
    rw [nI_1] at ey
    subst ef ey
    refine ih (i + 1) _ (by omega) (fun p hp => ?_)
    by_cases e : p = i
    · subst e; exact pk_us
    · rw [pk_un e]; exact hf p (by omega)
theorem i_vc0 : wpX_init (fun u => wpY_init (fun v => i_Rel 0 u v)) := by
  refine ⟨65, ?_⟩
  refine sy_i82 ?_ 64 0 (fun _ => 0) rfl (fun _ hj => absurd hj (Nat.not_lt_zero _))
  intro fl hf
  have h0 : ∀ t : Nat, t < 16 → ∃ a : Nat, a < 16 ∧ (0 : Int32) = nI a := fun _ _ => ⟨0, by decide, rfl⟩
  refine ⟨fun _ => 0, fun _ => 0, fun _ => 0, fl, fun _ => 0, fun _ => 0, fun _ => 0, ?_, ?_, ?_, ?_, ?_⟩
  · exact ⟨fun _ _ => Or.inl rfl, h0, h0, fun i hi => Or.inl (by rw [hf i hi]; exact sy_m1)⟩
  · exact ⟨fun _ _ => Or.inl rfl, h0, h0, fun i hi => Or.inr ⟨0, by decide, rfl⟩⟩
  · intro t ht h5
    exact absurd (show (0 : Int32) = 5 from h5) (by decide)
  · exact ⟨0, 0, fun _ => 0, fun _ => 0, fun _ => 0, fun _ => 0, rfl, fun p hp => Or.inl rfl⟩
  · exact ⟨0, fun _ => 0, rfl, Or.inl rfl⟩
theorem sy_shp {x : Int32} (h0 : ¬ x < 0) (h5 : ¬ 5 < x) : x = 0 ∨ x = 1 ∨ x = 2 ∨ x = 3 ∨ x = 4 ∨ x = 5 := by
  obtain ⟨j, hj, rfl⟩ := nI_of2 (M := 5) (n := 5) (by decide) h0 (Int32.not_lt.mp h5)
  rcases (by omega : j = 0 ∨ j = 1 ∨ j = 2 ∨ j = 3 ∨ j = 4 ∨ j = 5) with rfl | rfl | rfl | rfl | rfl | rfl
  · exact Or.inl rfl
  · exact Or.inr (Or.inl rfl)
  · exact Or.inr (Or.inr (Or.inl rfl))
  · exact Or.inr (Or.inr (Or.inr (Or.inl rfl)))
  · exact Or.inr (Or.inr (Or.inr (Or.inr (Or.inl rfl))))
  · exact Or.inr (Or.inr (Or.inr (Or.inr (Or.inr rfl))))
theorem i_vc_shape {k : Nat} {u : SX} {v : SY} (I : i_Rel k u v) (hk : k + 5 ≤ 2560) (v1 : Int32) (v2 : Int32) : wpX_shape (fun r u' => wpY_shape (fun r' v' => r' = r ∧ i_Rel (k + 5) u' v') v v1 v2) u v1 v2 := by
  have I' := i_up I
  obtain ⟨sh, ar, rs, fl, op, fl', op', hW, hW', hA, ⟨tk, ak, kn, ls, ab, un, rfl, hK⟩, ⟨fk, bl, rfl, hb⟩⟩ := I
  unfold wpX_shape wpY_shape
  rcases sy_bd v1 with ⟨t, ht, rfl⟩ | ⟨bx, bY⟩
  · refine sy_bdx ht (br_t rfl ?_)
    by_cases s0 : v2 < 0
    · exact br_t s0 (sy_bdy ht (br_t rfl (br_t s0 ⟨rfl, I'⟩)))
    refine br_f s0 ?_
    by_cases s5 : 5 < v2
    · exact br_t s5 (sy_bdy ht (br_t rfl (br_f s0 (br_t s5 ⟨rfl, I'⟩))))
    refine br_f s5 ?_
    by_cases s4 : v2 = 4
    · exact br_t s4 (sy_bdy ht (br_t rfl (br_f s0 (br_f s5 (br_t s4 ⟨rfl, I'⟩)))))
    refine br_f s4 ?_
    refine sy_bec ht ?_
    intro fl1 op1 kn1 h1 h2 h3
    have it : vp_in (nI t) 16 := sy_in ht (by decide)
    refine sy_bdy ht (br_t rfl (br_f s0 (br_f s5 (br_f s4 ⟨it, ?_⟩))))
    rw [sy_cl (n := t) (by omega)]
    intro y ey
    refine ⟨it, ?_⟩
    intro sh' es
    subst ey es
    refine ⟨5, ?_⟩
    refine sy_ys44 (fl := fl') ht ?_ 4 0 fl' rfl (sy_N0 _ _ _)
    intro fl1' h3'
    exact ⟨rfl, upd sh t v2, ar, rs, fl1, op1, fl1', op', sy_Wsh (sy_WN hW h1) (sy_shp s0 s5), sy_Wsh (sy_WN hW' h3') (sy_shp s0 s5), sy_A5 hA h1 h2 h3',
      ⟨tk, ak, kn1, ls, ab, un, rfl, sy_K0 h3⟩, ⟨0, bl, rfl, Or.inl rfl⟩⟩
  · exact bx _ (br_f sy_10 (bY _ _ (br_f sy_10 ⟨rfl, I'⟩)))
theorem i_vc_fun {k : Nat} {u : SX} {v : SY} (I : i_Rel k u v) (hk : k + 5 ≤ 2560) (v1 : Int32) (v2 : Int32) (v3 : Int32) : wpX_fun (fun r u' => wpY_fun (fun r' v' => r' = r ∧ i_Rel (k + 5) u' v') v v1 v2 v3) u v1 v2 v3 := by
  have I' := i_up I
  obtain ⟨sh, ar, rs, fl, op, fl', op', hW, hW', hA, ⟨tk, ak, kn, ls, ab, un, rfl, hK⟩, ⟨fk, bl, rfl, hb⟩⟩ := I
  unfold wpX_fun wpY_fun
  rcases sy_bd v1 with ⟨t, ht, rfl⟩ | ⟨bx, bY⟩
  case inr => exact bx _ (br_f sy_10 (bY _ _ (br_f sy_10 ⟨rfl, I'⟩)))
  refine sy_bdx ht (br_t rfl ?_)
  rcases sy_bd v2 with ⟨a, ha, rfl⟩ | ⟨bx, bY⟩
  case inr => exact bx _ (br_f sy_10 (sy_bdy ht (br_t rfl (bY _ _ (br_f sy_10 ⟨rfl, I'⟩)))))
  refine sy_bdx ha (br_t rfl ?_)
  rcases sy_bd v3 with ⟨b, hb', rfl⟩ | ⟨bx, bY⟩
  case inr => exact bx _ (br_f sy_10 (sy_bdy ht (br_t rfl (sy_bdy ha (br_t rfl (bY _ _ (br_f sy_10 ⟨rfl, I'⟩)))))))
  refine sy_bdx hb' (br_t rfl ?_)
  have it : vp_in (nI t) 16 := sy_in ht (by decide)
  refine sy_bec ht ?_
  intro fl1 op1 kn1 h1 h2 h3
  refine ⟨it, ?_⟩
  intro ar1 e1
  refine ⟨it, ?_⟩
  intro rs1 e2
  refine sy_bdy ht (br_t rfl (sy_bdy ha (br_t rfl (sy_bdy hb' (br_t rfl ⟨it, ?_⟩)))))
  intro y ey
  refine ⟨it, ?_⟩
  intro sh1 e3
  refine ⟨it, ?_⟩
  intro ar2 e4
  refine ⟨it, ?_⟩
  intro rs2 e5
  rw [sy_cl (n := t) (by omega)] at e1 e2 e3 e4 e5 ey
  subst e1 e2 e3 e4 e5 ey
  have h4 : (4 : Int32) = 0 ∨ (4 : Int32) = 1 ∨ (4 : Int32) = 2 ∨ (4 : Int32) = 3 ∨ (4 : Int32) = 4 ∨ (4 : Int32) = 5 := Or.inr (Or.inr (Or.inr (Or.inr (Or.inl rfl))))
  exact ⟨rfl, upd sh t 4, upd ar t (nI a), upd rs t (nI b), fl1, op1, fl', op', sy_Wsh (sy_War (sy_Wrs (sy_WN hW h1) hb') ha) h4, sy_Wsh (sy_War (sy_Wrs hW' hb') ha) h4, sy_A4 hA h1 h2,
    ⟨tk, ak, kn1, ls, ab, un, rfl, sy_K0 h3⟩, ⟨0, bl, rfl, Or.inl rfl⟩⟩
theorem sy_lab (v : Int32) : v < 0 ∨ (¬ v < 0 ∧ ¬ v < 4 ∧ ¬ v ≤ 3) ∨ ∃ l, l < 4 ∧ v = nI l := by
  by_cases h0 : v < 0
  · exact Or.inl h0
  · obtain ⟨j, hj, rfl⟩ := nI_of h0
    by_cases h : j < 4
    · exact Or.inr (Or.inr ⟨j, h, rfl⟩)
    · exact Or.inr (Or.inl ⟨h0, nI_nlt (b := 4) (by omega) hj, nI_ge (a := 3) (by omega) hj⟩)
theorem i_vc_field {k : Nat} {u : SX} {v : SY} (I : i_Rel k u v) (hk : k + 5 ≤ 2560) (v1 : Int32) (v2 : Int32) (v3 : Int32) (v4 : Int32) : wpX_field (fun r u' => wpY_field (fun r' v' => r' = r ∧ i_Rel (k + 5) u' v') v v1 v2 v3 v4) u v1 v2 v3 v4 := by
  have I' := i_up I
  obtain ⟨sh, ar, rs, fl, op, fl', op', hW, hW', hA, ⟨tk, ak, kn, ls, ab, un, rfl, hK⟩, ⟨fk, bl, rfl, hb⟩⟩ := I
  unfold wpX_field
  have m1 : ¬ (0 : Int32) ≤ -1 := by decide
  have m2 : ¬ (0 : Int32) ≤ -2 := by decide
  have m3 : ¬ (0 : Int32) ≤ -3 := by decide
  rcases sy_bd v1 with ⟨t, ht, rfl⟩ | ⟨bx, bY⟩
  case inr =>
    refine bx _ (br_f sy_10 ?_)
    unfold wpY_field wpY_refusal
    rcases sy_bd v3 with ⟨a, ha, rfl⟩ | ⟨bx3, bY3⟩
    · exact sy_bdy ha (br_t rfl (bY _ _ (br_f sy_10 (br_f m1 ⟨rfl, I'⟩))))
    · exact bY3 _ _ (br_f sy_10 ⟨rfl, I'⟩)
  refine sy_bdx ht (br_t rfl ?_)
  rcases sy_bd v3 with ⟨a, ha, rfl⟩ | ⟨bx3, bY3⟩
  case inr =>
    refine bx3 _ (br_f sy_10 ?_)
    unfold wpY_field
    exact bY3 _ _ (br_f sy_10 ⟨rfl, I'⟩)
  refine sy_bdx ha (br_t rfl ?_)
  rcases sy_lab v2 with l0 | ⟨l0, l4, l3⟩ | ⟨l, hl, rfl⟩
  · refine br_t l0 ?_
    unfold wpY_field wpY_refusal
    exact sy_bdy ha (br_t rfl (sy_bdy ht (br_t rfl (br_t l0 (br_f m2 ⟨rfl, I'⟩)))))
  · refine br_f l0 (br_f l4 ?_)
    unfold wpY_field wpY_refusal
    exact sy_bdy ha (br_t rfl (sy_bdy ht (br_t rfl (br_f l0 (br_f l3 (br_f m2 ⟨rfl, I'⟩))))))
  have it : vp_in (nI t) 16 := sy_in ht (by decide)
  have l0 : ¬ nI l < 0 := sy_nn (by omega)
  have l4 : nI l < 4 := nI_lt (b := 4) hl (by decide)
  have l3 : nI l ≤ 3 := nI_le (b := 3) (by omega) (by decide)
  have ct : (nI t).toNatClampNeg = t := sy_cl (by omega)
  have hi : t * 4 + l < 64 := by omega
  refine br_f l0 (br_t l4 ⟨it, ?_⟩)
  rw [ct]
  by_cases h5 : sh t = 5
  case neg =>
    refine br_f h5 ?_
    unfold wpY_field wpY_refusal
    refine sy_bdy ha (br_t rfl (sy_bdy ht (br_t rfl (br_f l0 (br_t l3 ⟨it, ?_⟩)))))
    rw [ct]
    exact br_f h5 (br_f m3 ⟨rfl, I'⟩)
  refine br_t h5 ?_
  intro x ex
  rw [sy_fr] at ex
  subst ex
  rw [sy_cl (n := t * 4 + l) (by omega)]
  refine ⟨sy_in hi (by decide), ?_⟩
  have ef := (hA t ht h5 l hl).1
  have Y43 : ∀ kn1, (∀ p, p < 256 → kn1 p = 0) → ∀ y : Int32, vp_nar .boolean y = y → y = sy_b (¬ v4 = 0) → wY_field_43 (fun r' v' => r' = sy_b (¬ fl (t * 4 + l) < 0) ∧ i_Rel (k + 5) (tk, ak, sh, ar, rs, upd fl (t * 4 + l) (nI a), upd op (t * 4 + l) (sy_b (¬ v4 = 0)), kn1, ls, ab, un) v') y (nI a) (nI t * 4 + nI l) fk sh ar rs fl' op' bl := by
    intro kn1 hk1 y hy ey
    unfold wY_field_43
    rw [sy_fr]
    refine sy_ysf hi hy ?_
    subst ey
    rw [ef]
    exact ⟨rfl, sh, ar, rs, _, _, _, _, sy_Wu hW (Or.inr ⟨a, ha, rfl⟩), sy_Wu hW' (Or.inr ⟨a, ha, rfl⟩), sy_Au hA, ⟨tk, ak, kn1, ls, ab, un, rfl, sy_K0 hk1⟩, ⟨0, bl, rfl, Or.inl rfl⟩⟩
  have fin : ∀ z0 : Int32, z0 = sy_b (¬ fl (t * 4 + l) < 0) → ∀ kn1, (∀ p, p < 256 → kn1 p = 0) → wpY_field (fun r' v' => r' = z0 ∧ i_Rel (k + 5) (tk, ak, sh, ar, rs, upd fl (t * 4 + l) (nI a), upd op (t * 4 + l) (sy_b (¬ v4 = 0)), kn1, ls, ab, un) v') (fk, sh, ar, rs, fl', op', bl) (nI t) (nI l) (nI a) v4 := by
    intro z0 ez kn1 hk1
    subst ez
    unfold wpY_field wpY_refusal
    refine sy_bdy ha (br_t rfl (sy_bdy ht (br_t rfl (br_f l0 (br_t l3 ⟨it, ?_⟩)))))
    rw [ct]
    refine br_t h5 (br_t (by decide) ?_)
    by_cases h4 : v4 = 0
    · exact br_t h4 (Y43 kn1 hk1 0 rfl (sy_bf (fun z => z h4)).symm)
    · exact br_f h4 (Y43 kn1 hk1 1 rfl (sy_bt h4).symm)
  by_cases hf : fl (t * 4 + l) < 0
  · exact br_t hf (sy_xf63 hi (fin 0 (sy_bf (fun z => z hf)).symm))
  · exact br_f hf (sy_xf63 hi (fin 1 (sy_bt hf).symm))
theorem i_vc_dropField {k : Nat} {u : SX} {v : SY} (I : i_Rel k u v) (hk : k + 5 ≤ 2560) (v1 : Int32) (v2 : Int32) : wpX_dropField (fun r u' => wpY_dropField (fun r' v' => r' = r ∧ i_Rel (k + 5) u' v') v v1 v2) u v1 v2 := by
  have I' := i_up I
  obtain ⟨sh, ar, rs, fl, op, fl', op', hW, hW', hA, ⟨tk, ak, kn, ls, ab, un, rfl, hK⟩, ⟨fk, bl, rfl, hb⟩⟩ := I
  unfold wpX_dropField
  have m1 : ¬ (0 : Int32) ≤ -1 := by decide
  have m2 : ¬ (0 : Int32) ≤ -2 := by decide
  have m3 : ¬ (0 : Int32) ≤ -3 := by decide
  rcases sy_bd v1 with ⟨t, ht, rfl⟩ | ⟨bx, bY⟩
  case inr =>
    refine bx _ (br_f sy_10 ?_)
    unfold wpY_dropField wpY_refusal
    exact bY _ _ (br_f sy_10 (br_f m1 ⟨rfl, I'⟩))
  refine sy_bdx ht (br_t rfl ?_)
  rcases sy_lab v2 with l0 | ⟨l0, l4, l3⟩ | ⟨l, hl, rfl⟩
  · refine br_t l0 ?_
    unfold wpY_dropField wpY_refusal
    exact sy_bdy ht (br_t rfl (br_t l0 (br_f m2 ⟨rfl, I'⟩)))
  · refine br_f l0 (br_f l4 ?_)
    unfold wpY_dropField wpY_refusal
    exact sy_bdy ht (br_t rfl (br_f l0 (br_f l3 (br_f m2 ⟨rfl, I'⟩))))
  have it : vp_in (nI t) 16 := sy_in ht (by decide)
  have l0 : ¬ nI l < 0 := sy_nn (by omega)
  have l4 : nI l < 4 := nI_lt (b := 4) hl (by decide)
  have l3 : nI l ≤ 3 := nI_le (b := 3) (by omega) (by decide)
  have ct : (nI t).toNatClampNeg = t := sy_cl (by omega)
  have hi : t * 4 + l < 64 := by omega
  refine br_f l0 (br_t l4 ⟨it, ?_⟩)
  rw [ct]
  by_cases h5 : sh t = 5
  case neg =>
    refine br_f h5 ?_
    unfold wpY_dropField wpY_refusal
    refine sy_bdy ht (br_t rfl (br_f l0 (br_t l3 ⟨it, ?_⟩)))
    rw [ct]
    exact br_f h5 (br_f m3 ⟨rfl, I'⟩)
  refine br_t h5 ?_
  intro x ex
  rw [sy_fr] at ex
  subst ex
  rw [sy_cl (n := t * 4 + l) (by omega)]
  refine ⟨sy_in hi (by decide), ?_⟩
  have ef := (hA t ht h5 l hl).1
  have fin : ∀ z0 : Int32, z0 = sy_b (¬ fl (t * 4 + l) < 0) → ∀ kn1, (∀ p, p < 256 → kn1 p = 0) → wpY_dropField (fun r' v' => r' = z0 ∧ i_Rel (k + 5) (tk, ak, sh, ar, rs, upd fl (t * 4 + l) (-1), upd op (t * 4 + l) 0, kn1, ls, ab, un) v') (fk, sh, ar, rs, fl', op', bl) (nI t) (nI l) := by
    intro z0 ez kn1 hk1
    subst ez
    unfold wpY_dropField wpY_refusal
    refine sy_bdy ht (br_t rfl (br_f l0 (br_t l3 ⟨it, ?_⟩)))
    rw [ct]
    refine br_t h5 (br_t (by decide) ?_)
    rw [sy_fr]
    refine sy_ysf hi rfl ?_
    rw [ef]
    exact ⟨rfl, sh, ar, rs, _, _, _, _, sy_Wu hW (Or.inl sy_m1), sy_Wu hW' (Or.inl sy_m1), sy_Au hA, ⟨tk, ak, kn1, ls, ab, un, rfl, sy_K0 hk1⟩, ⟨0, bl, rfl, Or.inl rfl⟩⟩
  by_cases hf : fl (t * 4 + l) < 0
  · exact br_t hf (sy_xd54 hi (fin 0 (sy_bf (fun z => z hf)).symm))
  · exact br_f hf (sy_xd54 hi (fin 1 (sy_bt hf).symm))
theorem i_vc_subtype {k : Nat} {u : SX} {v : SY} (I : i_Rel k u v) (hk : k + 5 ≤ 2560) (v1 : Int32) (v2 : Int32) : wpX_subtype (fun r u' => wpY_subtype (fun r' v' => r' = r ∧ i_Rel (k + 5) u' v') v v1 v2) u v1 v2 := by
  have I' := i_up I
  obtain ⟨sh, ar, rs, fl, op, fl', op', hW, hW', hA, ⟨tk, ak, kn, ls, ab, un, rfl, hK⟩, ⟨fk, bl, rfl, hb⟩⟩ := I
  unfold wpX_subtype
  rcases sy_bd v1 with ⟨s, hs, rfl⟩ | ⟨bx, bY⟩
  case inr =>
    refine bx _ (br_f sy_10 ?_)
    unfold wpY_subtype
    exact bY _ _ (br_f sy_10 ⟨rfl, I'⟩)
  refine sy_bdx hs (br_t rfl ?_)
  rcases sy_bd v2 with ⟨t, ht, rfl⟩ | ⟨bx, bY⟩
  case inr =>
    refine bx _ (br_f sy_10 ?_)
    unfold wpY_subtype
    exact sy_bdy hs (br_t rfl (bY _ _ (br_f sy_10 ⟨rfl, I'⟩)))
  refine sy_bdx ht (br_t rfl ?_)
  refine sy_isu hW ⟨tk, ak, kn, ls, ab, un, rfl, hK⟩ hs ht ?_
  intro u' hu'
  have hu'' := hu'
  obtain ⟨tk, ak, kn, ls, ab, un, rfl, hK⟩ := hu'
  refine ⟨sy_bn _, ?_⟩
  refine sy_ysu hW' ⟨fk, bl, rfl, hb⟩ hs ht ?_
  intro v' hv'
  rw [sy_GA hA]
  exact ⟨rfl, sh, ar, rs, fl, op, fl', op', hW, hW', hA, hu'', hv'⟩
theorem i_vc_equivalent {k : Nat} {u : SX} {v : SY} (I : i_Rel k u v) (hk : k + 5 ≤ 2560) (v1 : Int32) (v2 : Int32) : wpX_equivalent (fun r u' => wpY_equivalent (fun r' v' => r' = r ∧ i_Rel (k + 5) u' v') v v1 v2) u v1 v2 := by
  have I' := i_up I
  obtain ⟨sh, ar, rs, fl, op, fl', op', hW, hW', hA, ⟨tk, ak, kn, ls, ab, un, rfl, hK⟩, ⟨fk, bl, rfl, hb⟩⟩ := I
  unfold wpX_equivalent
  rcases sy_bd v1 with ⟨s, hs, rfl⟩ | ⟨bx, bY⟩
  case inr =>
    refine bx _ (br_f sy_10 ?_)
    unfold wpY_equivalent wpY_subtype
    exact bY _ _ (br_f sy_10 (br_t rfl ⟨rfl, I'⟩))
  refine sy_bdx hs (br_t rfl ?_)
  rcases sy_bd v2 with ⟨t, ht, rfl⟩ | ⟨bx, bY⟩
  case inr =>
    refine bx _ (br_f sy_10 ?_)
    unfold wpY_equivalent wpY_subtype
    exact sy_bdy hs (br_t rfl (bY _ _ (br_f sy_10 (br_t rfl ⟨rfl, I'⟩))))
  refine sy_bdx ht (br_t rfl ?_)
  refine sy_bth hW ⟨tk, ak, kn, ls, ab, un, rfl, hK⟩ hs ht ?_
  intro u' hu'
  have hu'' := hu'
  obtain ⟨tk, ak, kn, ls, ab, un, rfl, hK⟩ := hu'
  refine ⟨sy_bn _, ?_⟩
  refine sy_yeq hW' ⟨fk, bl, rfl, hb⟩ hs ht ?_
  intro v' hv'
  rw [sy_GA hA]
  exact ⟨rfl, sh, ar, rs, fl, op, fl', op', hW, hW', hA, hu'', hv'⟩
theorem i_vc_subtypes {k : Nat} {u : SX} {v : SY} (I : i_Rel k u v) (hk : k + 5 ≤ 2560) (v1 : Int32) : wpX_subtypes (fun r u' => wpY_subtypes (fun r' v' => r' = r ∧ i_Rel (k + 5) u' v') v v1) u v1 := by
  have I' := i_up I
  obtain ⟨sh, ar, rs, fl, op, fl', op', hW, hW', hA, ⟨tk, ak, kn, ls, ab, un, rfl, hK⟩, ⟨fk, bl, rfl, hb⟩⟩ := I
  unfold wpX_subtypes
  rcases sy_bd v1 with ⟨t, ht, rfl⟩ | ⟨bx, bY⟩
  case inr =>
    refine bx _ (br_f sy_10 ?_)
    unfold wpY_subtypes
    exact bY _ _ (br_f sy_10 ⟨rfl, I'⟩)
  refine sy_bdx ht (br_t rfl ⟨17, ?_⟩)
  refine sy_xm hW ht ?_ 16 0 tk ak kn ls ab un rfl hK
  intro u' hu'
  unfold wpY_subtypes
  refine sy_bdy ht (br_t rfl ⟨17, ?_⟩)
  refine sy_ym hW' ht ?_ 16 0 fk bl rfl hb
  intro v' hv'
  rw [sy_GA hA]
  exact ⟨rfl, sh, ar, rs, fl, op, fl', op', hW, hW', hA, hu', hv'⟩
theorem i_vc_kinds {k : Nat} {u : SX} {v : SY} (I : i_Rel k u v) (hk : k + 5 ≤ 2560) : wpX_kinds (fun r u' => wpY_kinds (fun r' v' => r' = r ∧ i_Rel (k + 5) u' v') v) u := by
  obtain ⟨sh, ar, rs, fl, op, fl', op', hW, hW', hA, ⟨tk, ak, kn, ls, ab, un, rfl, hK⟩, ⟨fk, bl, rfl, hb⟩⟩ := I
  refine ⟨17, ?_⟩
  refine sy_xk4 hW ?_ 16 0 tk ak kn ls ab un rfl hK
  intro u' hu'
  refine ⟨17, ?_⟩
  refine sy_yk4 hW' ?_ 16 0 fk bl rfl hb
  intro v' hv'
  rw [sy_GA hA]
  exact ⟨rfl, sh, ar, rs, fl, op, fl', op', hW, hW', hA, hu', hv'⟩
theorem i_vc_unrelated {k : Nat} {u : SX} {v : SY} (I : i_Rel k u v) (hk : k + 5 ≤ 2560) : wpX_unrelated (fun r u' => wpY_unrelated (fun r' v' => r' = r ∧ i_Rel (k + 5) u' v') v) u := by
  obtain ⟨sh, ar, rs, fl, op, fl', op', hW, hW', hA, ⟨tk, ak, kn, ls, ab, un, rfl, hK⟩, ⟨fk, bl, rfl, hb⟩⟩ := I
  refine ⟨17, ?_⟩
  refine sy_xu4 hW ?_ 16 0 tk ak kn ls ab un rfl hK
  intro u' hu'
  refine ⟨17, ?_⟩
  refine sy_yu4 hW' ?_ 16 0 fk bl rfl hb
  intro v' hv'
  rw [sy_GA hA, sy_oxy]
  exact ⟨rfl, sh, ar, rs, fl, op, fl', op', hW, hW', hA, hu', hv'⟩
theorem i_vc_shapeOf {k : Nat} {u : SX} {v : SY} (I : i_Rel k u v) (hk : k + 5 ≤ 2560) (v1 : Int32) : wpX_shapeOf (fun r => wpY_shapeOf (fun r' => r' = r ∧ i_Rel (k + 5) u v) v v1) u v1 := by
  have I' := i_up I
  obtain ⟨sh, ar, rs, fl, op, fl', op', hW, hW', hA, ⟨tk, ak, kn, ls, ab, un, rfl, hK⟩, ⟨fk, bl, rfl, hb⟩⟩ := I
  unfold wpX_shapeOf wpY_shapeOf
  rcases sy_bd v1 with ⟨t, ht, rfl⟩ | ⟨bx, bY⟩
  case inr => exact bx _ (br_f sy_10 (bY _ _ (br_f sy_10 ⟨rfl, I'⟩)))
  have it : vp_in (nI t) 16 := sy_in ht (by decide)
  exact sy_bdx ht (br_t rfl ⟨it, sy_bdy ht (br_t rfl ⟨it, rfl, I'⟩)⟩)
end
