section
/-! rows of the kit's PURE-ROWS, as they stand there -/
theorem pk_us {f : Nat → Int32} {k : Nat} {x : Int32} : upd f k x k = x := if_pos rfl
theorem pk_un {f : Nat → Int32} {k j : Nat} {x : Int32} (h : j ≠ k) : upd f k x j = f j := if_neg h
theorem pk_sub {a b : Nat} (h : b ≤ a) : nI a - nI b = nI (a - b) := by
  obtain ⟨c, rfl⟩ : ∃ c, a = c + b := ⟨a - b, by omega⟩
  rw [← nI_add, Int32.add_sub_cancel, Nat.add_sub_cancel]
theorem pk_m1 (n : Nat) : nI (n + 1) + (-1) = nI n := by
  rw [← nI_1, Int32.add_assoc, show (1 : Int32) + (-1) = 0 from rfl, Int32.add_zero]
theorem pk_mul (a b : Nat) : nI a * nI b = nI (a * b) := (Int32.ofNat_mul a b).symm
theorem pk_ix (x : Int32) {n : Nat} (hn : n < 2 ^ 31) : x < 0 ∨ nI n ≤ x ∨ ∃ j : Nat, j < n ∧ x = nI j := by
  by_cases h : x < 0
  · exact Or.inl h
  · obtain ⟨j, hj, rfl⟩ := nI_of h
    by_cases h2 : j < n
    · exact Or.inr (Or.inr ⟨j, h2, rfl⟩)
    · exact Or.inr (Or.inl (nI_le (by omega) hj))
theorem pk_le {x y : Int32} {A B : Prop} (a b : Nat) (f : a ≤ b → A) (g : b < a → B) (hx : x = nI a := by rfl) (hy : y = nI b := by rfl) (ha : a < 2 ^ 31 := by omega) (hb : b < 2 ^ 31 := by omega) : (x ≤ y → A) ∧ (¬ x ≤ y → B) := by
  subst hx hy
  rw [nI_leI ha hb]
  exact ⟨f, fun z => g (by omega)⟩
theorem pk_lt {x y : Int32} {A B : Prop} (a b : Nat) (f : a < b → A) (g : b ≤ a → B) (hx : x = nI a := by rfl) (hy : y = nI b := by rfl) (ha : a < 2 ^ 31 := by omega) (hb : b < 2 ^ 31 := by omega) : (x < y → A) ∧ (¬ x < y → B) := by
  subst hx hy
  rw [nI_ltI ha hb]
  exact ⟨f, fun z => g (by omega)⟩
theorem pk_eq {x y : Int32} {A B : Prop} (a b : Nat) (f : a = b → A) (g : a ≠ b → B) (hx : x = nI a := by rfl) (hy : y = nI b := by rfl) (ha : a < 2 ^ 31 := by omega) (hb : b < 2 ^ 31 := by omega) : (x = y → A) ∧ (¬ x = y → B) := by
  subst hx hy
  rw [nI_eq ha hb]
  exact ⟨f, g⟩
theorem pk_in {x : Int32} (n N : Nat) (h : n < N) (hx : x = nI n := by rfl) (hN : N < 2 ^ 31 := by omega) : vp_in x N := by
  subst hx
  exact vp_in_nI h hN
theorem pk_cl {x : Int32} (n : Nat) (hx : x = nI n := by rfl) (h : n < 2 ^ 31 := by omega) : x.toNatClampNeg = n := by
  subst hx
  exact nI_clamp h
theorem pk_shr (a s : Int32) (k : Nat) (hs : (s.toBitVec.smod 32).toNat = k) : (a >>> s).toInt = a.toInt >>> k := by
  show (a.toBitVec.sshiftRight (s.toBitVec.smod 32).toNat).toInt = _
  rw [hs, BitVec.toInt_sshiftRight]
  rfl
theorem pk_shrN {n : Nat} (h : n < 2 ^ 31) (s : Int32) (k : Nat) (hs : (s.toBitVec.smod 32).toNat = k) : nI n >>> s = nI (n / 2 ^ k) := by
  apply Int32.toInt_inj.mp
  have h2 : n / 2 ^ k ≤ n := Nat.div_le_self _ _
  rw [pk_shr _ _ k hs, nI_toInt h, nI_toInt (by omega), Int.shiftRight_eq_div_pow]
  rfl
end
section
/-! numbers, truth values as numbers, folds, sorted enumerations -/
noncomputable def ds_b (p : Prop) : Nat := @ite Nat p (Classical.propDecidable p) 1 0
theorem ds_bt {p : Prop} (h : p) : ds_b p = 1 := by unfold ds_b; rw [if_pos h]
theorem ds_bf {p : Prop} (h : ¬ p) : ds_b p = 0 := by unfold ds_b; rw [if_neg h]
theorem ds_bc {p q : Prop} (h : p ↔ q) : ds_b p = ds_b q := congrArg ds_b (propext h)
theorem ds_b01 (p : Prop) : ds_b p = 0 ∨ ds_b p = 1 := by
  by_cases h : p
  · exact Or.inr (ds_bt h)
  · exact Or.inl (ds_bf h)
theorem ds_b0 {p : Prop} : nI (ds_b p) = 0 ↔ ¬ p := by
  by_cases h : p
  · rw [ds_bt h]; exact ⟨fun z => absurd z (by decide), fun z => absurd h z⟩
  · rw [ds_bf h]; exact ⟨fun _ => h, fun _ => rfl⟩
/-- numbers that may be none: code 0 is -1, code p + 1 is p -/
def ds_pI (c : Nat) : Int32 := nI c - 1
theorem ds_pI0 : ds_pI 0 = -1 := by decide +kernel
theorem ds_pIs (p : Nat) : ds_pI (p + 1) = nI p := nI_pred p
theorem ds_nIn1 {p : Nat} (h : p < 2 ^ 31) : ¬ nI p = -1 := by
  intro e
  have h1 := nI_toInt h
  rw [e] at h1
  have h2 : (-1 : Int32).toInt = -1 := by decide
  omega
theorem ds_pI_n1 {c : Nat} (h : c < 2 ^ 31) : ds_pI c = -1 ↔ c = 0 := by
  cases c with
  | zero => exact ⟨fun _ => rfl, fun _ => ds_pI0⟩
  | succ p => rw [ds_pIs]; exact ⟨fun z => absurd z (ds_nIn1 (by omega)), fun z => by omega⟩
theorem ds_pI_eq {a b : Nat} (ha : a < 2 ^ 31) (hb : b < 2 ^ 31) : ds_pI a = ds_pI b ↔ a = b := by
  constructor
  · intro e
    have h2 : nI a - 1 + 1 = nI b - 1 + 1 := congrArg (· + 1) e
    rw [Int32.sub_add_cancel, Int32.sub_add_cancel] at h2
    exact (nI_eq ha hb).mp h2
  · intro e; rw [e]
theorem ds_pI_ni {a p : Nat} (ha : a < 2 ^ 31) (hp : p + 1 < 2 ^ 31) : ds_pI a = nI p ↔ a = p + 1 := by
  rw [← ds_pIs, ds_pI_eq ha hp]
theorem ds_pI_lt {c : Nat} (h : c < 2 ^ 31) : ds_pI c < 0 ↔ c = 0 := by
  cases c with
  | zero => rw [ds_pI0]; exact ⟨fun _ => rfl, fun _ => by decide⟩
  | succ p => rw [ds_pIs]; exact ⟨fun z => absurd z (nI_pos (by omega)), fun z => by omega⟩
theorem ds_m1 (c : Nat) : nI c + (-1) = ds_pI c := (Int32.sub_eq_add_neg (nI c) 1).symm
theorem ds_neN {a b : Nat} (ha : a < 2 ^ 31) (hb : b < 2 ^ 31) (h : a ≠ b) : ¬ nI a = nI b := fun z => h ((nI_eq ha hb).mp z)
/-! indices -/
theorem ds_80 (n r : Nat) : (80 : Int32) * nI n + nI r = nI (80 * n + r) := by
  rw [show (80 : Int32) = nI 80 from rfl, pk_mul, nI_add]
theorem ds_8 (n r : Nat) : (8 : Int32) * nI n + nI r = nI (8 * n + r) := by
  rw [show (8 : Int32) = nI 8 from rfl, pk_mul, nI_add]
theorem ds_3 (n r : Nat) : (3 : Int32) * nI n + nI r = nI (3 * n + r) := by
  rw [show (3 : Int32) = nI 3 from rfl, pk_mul, nI_add]
theorem ds_640 (n d : Nat) : (640 : Int32) * nI n + 80 * nI d = nI (640 * n + 80 * d) := by
  rw [show (640 : Int32) = nI 640 from rfl, show (80 : Int32) = nI 80 from rfl, pk_mul, pk_mul, nI_add]
theorem ds_cl {n : Nat} (h : n < 2000000000) : (nI n).toNatClampNeg = n := nI_clamp (by omega)
theorem ds_in {n N : Nat} (h : n < N) (hN : N < 2000000000) : vp_in (nI n) N := vp_in_nI h (by omega)
theorem ds_us (f : Nat → Int32) (k : Nat) {x : Int32} (h : f k = x) : upd f k x = f := by
  funext j
  by_cases e : j = k
  · subst e; rw [pk_us]; exact h.symm
  · exact pk_un e
theorem ds_upd {f : Nat → Int32} {k j : Nat} {x : Int32} : upd f k x j = if j = k then x else f j := rfl
/-! 0 or 1 -/
def ds_bo (a : Nat → Int32) : Prop := ∀ j, a j = 0 ∨ a j = 1
theorem ds_bo_u {a : Nat → Int32} {k : Nat} {x : Int32} (h : ds_bo a) (hx : x = 0 ∨ x = 1) : ds_bo (upd a k x) := by
  intro j
  by_cases e : j = k
  · subst e; rw [pk_us]; exact hx
  · rw [pk_un e]; exact h j
theorem ds_bo1 {a : Nat → Int32} (h : ds_bo a) {j : Nat} (hj : a j ≠ 0) : a j = 1 := by
  rcases h j with e | e
  · exact absurd e hj
  · exact e
theorem ds_nar {x : Int32} (h : x = 0 ∨ x = 1) : narrow .boolean (.int x) = .int x := by
  rcases h with rfl | rfl
  · rfl
  · rfl
theorem ds_vn {x : Int32} (h : x = 0 ∨ x = 1) : vp_nar .boolean x = x := by
  rcases h with rfl | rfl
  · rfl
  · rfl
theorem ds_vn0 : vp_nar .boolean 0 = 0 := rfl
theorem ds_vn1 : vp_nar .boolean 1 = 1 := rfl
/-! folds -/
def ds_fo {A : Type} (op : A → A → A) (e : A) (f : Nat → A) : Nat → A
  | 0 => e
  | n + 1 => op (ds_fo op e f n) (f n)
theorem ds_fo_c {A : Type} {op : A → A → A} {e : A} {f g : Nat → A} {N : Nat} (h : ∀ r, r < N → f r = g r) : ds_fo op e f N = ds_fo op e g N := by
  induction N with
  | zero => rfl
  | succ n ih =>
    show op (ds_fo op e f n) (f n) = op (ds_fo op e g n) (g n)
    rw [ih (fun r hr => h r (by omega)), h n (by omega)]
theorem ds_fo_e {A : Type} {op : A → A → A} {e : A} (he : ∀ a, op a e = a) {f : Nat → A} {N : Nat} (h : ∀ r, r < N → f r = e) : ds_fo op e f N = e := by
  induction N with
  | zero => rfl
  | succ n ih =>
    show op (ds_fo op e f n) (f n) = e
    rw [ih (fun r hr => h r (by omega)), h n (by omega), he]
theorem ds_fo_u {A : Type} {op : A → A → A} {e : A} (he : ∀ a, op a e = a) (ha : ∀ a b c, op (op a b) c = op a (op b c)) (hc : ∀ a b, op a b = op b a) {f g : Nat → A} {x : Nat} (hx : f x = e) (h : ∀ r, r ≠ x → g r = f r) : ∀ N, x < N → ds_fo op e g N = op (ds_fo op e f N) (g x) := by
  intro N
  induction N with
  | zero => intro hn; omega
  | succ n ih =>
    intro hn
    show op (ds_fo op e g n) (g n) = op (op (ds_fo op e f n) (f n)) (g x)
    by_cases z : x = n
    · subst z
      rw [hx, he, ds_fo_c (f := g) (g := f) (N := x) (fun r hr => h r (by omega))]
    · rw [ih (by omega), h n (by omega), ha, ha, hc (g x)]
theorem ds_fo_r {A : Type} {op : A → A → A} {e : A} (he : ∀ a, op a e = a) (ha : ∀ a b c, op (op a b) c = op a (op b c)) (hc : ∀ a b, op a b = op b a) {f : Nat → A} {L : Nat → Nat} {N : Nat} : ∀ (c : Nat) (g : Nat → A), (∀ i, i < c → L i < N) → (∀ i j, i < j → j < c → L i ≠ L j) → (∀ i, i < c → g (L i) = f (L i)) → (∀ r, r < N → (∀ i, i < c → L i ≠ r) → g r = e) → ds_fo op e g N = ds_fo op e (fun i => f (L i)) c := by
  intro c
  induction c with
  | zero =>
    intro g h1 h2 h3 h4
    exact ds_fo_e he (fun r hr => h4 r hr (fun i hi => by omega))
  | succ c ih =>
    intro g h1 h2 h3 h4
    have k1 := ds_fo_u (e := e) he ha hc (f := fun r => if r = L c then e else g r) (g := g) (x := L c) (if_pos rfl) (fun r hr => (if_neg hr).symm) N (h1 c (by omega))
    have a3 : ∀ i, i < c → (fun r => if r = L c then e else g r) (L i) = f (L i) := by
      intro i hi
      show (if L i = L c then e else g (L i)) = f (L i)
      rw [if_neg (h2 i c hi (by omega))]
      exact h3 i (by omega)
    have a4 : ∀ r, r < N → (∀ i, i < c → L i ≠ r) → (fun r => if r = L c then e else g r) r = e := by
      intro r hr h5
      show (if r = L c then e else g r) = e
      by_cases z : r = L c
      · rw [if_pos z]
      · rw [if_neg z]
        refine h4 r hr (fun i hi => ?_)
        by_cases y : i = c
        · subst y; exact fun w => z w.symm
        · exact h5 i (by omega)
    have k2 := ih (fun r => if r = L c then e else g r) (fun i hi => h1 i (by omega)) (fun i j h5 h6 => h2 i j h5 (by omega)) a3 a4
    rw [k1, k2, h3 c (by omega)]
    rfl
/-! counts -/
noncomputable def ds_cn (p : Nat → Prop) (N : Nat) : Nat := ds_fo (fun a b : Nat => a + b) 0 (fun r => ds_b (p r)) N
theorem ds_cn0 (p : Nat → Prop) : ds_cn p 0 = 0 := rfl
theorem ds_cns (p : Nat → Prop) (n : Nat) : ds_cn p (n + 1) = ds_cn p n + ds_b (p n) := rfl
theorem ds_cn_t {p : Nat → Prop} {n : Nat} (h : p n) : ds_cn p (n + 1) = ds_cn p n + 1 := by rw [ds_cns, ds_bt h]
theorem ds_cn_f {p : Nat → Prop} {n : Nat} (h : ¬ p n) : ds_cn p (n + 1) = ds_cn p n := by rw [ds_cns, ds_bf h]; rfl
theorem ds_cn_c {p q : Nat → Prop} {N : Nat} (h : ∀ r, r < N → (p r ↔ q r)) : ds_cn p N = ds_cn q N := ds_fo_c (fun r hr => ds_bc (h r hr))
theorem ds_cn_le (p : Nat → Prop) (N : Nat) : ds_cn p N ≤ N := by
  induction N with
  | zero => exact Nat.le_refl 0
  | succ n ih => rw [ds_cns]; rcases ds_b01 (p n) with h | h <;> omega
theorem ds_cn_mono {p : Nat → Prop} {a b : Nat} (h : a ≤ b) : ds_cn p a ≤ ds_cn p b := by
  induction b with
  | zero => have : a = 0 := by omega
            subst this; exact Nat.le_refl _
  | succ n ih =>
    by_cases e : a = n + 1
    · subst e; exact Nat.le_refl _
    · have := ih (by omega)
      rw [ds_cns]; omega
theorem ds_cn_sub {p q : Nat → Prop} {N : Nat} (h : ∀ r, r < N → p r → q r) : ds_cn p N ≤ ds_cn q N := by
  induction N with
  | zero => exact Nat.le_refl 0
  | succ n ih =>
    have k := ih (fun r hr => h r (by omega))
    by_cases z : p n
    · rw [ds_cn_t z, ds_cn_t (h n (by omega) z)]; omega
    · rw [ds_cn_f z, ds_cns]; omega
theorem ds_cn_z {p : Nat → Prop} {N : Nat} : ds_cn p N = 0 ↔ ∀ r, r < N → ¬ p r := by
  constructor
  · intro h r hr z
    have k := ds_cn_mono (p := p) (a := r + 1) (b := N) (by omega)
    rw [ds_cn_t z] at k
    omega
  · intro h
    exact ds_fo_e (fun a => Nat.add_zero a) (fun r hr => ds_bf (h r hr))
theorem ds_cn_u {p q : Nat → Prop} {x N : Nat} (hx : ¬ p x) (hq : q x) (h : ∀ r, r ≠ x → (q r ↔ p r)) (hN : x < N) : ds_cn q N = ds_cn p N + 1 := by
  have k := ds_fo_u (op := fun a b : Nat => a + b) (e := 0) (fun a => Nat.add_zero a) Nat.add_assoc Nat.add_comm (f := fun r => ds_b (p r)) (g := fun r => ds_b (q r)) (x := x) (ds_bf hx) (fun r hr => ds_bc (h r hr)) N hN
  have k2 : ds_b (q x) = 1 := ds_bt hq
  exact k.trans (congrArg (fun z => ds_cn p N + z) k2)
theorem ds_cn_lt {Q : Nat → Prop} {k : Nat} : ∀ c, k ≤ c → (∀ i, i < c → (Q i ↔ i < k)) → ds_cn Q c = k := by
  intro c
  induction c with
  | zero => intro h1 h2; rw [ds_cn0]; omega
  | succ c ih =>
    intro h1 h2
    by_cases z : k = c + 1
    · subst z
      have k2 : ds_cn Q (c + 1) = ds_cn (fun i => True) (c + 1) := ds_cn_c (fun r hr => ⟨fun _ => trivial, fun _ => (h2 r hr).mpr hr⟩)
      rw [k2]
      have : ∀ n, ds_cn (fun _ => True) n = n := by
        intro n
        induction n with
        | zero => rfl
        | succ n ih => rw [ds_cn_t trivial, ih]
      exact this _
    · rw [ds_cn_f (fun w => by have := (h2 c (by omega)).mp w; omega)]
      exact ih (by omega) (fun i hi => h2 i (by omega))
/-! sorted enumerations -/
def ds_SE (S : Nat → Prop) (lt : Nat → Nat → Prop) (c : Nat) (L : Nat → Nat) : Prop := (∀ i, i < c → S (L i)) ∧ (∀ r, S r → ∃ i, i < c ∧ L i = r) ∧ (∀ i j, i < j → j < c → lt (L i) (L j))
theorem ds_se_fo {A : Type} {op : A → A → A} {e : A} (he : ∀ a, op a e = a) (ha : ∀ a b c, op (op a b) c = op a (op b c)) (hc : ∀ a b, op a b = op b a) {S : Nat → Prop} {lt : Nat → Nat → Prop} {c N : Nat} {L : Nat → Nat} (h : ds_SE S lt c L) (hi : ∀ a, ¬ lt a a) (hN : ∀ r, S r → r < N) {f g : Nat → A} (h1 : ∀ r, S r → g r = f r) (h2 : ∀ r, ¬ S r → g r = e) : ds_fo op e g N = ds_fo op e (fun i => f (L i)) c := by
  obtain ⟨s1, s2, s3⟩ := h
  refine ds_fo_r he ha hc c g (fun i hi => hN _ (s1 i hi)) (fun i j h5 h6 w => ?_) (fun i hi => h1 _ (s1 i hi)) (fun r _ h5 => h2 r (fun w => ?_))
  · have := s3 i j h5 h6
    rw [w] at this
    exact hi _ this
  · obtain ⟨i, h6, h7⟩ := s2 r w
    exact h5 i h6 h7
theorem ds_se_cn {S Q : Nat → Prop} {lt : Nat → Nat → Prop} {c N : Nat} {L : Nat → Nat} (h : ds_SE S lt c L) (hi : ∀ a, ¬ lt a a) (hN : ∀ r, S r → r < N) : ds_cn (fun r => S r ∧ Q r) N = ds_cn (fun i => Q (L i)) c :=
  ds_se_fo (op := fun a b : Nat => a + b) (e := 0) (fun a => Nat.add_zero a) Nat.add_assoc Nat.add_comm h hi hN (f := fun r => ds_b (Q r)) (g := fun r => ds_b (S r ∧ Q r)) (fun r hr => ds_bc ⟨fun w => w.2, fun w => ⟨hr, w⟩⟩) (fun r hr => ds_bf (fun w => hr w.1))
theorem ds_se_len {S : Nat → Prop} {lt : Nat → Nat → Prop} {c N : Nat} {L : Nat → Nat} (h : ds_SE S lt c L) (hi : ∀ a, ¬ lt a a) (hN : ∀ r, S r → r < N) : ds_cn S N = c := by
  have k := ds_se_cn (Q := fun _ => True) h hi hN
  rw [ds_cn_lt (Q := fun _ => True) (k := c) c (Nat.le_refl c) (fun i h5 => ⟨fun _ => h5, fun _ => trivial⟩)] at k
  rw [← k]
  exact ds_cn_c (fun r _ => ⟨fun w => ⟨w, trivial⟩, fun w => w.1⟩)
theorem ds_se_le {S : Nat → Prop} {lt : Nat → Nat → Prop} {c N : Nat} {L : Nat → Nat} (h : ds_SE S lt c L) (hi : ∀ a, ¬ lt a a) (hN : ∀ r, S r → r < N) : c ≤ N := by
  rw [← ds_se_len h hi hN]; exact ds_cn_le _ _
theorem ds_se_ord {S : Nat → Prop} {lt : Nat → Nat → Prop} {c : Nat} {L : Nat → Nat} (h : ds_SE S lt c L) (hi : ∀ a, ¬ lt a a) (hs : ∀ a b, S a → S b → lt a b → ¬ lt b a) {i j : Nat} (h1 : i < c) (h2 : j < c) : lt (L i) (L j) ↔ i < j := by
  obtain ⟨s1, s2, s3⟩ := h
  constructor
  · intro w
    by_cases z : i < j
    · exact z
    · by_cases y : i = j
      · subst y; exact absurd w (hi _)
      · exact absurd (s3 j i (by omega) h1) (hs _ _ (s1 i h1) (s1 j h2) w)
  · intro w; exact s3 i j w h2
theorem ds_se_inj {S : Nat → Prop} {lt : Nat → Nat → Prop} {c : Nat} {L : Nat → Nat} (h : ds_SE S lt c L) (hi : ∀ a, ¬ lt a a) {i j : Nat} (h1 : i < c) (h2 : j < c) (e : L i = L j) : i = j := by
  obtain ⟨s1, s2, s3⟩ := h
  by_cases z : i < j
  · have := s3 i j z h2; rw [e] at this; exact absurd this (hi _)
  · by_cases y : j < i
    · have := s3 j i y h1; rw [e] at this; exact absurd this (hi _)
    · omega
theorem ds_se_rank {S : Nat → Prop} {lt : Nat → Nat → Prop} {c N : Nat} {L : Nat → Nat} (h : ds_SE S lt c L) (hi : ∀ a, ¬ lt a a) (hs : ∀ a b, S a → S b → lt a b → ¬ lt b a) (hN : ∀ r, S r → r < N) {k : Nat} (hk : k < c) : ds_cn (fun r => S r ∧ lt r (L k)) N = k := by
  rw [ds_se_cn (Q := fun r => lt r (L k)) h hi hN]
  exact ds_cn_lt c (by omega) (fun i h5 => ds_se_ord h hi hs h5 hk)
theorem ds_se_c {S S' : Nat → Prop} {lt lt' : Nat → Nat → Prop} {c : Nat} {L : Nat → Nat} (h : ds_SE S lt c L) (hS : ∀ r, S r ↔ S' r) (hl : ∀ a b, S a → S b → lt a b → lt' a b) : ds_SE S' lt' c L := by
  obtain ⟨s1, s2, s3⟩ := h
  exact ⟨fun i hi => (hS _).mp (s1 i hi), fun r hr => s2 r ((hS r).mpr hr), fun i j h5 h6 => hl _ _ (s1 i (by omega)) (s1 j h6) (s3 i j h5 h6)⟩
def ds_rm (k : Nat) (L : Nat → Nat) : Nat → Nat := fun i => if i < k then L i else L (i + 1)
def ds_ins (k r : Nat) (L : Nat → Nat) : Nat → Nat := fun i => if i < k then L i else if i = k then r else L (i - 1)
theorem ds_rm_lo {k i : Nat} {L : Nat → Nat} (h : i < k) : ds_rm k L i = L i := if_pos h
theorem ds_rm_hi {k i : Nat} {L : Nat → Nat} (h : ¬ i < k) : ds_rm k L i = L (i + 1) := if_neg h
theorem ds_ins_lo {k r i : Nat} {L : Nat → Nat} (h : i < k) : ds_ins k r L i = L i := if_pos h
theorem ds_ins_at {k r : Nat} {L : Nat → Nat} : ds_ins k r L k = r := by
  unfold ds_ins; rw [if_neg (by omega), if_pos rfl]
theorem ds_ins_hi {k r i : Nat} {L : Nat → Nat} (h : k < i) : ds_ins k r L i = L (i - 1) := by
  unfold ds_ins; rw [if_neg (by omega), if_neg (by omega)]
theorem ds_se_rm {S : Nat → Prop} {lt : Nat → Nat → Prop} {c : Nat} {L : Nat → Nat} (h : ds_SE S lt c L) (hi : ∀ a, ¬ lt a a) {k : Nat} (hk : k < c) : ds_SE (fun x => S x ∧ x ≠ L k) lt (c - 1) (ds_rm k L) := by
  have h0 := h
  obtain ⟨s1, s2, s3⟩ := h
  refine ⟨fun i h5 => ?_, fun r hr => ?_, fun i j h5 h6 => ?_⟩
  · by_cases z : i < k
    · rw [ds_rm_lo z]
      exact ⟨s1 i (by omega), fun w => by have := ds_se_inj h0 hi (i := i) (j := k) (by omega) hk w; omega⟩
    · rw [ds_rm_hi z]
      exact ⟨s1 (i + 1) (by omega), fun w => by have := ds_se_inj h0 hi (i := i + 1) (j := k) (by omega) hk w; omega⟩
  · obtain ⟨i, h5, h6⟩ := s2 r hr.1
    by_cases z : i < k
    · exact ⟨i, by omega, by rw [ds_rm_lo z]; exact h6⟩
    · have y : i ≠ k := fun w => by subst w; exact hr.2 h6.symm
      exact ⟨i - 1, by omega, by rw [ds_rm_hi (by omega), show i - 1 + 1 = i by omega]; exact h6⟩
  · by_cases z : j < k
    · rw [ds_rm_lo z, ds_rm_lo (by omega)]; exact s3 i j h5 (by omega)
    · by_cases y : i < k
      · rw [ds_rm_lo y, ds_rm_hi z]; exact s3 i (j + 1) (by omega) (by omega)
      · rw [ds_rm_hi y, ds_rm_hi z]; exact s3 (i + 1) (j + 1) (by omega) (by omega)
theorem ds_se_in {S : Nat → Prop} {lt : Nat → Nat → Prop} {c : Nat} {L : Nat → Nat} (h : ds_SE S lt c L) {k r : Nat} (hk : k ≤ c) (h1 : ∀ i, i < k → lt (L i) r) (h2 : ∀ i, k ≤ i → i < c → lt r (L i)) : ds_SE (fun x => S x ∨ x = r) lt (c + 1) (ds_ins k r L) := by
  obtain ⟨s1, s2, s3⟩ := h
  refine ⟨fun i h5 => ?_, fun x hx => ?_, fun i j h5 h6 => ?_⟩
  · by_cases z : i < k
    · rw [ds_ins_lo z]; exact Or.inl (s1 i (by omega))
    · by_cases y : i = k
      · subst y; rw [ds_ins_at]; exact Or.inr rfl
      · rw [ds_ins_hi (by omega)]; exact Or.inl (s1 (i - 1) (by omega))
  · rcases hx with hx | rfl
    · obtain ⟨i, h5, h6⟩ := s2 x hx
      by_cases z : i < k
      · exact ⟨i, by omega, by rw [ds_ins_lo z]; exact h6⟩
      · exact ⟨i + 1, by omega, by rw [ds_ins_hi (by omega)]; exact h6⟩
    · exact ⟨k, by omega, ds_ins_at⟩
  · by_cases z : j < k
    · rw [ds_ins_lo z, ds_ins_lo (by omega)]; exact s3 i j h5 (by omega)
    · by_cases y : j = k
      · subst y; rw [ds_ins_at, ds_ins_lo h5]; exact h1 i h5
      · rw [ds_ins_hi (i := j) (by omega)]
        by_cases x : i < k
        · rw [ds_ins_lo x]; exact s3 i (j - 1) (by omega) (by omega)
        · by_cases w : i = k
          · subst w; rw [ds_ins_at]; exact h2 (j - 1) (by omega) (by omega)
          · rw [ds_ins_hi (by omega)]; exact s3 (i - 1) (j - 1) (by omega) (by omega)
/-- a list in two arrays: its length in cell a, its members from cell b on -/
def ds_LL (S : Nat → Prop) (lt : Nat → Nat → Prop) (lc ll : Nat → Int32) (a b : Nat) : Prop := ∃ (c : Nat) (L : Nat → Nat), lc a = nI c ∧ (∀ i, i < c → ll (b + i) = nI (L i)) ∧ ds_SE S lt c L
end
section
/-! the tree of revisions: m of them; document D r, parent's code P r, generation G r, value V r, mark M r -/
def ds_TI (m : Nat) (D P G : Nat → Nat) (V M : Nat → Int32) : Prop :=
  m ≤ 80 ∧ (∀ r, r < m → D r < 8 ∧ P r ≤ r ∧ (M r = 0 ∨ M r = 1) ∧ (P r = 0 → G r = 1) ∧ (∀ p, P r = p + 1 → D p = D r ∧ G r = G p + 1)) ∧
  (∀ r s, r < m → s < m → D r = D s → P r = P s → V r = V s → M r = M s → r = s)
def ds_lx (V M : Nat → Int32) (a b : Nat) : Prop := V b < V a ∨ (V a = V b ∧ M a ≠ 0 ∧ M b = 0)
def ds_pb (P : Nat → Nat) (V M : Nat → Int32) : Nat → Nat → Nat → Prop
  | 0, _, _ => False
  | n + 1, a, b => (P a = P b ∧ ds_lx V M a b) ∨ (P a ≠ P b ∧ ds_pb P V M n (P a - 1) (P b - 1))
def ds_bh (P G : Nat → Nat) (V M : Nat → Int32) (a b : Nat) : Prop := G b < G a ∨ (G a = G b ∧ ds_pb P V M (G a) a b)
section
variable {m : Nat} {D P G : Nat → Nat} {V M : Nat → Int32}
theorem ds_pb_e {n a b : Nat} (h : P a = P b) : ds_pb P V M (n + 1) a b ↔ ds_lx V M a b := by
  constructor
  · intro w
    rcases w with w | w
    · exact w.2
    · exact absurd h w.1
  · intro w; exact Or.inl ⟨h, w⟩
theorem ds_pb_n {n a b : Nat} (h : P a ≠ P b) : ds_pb P V M (n + 1) a b ↔ ds_pb P V M n (P a - 1) (P b - 1) := by
  constructor
  · intro w
    rcases w with w | w
    · exact absurd w.1 h
    · exact w.2
  · intro w; exact Or.inr ⟨h, w⟩
theorem ds_lx_irr (a : Nat) : ¬ ds_lx V M a a := by
  intro w
  rcases w with w | w
  · exact Int32.lt_irrefl w
  · exact w.2.1 w.2.2
theorem ds_lx_tr {a b c : Nat} (h : ds_lx V M a b) (k : ds_lx V M b c) : ds_lx V M a c := by
  rcases h with h | h
  · rcases k with k | k
    · exact Or.inl (Int32.lt_trans k h)
    · exact Or.inl (by rw [← k.1]; exact h)
  · rcases k with k | k
    · exact Or.inl (by rw [h.1]; exact k)
    · exact absurd h.2.2 k.2.1
theorem ds_pb_irr {n : Nat} (a : Nat) : ¬ ds_pb P V M n a a := by
  cases n with
  | zero => exact fun w => w
  | succ n => rw [ds_pb_e rfl]; exact ds_lx_irr a
theorem ds_bh_irr (a : Nat) : ¬ ds_bh P G V M a a := by
  intro w
  rcases w with w | w
  · omega
  · exact ds_pb_irr a w.2
theorem ds_g1 (h : ds_TI m D P G V M) : ∀ r, r < m → 1 ≤ G r ∧ G r ≤ r + 1 := by
  intro r
  induction r using Nat.strongRecOn with
  | ind r ih =>
    intro hr
    obtain ⟨h1, h2, h3⟩ := h
    obtain ⟨_, k2, _, k4, k5⟩ := h2 r hr
    by_cases z : P r = 0
    · rw [k4 z]; omega
    · obtain ⟨p, hp⟩ : ∃ p, P r = p + 1 := ⟨P r - 1, by omega⟩
      have := (k5 p hp).2
      have := ih p (by omega) (by omega)
      omega
/-- of one generation: both have a parent or neither has -/
theorem ds_gp (h : ds_TI m D P G V M) {r g : Nat} (hr : r < m) (hg : G r = g + 1) : (g = 0 → P r = 0) ∧ (P r ≠ 0 → P r - 1 < r ∧ G (P r - 1) = g ∧ D (P r - 1) = D r) ∧ (P r = 0 → g = 0) := by
  obtain ⟨h1, h2, h3⟩ := h
  obtain ⟨_, k2, _, k4, k5⟩ := h2 r hr
  by_cases z : P r = 0
  · have := k4 z
    exact ⟨fun _ => z, fun w => absurd z w, fun _ => by omega⟩
  · obtain ⟨p, hp⟩ : ∃ p, P r = p + 1 := ⟨P r - 1, by omega⟩
    have w := k5 p hp
    have := ds_g1 ⟨h1, h2, h3⟩ p (by omega)
    rw [hp]
    exact ⟨fun _ => by omega, fun _ => ⟨by omega, by rw [Nat.add_sub_cancel]; omega, by rw [Nat.add_sub_cancel]; exact w.1⟩, fun y => by omega⟩
theorem ds_pb_tr (h : ds_TI m D P G V M) : ∀ (g a b c : Nat), a < m → b < m → c < m → G a = g → G b = g → G c = g → ds_pb P V M g a b → ds_pb P V M g b c → ds_pb P V M g a c := by
  intro g
  induction g with
  | zero => intro a b c _ _ _ _ _ _ w _; exact absurd w (fun z => z)
  | succ g ih =>
    intro a b c ha hb hc ga gb gc w1 w2
    have qa := ds_gp h ha ga
    have qb := ds_gp h hb gb
    have qc := ds_gp h hc gc
    by_cases e1 : P a = P b
    · by_cases e2 : P b = P c
      · rw [ds_pb_e e1] at w1; rw [ds_pb_e e2] at w2; rw [ds_pb_e (e1.trans e2)]; exact ds_lx_tr w1 w2
      · rw [ds_pb_n (by rw [e1]; exact e2), e1]; rw [ds_pb_n e2] at w2; exact w2
    · by_cases e2 : P b = P c
      · rw [ds_pb_n (by rw [← e2]; exact e1), ← e2]; rw [ds_pb_n e1] at w1; exact w1
      · rw [ds_pb_n e1] at w1; rw [ds_pb_n e2] at w2
        have z0 : g ≠ 0 := by
          intro z
          exact e1 ((qa.1 z).trans (qb.1 z).symm)
        have za : P a ≠ 0 := fun w => z0 (qa.2.2 w)
        have zb : P b ≠ 0 := fun w => z0 (qb.2.2 w)
        have zc : P c ≠ 0 := fun w => z0 (qc.2.2 w)
        have ua := qa.2.1 za
        have ub := qb.2.1 zb
        have uc := qc.2.1 zc
        have w3 := ih (P a - 1) (P b - 1) (P c - 1) (by omega) (by omega) (by omega) ua.2.1 ub.2.1 uc.2.1 w1 w2
        by_cases e3 : P a = P c
        · rw [e3] at w3; exact absurd w3 (ds_pb_irr _)
        · rw [ds_pb_n e3]; exact w3
theorem ds_pb_tot (h : ds_TI m D P G V M) : ∀ (g a b : Nat), a < m → b < m → G a = g → G b = g → D a = D b → a ≠ b → ds_pb P V M g a b ∨ ds_pb P V M g b a := by
  intro g
  induction g with
  | zero => intro a b ha hb ga; have := ds_g1 h a ha; omega
  | succ g ih =>
    intro a b ha hb ga gb hd hn
    have qa := ds_gp h ha ga
    have qb := ds_gp h hb gb
    by_cases e1 : P a = P b
    · rw [ds_pb_e e1, ds_pb_e e1.symm]
      by_cases v : V a = V b
      · obtain ⟨h1, h2, h3⟩ := h
        have ma := (h2 a ha).2.2.1
        have mb := (h2 b hb).2.2.1
        have mn : M a ≠ M b := fun w => hn (h3 a b ha hb hd e1 v w)
        rcases ma with ma | ma
        · rcases mb with mb | mb
          · exact absurd (ma.trans mb.symm) mn
          · exact Or.inr (Or.inr ⟨v.symm, by rw [mb]; decide, ma⟩)
        · rcases mb with mb | mb
          · exact Or.inl (Or.inr ⟨v, by rw [ma]; decide, mb⟩)
          · exact absurd (ma.trans mb.symm) mn
      · rcases Int32.lt_or_lt_of_ne v with w | w
        · exact Or.inr (Or.inl w)
        · exact Or.inl (Or.inl w)
    · rw [ds_pb_n e1, ds_pb_n (fun w => e1 w.symm)]
      have z0 : g ≠ 0 := by
        intro z
        exact e1 ((qa.1 z).trans (qb.1 z).symm)
      have za : P a ≠ 0 := fun w => z0 (qa.2.2 w)
      have zb : P b ≠ 0 := fun w => z0 (qb.2.2 w)
      have ua := qa.2.1 za
      have ub := qb.2.1 zb
      exact ih (P a - 1) (P b - 1) (by omega) (by omega) ua.2.1 ub.2.1 (by rw [ua.2.2, ub.2.2]; exact hd) (fun w => e1 (by omega))
theorem ds_bh_tr (h : ds_TI m D P G V M) {a b c : Nat} (ha : a < m) (hb : b < m) (hc : c < m) (w1 : ds_bh P G V M a b) (w2 : ds_bh P G V M b c) : ds_bh P G V M a c := by
  rcases w1 with w1 | w1
  · rcases w2 with w2 | w2
    · exact Or.inl (by omega)
    · exact Or.inl (by omega)
  · rcases w2 with w2 | w2
    · exact Or.inl (by omega)
    · refine Or.inr ⟨by omega, ds_pb_tr h (G a) a b c ha hb hc rfl (by omega) (by omega) w1.2 ?_⟩
      rw [w1.1]; exact w2.2
theorem ds_bh_as (h : ds_TI m D P G V M) {a b : Nat} (ha : a < m) (hb : b < m) (w1 : ds_bh P G V M a b) : ¬ ds_bh P G V M b a := fun w2 => ds_bh_irr a (ds_bh_tr h ha hb ha w1 w2)
theorem ds_bh_tot (h : ds_TI m D P G V M) {a b : Nat} (ha : a < m) (hb : b < m) (hd : D a = D b) (hn : a ≠ b) : ds_bh P G V M a b ∨ ds_bh P G V M b a := by
  by_cases e : G a = G b
  · rcases ds_pb_tot h (G a) a b ha hb rfl e.symm hd hn with w | w
    · exact Or.inl (Or.inr ⟨e, w⟩)
    · exact Or.inr (Or.inr ⟨e.symm, by rw [← e]; exact w⟩)
  · by_cases z : G a < G b
    · exact Or.inr (Or.inl z)
    · exact Or.inl (Or.inl (by omega))
/-! ancestors -/
def ds_an (P : Nat → Nat) (a : Nat) : Nat → Nat
  | 0 => a
  | j + 1 => P (ds_an P a j) - 1
theorem ds_an_g (h : ds_TI m D P G V M) {a g : Nat} (ha : a < m) (hg : G a = g) : ∀ j, j < g → ds_an P a j < m ∧ G (ds_an P a j) = g - j ∧ (P (ds_an P a j) = 0 ↔ j + 1 = g) := by
  intro j
  induction j with
  | zero =>
    intro hj
    obtain ⟨g, rfl⟩ : ∃ x, g = x + 1 := ⟨g - 1, by omega⟩
    have q := ds_gp h ha hg
    exact ⟨ha, hg, ⟨fun w => by have := q.2.2 w; omega, fun w => q.1 (by omega)⟩⟩
  | succ j ih =>
    intro hj
    obtain ⟨i1, i2, i3⟩ := ih (by omega)
    have z : P (ds_an P a j) ≠ 0 := fun w => by have := i3.mp w; omega
    have q := (ds_gp h i1 (g := g - j - 1) (by omega)).2.1 z
    have q2 : G (ds_an P a (j + 1)) = g - j - 1 := q.2.1
    have lt : ds_an P a (j + 1) < m := by
      show P (ds_an P a j) - 1 < m
      omega
    have q3 := ds_gp h lt (g := g - j - 1 - 1) (by omega)
    exact ⟨lt, by omega, ⟨fun w => by have := q3.2.2 w; omega, fun w => q3.1 (by omega)⟩⟩
theorem ds_an_eq {a b j : Nat} (h : ds_an P a j = ds_an P b j) : ds_an P a (j + 1) = ds_an P b (j + 1) := by
  show P (ds_an P a j) - 1 = P (ds_an P b j) - 1
  rw [h]
theorem ds_pb_an {a b g : Nat} : ∀ j, j < g → (ds_an P a j ≠ ds_an P b j ∨ j = 0) → (ds_pb P V M g a b ↔ ds_pb P V M (g - j) (ds_an P a j) (ds_an P b j)) := by
  intro j
  induction j with
  | zero => intro _ _; exact Iff.rfl
  | succ j ih =>
    intro hj hn
    have n1 : ds_an P a (j + 1) ≠ ds_an P b (j + 1) := by
      rcases hn with hn | hn
      · exact hn
      · omega
    have n0 : ds_an P a j ≠ ds_an P b j := fun w => n1 (ds_an_eq w)
    rw [ih (by omega) (Or.inl n0)]
    have e : g - j = (g - (j + 1)) + 1 := by omega
    rw [e, ds_pb_n]
    · rfl
    · intro w
      exact n1 (by show P (ds_an P a j) - 1 = P (ds_an P b j) - 1; rw [w])
/-- the first level at which the paths part decides -/
theorem ds_pb_lv (h : ds_TI m D P G V M) {a b g k : Nat} (ha : a < m) (hb : b < m) (ga : G a = g) (gb : G b = g) (hk : k < g) (h1 : ∀ i, i < k → ds_an P a (g - 1 - i) = ds_an P b (g - 1 - i)) (h2 : k + 1 = g ∨ ds_an P a (g - 1 - k) ≠ ds_an P b (g - 1 - k)) :
    ds_pb P V M g a b ↔ ds_lx V M (ds_an P a (g - 1 - k)) (ds_an P b (g - 1 - k)) := by
  rw [ds_pb_an (P := P) (V := V) (M := M) (a := a) (b := b) (g := g) (g - 1 - k) (by omega) (h2.elim (fun w => Or.inr (by omega)) Or.inl)]
  have e : g - (g - 1 - k) = k + 1 := by omega
  rw [e, ds_pb_e]
  have qa := ds_an_g h ha ga (g - 1 - k) (by omega)
  have qb := ds_an_g h hb gb (g - 1 - k) (by omega)
  by_cases z : k = 0
  · rw [qa.2.2.mpr (by omega), qb.2.2.mpr (by omega)]
  · have w := h1 (k - 1) (by omega)
    have e2 : g - 1 - (k - 1) = (g - 1 - k) + 1 := by omega
    rw [e2] at w
    have w2 : P (ds_an P a (g - 1 - k)) - 1 = P (ds_an P b (g - 1 - k)) - 1 := w
    have za : P (ds_an P a (g - 1 - k)) ≠ 0 := fun y => by have := qa.2.2.mp y; omega
    have zb : P (ds_an P b (g - 1 - k)) ≠ 0 := fun y => by have := qb.2.2.mp y; omega
    omega
end
end
section
/-! what both sides keep, and Y's own helpers -/
def ds_lf (m : Nat) (D P : Nat → Nat) (kn : Nat → Int32) (n d r : Nat) : Prop := r < m ∧ D r = d ∧ kn (80 * n + r) ≠ 0 ∧ ∀ s, s < m → P s = r + 1 → kn (80 * n + s) = 0
def ds_rp (m : Nat) (D P : Nat → Nat) (dc pr : Nat → Int32) : Prop := ∀ r, r < m → dc r = nI (D r) ∧ pr r = ds_pI (P r)
def ds_KI (m : Nat) (P : Nat → Nat) (kn hb : Nat → Int32) : Prop := ds_bo kn ∧ ds_bo hb ∧ (∀ n r, n < 3 → m ≤ r → r < 80 → kn (80 * n + r) = 0) ∧ (∀ n r, n < 3 → r < 80 → kn (80 * n + r) = 0 → hb (80 * n + r) = 0) ∧ (∀ n r p, n < 3 → r < m → P r = p + 1 → kn (80 * n + r) ≠ 0 → kn (80 * n + p) ≠ 0)
theorem ds_post_t {post : Int32 → Prop} {p : Prop} (h : p) (hp : post (nI (ds_b p))) : post 1 := by rw [ds_bt h] at hp; exact hp
theorem ds_post_f {post : Int32 → Prop} {p : Prop} (h : ¬ p) (hp : post (nI (ds_b p))) : post 0 := by rw [ds_bf h] at hp; exact hp
theorem ds_brb {p A B : Prop} (f : p → B) (g : ¬ p → A) : (nI (ds_b p) = 0 → A) ∧ (¬ nI (ds_b p) = 0 → B) := ⟨fun z => g (ds_b0.mp z), fun z => f (Classical.not_not.mp (fun w => z (ds_b0.mpr w)))⟩
theorem ds_nNO {p : Nat} (h : p < 2 ^ 31) : ¬ nI p = -1000000003 := by
  intro e
  have h1 := nI_toInt h
  rw [e] at h1
  have h2 : (-1000000003 : Int32).toInt = -1000000003 := by decide
  omega
theorem ds_10 : ¬ (1 : Int32) = 0 := by decide
/-! the winner -/
def ds_bb (mr : Nat → Int32) (bh : Nat → Nat → Prop) (a b : Nat) : Prop := (mr a = mr b ∧ bh a b) ∨ (mr a ≠ mr b ∧ mr b ≠ 0)
def ds_wn (S : Nat → Prop) (mr : Nat → Int32) (bh : Nat → Nat → Prop) (w : Nat) : Prop := S w ∧ ∀ s, S s → s ≠ w → ds_bb mr bh w s
section
variable {m : Nat} {D P G : Nat → Nat} {V M : Nat → Int32}
theorem ds_bb_tr (h : ds_TI m D P G V M) {a b c : Nat} (ha : a < m) (hb : b < m) (hc : c < m) (w1 : ds_bb M (ds_bh P G V M) a b) (w2 : ds_bb M (ds_bh P G V M) b c) : ds_bb M (ds_bh P G V M) a c := by
  rcases w1 with w1 | w1
  · rcases w2 with w2 | w2
    · exact Or.inl ⟨w1.1.trans w2.1, ds_bh_tr h ha hb hc w1.2 w2.2⟩
    · exact Or.inr ⟨by rw [w1.1]; exact w2.1, w2.2⟩
  · rcases w2 with w2 | w2
    · exact Or.inr ⟨by rw [← w2.1]; exact w1.1, by rw [← w2.1]; exact w1.2⟩
    · exfalso
      have mb := (h.2.1 b hb).2.2.1
      have mc := (h.2.1 c hc).2.2.1
      rcases mb with mb | mb
      · exact w1.2 mb
      · rcases mc with mc | mc
        · exact w2.2 mc
        · exact w2.1 (mb.trans mc.symm)
theorem ds_bb_irr (a : Nat) : ¬ ds_bb M (ds_bh P G V M) a a := by
  intro w
  rcases w with w | w
  · exact ds_bh_irr a w.2
  · exact w.1 rfl
theorem ds_bb_tot (h : ds_TI m D P G V M) {a b : Nat} (ha : a < m) (hb : b < m) (hd : D a = D b) (hn : a ≠ b) : ds_bb M (ds_bh P G V M) a b ∨ ds_bb M (ds_bh P G V M) b a := by
  by_cases e : M a = M b
  · rcases ds_bh_tot h ha hb hd hn with w | w
    · exact Or.inl (Or.inl ⟨e, w⟩)
    · exact Or.inr (Or.inl ⟨e.symm, w⟩)
  · by_cases z : M b = 0
    · exact Or.inr (Or.inr ⟨fun w => e w.symm, fun w => e (w.trans z.symm)⟩)
    · exact Or.inl (Or.inr ⟨e, z⟩)
theorem ds_wn_u (h : ds_TI m D P G V M) {S : Nat → Prop} (hS : ∀ r, S r → r < m) {w x : Nat} (h1 : ds_wn S M (ds_bh P G V M) w) (h2 : ds_wn S M (ds_bh P G V M) x) : w = x := by
  by_cases e : w = x
  · exact e
  · exact absurd (ds_bb_tr h (hS w h1.1) (hS x h2.1) (hS w h1.1) (h1.2 x h2.1 (fun z => e z.symm)) (h2.2 w h1.1 e)) (ds_bb_irr w)
end
section
variable {m : Nat} {D P G : Nat → Nat} {dc pr vl mr kn hb ct st : Nat → Int32}
theorem ds_y_gen_l (hT : ds_TI m D P G vl mr) (hR : ds_rp m D P dc pr) {post : Int32 → Prop} : ∀ (n c k : Nat), c ≤ m → c < n → post (nI (k + (if c = 0 then 0 else G (c - 1)))) → wY_generation_4 post (nI m) dc pr vl mr kn hb ct st n (nI k) (ds_pI c) := by
  have hm : m ≤ 80 := hT.1
  intro n
  induction n with
  | zero => intro c k h1 h2; omega
  | succ n ih =>
    intro c k h1 h2 hp
    rw [wY_generation_4]; dsimp only
    by_cases z : c = 0
    · rw [if_pos z] at hp
      exact br_t ((ds_pI_lt (by omega)).mpr z) hp
    · obtain ⟨p, rfl⟩ : ∃ p, c = p + 1 := ⟨c - 1, by omega⟩
      rw [if_neg z, Nat.add_sub_cancel] at hp
      rw [ds_pIs, ds_cl (n := p) (by omega)]
      obtain ⟨_, k2, _, k4, k5⟩ := hT.2.1 p (by omega)
      refine br_f (nI_pos (by omega)) ⟨ds_in (by omega) (by omega), nm_r (e' := ds_pI (P p)) (hR p (by omega)).2 (nm_r (nI_1 k) (ih (P p) (k + 1) (by omega) (by omega) ?_))⟩
      by_cases y : P p = 0
      · rw [if_pos y]; rw [k4 y] at hp; exact hp
      · obtain ⟨q, hq⟩ : ∃ q, P p = q + 1 := ⟨P p - 1, by omega⟩
        rw [if_neg y, hq, Nat.add_sub_cancel]
        rw [(k5 q hq).2] at hp
        rw [show k + 1 + G q = k + (G q + 1) by omega]
        exact hp
theorem ds_y_gen (hT : ds_TI m D P G vl mr) (hR : ds_rp m D P dc pr) {post : Int32 → Prop} {r : Nat} (hr : r < m) (hp : post (nI (G r))) : wpY_generation post (nI m, dc, pr, vl, mr, kn, hb, ct, st) (nI r) := by
  have k := ds_y_gen_l (kn := kn) (hb := hb) (ct := ct) (st := st) hT hR (post := post) (r + 2) (r + 1) 0 (by omega) (by omega) (by rw [if_neg (by omega), Nat.add_sub_cancel, Nat.zero_add]; exact hp)
  rw [ds_pIs] at k
  exact ⟨r + 2, k⟩
theorem ds_y_bh_l (hT : ds_TI m D P G vl mr) (hR : ds_rp m D P dc pr) {post : Int32 → Prop} : ∀ (g n a b : Nat), g ≤ n → a < m → b < m → G a = g → G b = g → post (nI (ds_b (ds_pb P vl mr g a b))) → wY_isBehind_42 post (nI m) dc pr vl mr kn hb ct st n (nI a) (nI b) := by
  have hm : m ≤ 80 := hT.1
  intro g
  induction g with
  | zero => intro n a b hn ha hb2 ga; have := ds_g1 hT a ha; omega
  | succ g ih =>
    intro n a b hn ha hb2 ga gb hp
    obtain ⟨n, rfl⟩ : ∃ x, n = x + 1 := ⟨n - 1, by omega⟩
    have ia : vp_in (nI a) 80 := ds_in (by omega) (by omega)
    have ib : vp_in (nI b) 80 := ds_in (by omega) (by omega)
    have qa := ds_gp hT ha ga
    have qb := ds_gp hT hb2 gb
    have pa := (hT.2.1 a ha).2.1
    have pb := (hT.2.1 b hb2).2.1
    rw [wY_isBehind_42]; dsimp only; rw [ds_cl (n := a) (by omega), ds_cl (n := b) (by omega)]
    refine ⟨ia, ib, ?_⟩
    by_cases e : P a = P b
    · refine br_t (by rw [(hR a ha).2, (hR b hb2).2, e]) ⟨ia, ib, ?_⟩
      rw [ds_pb_e e] at hp
      by_cases v1 : vl b < vl a
      · exact br_t v1 (ds_post_t (Or.inl v1) hp)
      · refine br_f v1 ⟨ia, ib, ?_⟩
        by_cases v2 : vl a = vl b
        · refine br_t v2 ⟨ia, ?_⟩
          by_cases m1 : mr a = 0
          · exact br_t m1 (ds_post_f (fun w => w.elim v1 (fun y => y.2.1 m1)) hp)
          · refine br_f m1 ⟨ib, ?_⟩
            by_cases m2 : mr b = 0
            · exact br_t m2 (ds_post_t (Or.inr ⟨v2, m1, m2⟩) hp)
            · exact br_f m2 (ds_post_f (fun w => w.elim v1 (fun y => m2 y.2.2)) hp)
        · exact br_f v2 (ds_post_f (fun w => w.elim v1 (fun y => v2 y.1)) hp)
    · have z0 : g ≠ 0 := fun z => e ((qa.1 z).trans (qb.1 z).symm)
      have za : P a ≠ 0 := fun w => z0 (qa.2.2 w)
      have zb : P b ≠ 0 := fun w => z0 (qb.2.2 w)
      have ua := qa.2.1 za
      have ub := qb.2.1 zb
      rw [ds_pb_n e] at hp
      have ea : pr a = nI (P a - 1) := by rw [(hR a ha).2, ← ds_pIs]; congr 1; omega
      have eb : pr b = nI (P b - 1) := by rw [(hR b hb2).2, ← ds_pIs]; congr 1; omega
      refine br_f (by rw [ea, eb]; exact ds_neN (by omega) (by omega) (by omega)) ⟨ia, nm_r ea ⟨ib, nm_r eb (ih n _ _ (by omega) (by omega) (by omega) ua.2.1 ub.2.1 hp)⟩⟩
theorem ds_y_bh (hT : ds_TI m D P G vl mr) (hR : ds_rp m D P dc pr) {post : Int32 → Prop} {a b : Nat} (ha : a < m) (hb' : b < m) (hp : post (nI (ds_b (ds_bh P G vl mr a b)))) : wpY_isBehind post (nI m, dc, pr, vl, mr, kn, hb, ct, st) (nI a) (nI b) := by
  have hm : m ≤ 80 := hT.1
  have ga := ds_g1 hT a ha
  have gb := ds_g1 hT b hb'
  unfold wpY_isBehind
  dsimp only
  refine ds_y_gen hT hR ha (ds_y_gen hT hR hb' ?_)
  by_cases e : G a = G b
  · refine br_t (by rw [e]) ?_
    by_cases z : a = b
    · refine br_t (by rw [z]) ?_
      unfold wY_isBehind_24
      refine br_t (by rw [e]; exact Int32.le_refl _) (ds_post_f ?_ hp)
      rw [z]; exact ds_bh_irr b
    · refine br_f (ds_neN (by omega) (by omega) z) ⟨G a, ds_y_bh_l hT hR (G a) (G a) a b (Nat.le_refl _) ha hb' rfl e.symm ?_⟩
      rw [ds_bc (q := ds_bh P G vl mr a b) ⟨fun w => Or.inr ⟨e, w⟩, fun w => w.elim (fun y => by omega) (fun y => y.2)⟩]
      exact hp
  · refine br_f (ds_neN (by omega) (by omega) e) ?_
    unfold wY_isBehind_24
    by_cases z : G b < G a
    · exact br_f (nI_ge z (by omega)) (ds_post_t (Or.inl z) hp)
    · exact br_t (nI_le (by omega) (by omega)) (ds_post_f (fun w => w.elim z (fun y => e y.1)) hp)
theorem ds_y_kn {mk : Int32} (hk : ds_bo kn) {post : Int32 → Prop} {n r : Nat} (hn : n < 3) (hr : r < 80) (hp : post (kn (80 * n + r))) : wpY_knowsIt post (mk, dc, pr, vl, mr, kn, hb, ct, st) (nI n) (nI r) := by
  unfold wpY_knowsIt
  dsimp only
  rw [ds_80, ds_cl (n := 80 * n + r) (by omega)]
  exact ⟨ds_in (by omega) (by omega), ds_nar (hk _), hp⟩
theorem ds_y_lf_l (hT : ds_TI m D P G vl mr) (hR : ds_rp m D P dc pr) (hk : ds_bo kn) {n r : Nat} (hn : n < 3) (hr : r < 80) {post : Int32 → Prop} : ∀ (f s : Nat), s ≤ m → m - s < f → post (nI (ds_b (∀ t, s ≤ t → t < m → P t = r + 1 → kn (80 * n + t) = 0))) → wY_isLeaf_24 post (nI n) (nI r) (nI m) dc pr vl mr kn hb ct st f (nI s) := by
  have hm : m ≤ 80 := hT.1
  intro f
  induction f with
  | zero => intro s h1 h2; omega
  | succ f ih =>
    intro s h1 h2 hp
    rw [wY_isLeaf_24]; dsimp only
    by_cases z : m ≤ s
    · exact br_t (nI_le z (by omega)) (ds_post_t (fun t h3 h4 => by omega) hp)
    · rw [ds_cl (n := s) (by omega)]
      have ps := (hT.2.1 s (by omega)).2.1
      have nx : (P s = r + 1 → kn (80 * n + s) = 0) → wY_isLeaf_24 post (nI n) (nI r) (nI m) dc pr vl mr kn hb ct st f (nI (s + 1)) := by
        intro w
        refine ih (s + 1) (by omega) (by omega) ?_
        rw [ds_bc (q := ∀ t, s ≤ t → t < m → P t = r + 1 → kn (80 * n + t) = 0)]
        · exact hp
        · constructor
          · intro y t h3 h4
            by_cases x : t = s
            · rw [x]; exact w
            · exact y t (by omega) h4
          · intro y t h3 h4; exact y t (by omega) h4
      refine br_f (nI_ge (by omega) (by omega)) ⟨ds_in (by omega) (by omega), ?_⟩
      by_cases e : P s = r + 1
      · refine br_t (by rw [(hR s (by omega)).2, e, ds_pIs]) (ds_y_kn hk hn (by omega) ?_)
        by_cases w : kn (80 * n + s) = 0
        · exact br_t w (nm_r (nI_1 s) (nx (fun _ => w)))
        · exact br_f w (ds_post_f (fun q => w (q s (Nat.le_refl _) (by omega) e)) hp)
      · refine br_f (fun w => e ?_) (nm_r (nI_1 s) (nx (fun w => absurd w e)))
        rw [(hR s (by omega)).2] at w
        exact (ds_pI_ni (by omega) (by omega)).mp w
theorem ds_y_lf (hT : ds_TI m D P G vl mr) (hR : ds_rp m D P dc pr) (hk : ds_bo kn) {n d r : Nat} (hn : n < 3) (hd : d < 8) (hr : r < m) {post : Int32 → Prop} (hp : post (nI (ds_b (ds_lf m D P kn n d r)))) : wpY_isLeaf post (nI m, dc, pr, vl, mr, kn, hb, ct, st) (nI n) (nI d) (nI r) := by
  have hm : m ≤ 80 := hT.1
  have dr := (hT.2.1 r hr).1
  unfold wpY_isLeaf
  dsimp only
  rw [ds_cl (n := r) (by omega)]
  refine ⟨ds_in (by omega) (by omega), ?_⟩
  by_cases e : D r = d
  · refine br_t (by rw [(hR r hr).1, e]) (ds_y_kn hk hn (by omega) ?_)
    by_cases w : kn (80 * n + r) = 0
    · exact br_t w (ds_post_f (fun q => q.2.2.1 w) hp)
    · refine br_f w ⟨m + 1, ds_y_lf_l hT hR hk hn (by omega) (m + 1) 0 (by omega) (by omega) ?_⟩
      rw [ds_bc (q := ds_lf m D P kn n d r) ⟨fun y => ⟨hr, e, w, fun s => y s (Nat.zero_le s)⟩, fun y s _ => y.2.2.2 s⟩]
      exact hp
  · refine br_f (fun w => e ?_) (ds_post_f (fun q => e q.2.1) hp)
    rw [(hR r hr).1] at w
    exact (nI_eq (by omega) (by omega)).mp w
theorem ds_y_fl_l (hT : ds_TI m D P G vl mr) (hR : ds_rp m D P dc pr) (hk : ds_bo kn) {n d r : Nat} (hn : n < 3) (hd : d < 8) (hr : r < m) {x : Int32} {post J : Int32 → Prop} (hp : nI (ds_cn (fun s => ds_lf m D P kn n d s ∧ ds_bh P G vl mr s r) m) = x → post (nI r)) (hj : nI (ds_cn (fun s => ds_lf m D P kn n d s ∧ ds_bh P G vl mr s r) m) ≠ x → J (nI (r + 1))) : ∀ (f s : Nat), s ≤ m → m - s < f → wY_findLeaf_29 post J (nI n) (nI d) x (nI r) (nI m) dc pr vl mr kn hb ct st f (nI (ds_cn (fun s => ds_lf m D P kn n d s ∧ ds_bh P G vl mr s r) s)) (nI s) := by
  have hm : m ≤ 80 := hT.1
  intro f
  induction f with
  | zero => intro s h1 h2; omega
  | succ f ih =>
    intro s h1 h2
    rw [wY_findLeaf_29]; dsimp only
    by_cases z : m ≤ s
    · have e : s = m := by omega
      rw [e]
      exact br_t (Int32.le_refl _) (br_c hp (fun w => nm_r (nI_1 r) (hj w)))
    · refine br_f (nI_ge (by omega) (by omega)) (ds_y_lf hT hR hk hn hd (by omega) (ds_brb (fun w => ds_y_bh hT hR (by omega) hr (ds_brb (fun v => ?_) (fun v => ?_))) (fun w => ?_)))
      · have k := ih (s + 1) (by omega) (by omega)
        rw [ds_cn_t ⟨w, v⟩] at k
        exact nm_r (nI_1 _) (nm_r (nI_1 s) k)
      · have k := ih (s + 1) (by omega) (by omega)
        rw [ds_cn_f (fun y => v y.2)] at k
        exact nm_r (nI_1 s) k
      · have k := ih (s + 1) (by omega) (by omega)
        rw [ds_cn_f (fun y => w y.1)] at k
        exact nm_r (nI_1 s) k
theorem ds_y_fl (hT : ds_TI m D P G vl mr) (hR : ds_rp m D P dc pr) (hk : ds_bo kn) {n d : Nat} (hn : n < 3) (hd : d < 8) {x : Int32} {post : Int32 → Prop} (h1 : ∀ r, ds_lf m D P kn n d r → nI (ds_cn (fun s => ds_lf m D P kn n d s ∧ ds_bh P G vl mr s r) m) = x → post (nI r)) (h2 : (∀ r, ds_lf m D P kn n d r → nI (ds_cn (fun s => ds_lf m D P kn n d s ∧ ds_bh P G vl mr s r) m) ≠ x) → post (-1000000003)) : wpY_findLeaf post (nI m, dc, pr, vl, mr, kn, hb, ct, st) (nI n) (nI d) x := by
  have hm : m ≤ 80 := hT.1
  have main : ∀ (f s : Nat), s ≤ m → m - s < f → (∀ r, r < s → ds_lf m D P kn n d r → nI (ds_cn (fun s => ds_lf m D P kn n d s ∧ ds_bh P G vl mr s r) m) ≠ x) → wY_findLeaf_3 post (nI n) (nI d) x (nI m) dc pr vl mr kn hb ct st f (nI s) := by
    intro f
    induction f with
    | zero => intro s h1 h2; omega
    | succ f ih =>
      intro s h3 h4 h5
      rw [wY_findLeaf_3]; dsimp only
      by_cases z : m ≤ s
      · exact br_t (nI_le z (by omega)) (h2 (fun r hr => h5 r (by have := hr.1; omega) hr))
      · refine br_f (nI_ge (by omega) (by omega)) (ds_y_lf hT hR hk hn hd (by omega) (ds_brb (fun w => ⟨m + 1, ds_y_fl_l hT hR hk hn hd (by omega) (h1 s w) (fun y => ih (s + 1) (by omega) (by omega) (fun r hr v => ?_)) (m + 1) 0 (by omega) (by omega)⟩) (fun w => nm_r (nI_1 s) (ih (s + 1) (by omega) (by omega) (fun r hr v => ?_)))))
        · by_cases e : r = s
          · rw [e]; exact y
          · exact h5 r (by omega) v
        · by_cases e : r = s
          · rw [e] at v; exact absurd v w
          · exact h5 r (by omega) v
  exact ⟨m + 1, main (m + 1) 0 (by omega) (by omega) (fun r hr => by omega)⟩
theorem ds_y_cl (hT : ds_TI m D P G vl mr) (hR : ds_rp m D P dc pr) (hk : ds_bo kn) {n d : Nat} (hn : n < 3) (hd : d < 8) {x : Int32} {post : Int32 → Prop} (hp : post (nI (ds_cn (fun r => ds_lf m D P kn n d r ∧ ¬ (x ≠ 0 ∧ mr r ≠ 0)) m))) : wpY_countLeaves post (nI m, dc, pr, vl, mr, kn, hb, ct, st) (nI n) (nI d) x := by
  have hm : m ≤ 80 := hT.1
  have main : ∀ (f s : Nat), s ≤ m → m - s < f → wY_countLeaves_6 post (nI n) (nI d) x (nI m) dc pr vl mr kn hb ct st f (nI (ds_cn (fun r => ds_lf m D P kn n d r ∧ ¬ (x ≠ 0 ∧ mr r ≠ 0)) s)) (nI s) := by
    intro f
    induction f with
    | zero => intro s h1 h2; omega
    | succ f ih =>
      intro s h1 h2
      rw [wY_countLeaves_6]; dsimp only
      by_cases z : m ≤ s
      · have e : s = m := by omega
        rw [e]
        exact br_t (Int32.le_refl _) hp
      · have k := ih (s + 1) (by omega) (by omega)
        refine br_f (nI_ge (by omega) (by omega)) (ds_y_lf hT hR hk hn hd (by omega) (ds_brb (fun w => ?_) (fun w => ?_)))
        · by_cases e : x = 0
          · rw [ds_cn_t ⟨w, fun y => y.1 e⟩] at k
            exact br_t e (nm_r (nI_1 _) (nm_r (nI_1 s) k))
          · refine br_f e ⟨ds_in (by omega) (by omega), ?_⟩
            rw [ds_cl (n := s) (by omega)]
            by_cases v : mr s = 0
            · rw [ds_cn_t ⟨w, fun y => y.2 v⟩] at k
              exact br_t v (nm_r (nI_1 _) (nm_r (nI_1 s) k))
            · rw [ds_cn_f (fun y => y.2 ⟨e, v⟩)] at k
              exact br_f v (nm_r (nI_1 s) k)
        · rw [ds_cn_f (fun y => w y.1)] at k
          exact nm_r (nI_1 s) k
  exact ⟨m + 1, main (m + 1) 0 (by omega) (by omega)⟩
theorem ds_y_w70 {post : Int32 → Prop} {J : Int32 → Int32 → Prop} {x1 x2 x3 x : Int32} {mk : Int32} {s : Nat} (hx : x = nI s) (h : J (nI s) (nI (s + 1))) : wY_findWinner_70 post J x1 x2 x3 x mk dc pr vl mr kn hb ct st := by
  rw [hx]
  unfold wY_findWinner_70 wY_findWinner_75
  exact br_f ds_10 (nm_r (nI_1 s) h)
theorem ds_y_w74 {post : Int32 → Prop} {J : Int32 → Int32 → Prop} {x1 x2 x3 x : Int32} {mk : Int32} {s : Nat} (hx : x = nI s) (h : J x3 (nI (s + 1))) : wY_findWinner_74 post J x1 x2 x3 x mk dc pr vl mr kn hb ct st := by
  rw [hx]
  unfold wY_findWinner_74 wY_findWinner_75
  exact br_t rfl (nm_r (nI_1 s) h)
theorem ds_y_fw (hT : ds_TI m D P G vl mr) (hR : ds_rp m D P dc pr) (hk : ds_bo kn) {n d : Nat} (hn : n < 3) (hd : d < 8) {post : Int32 → Prop} (h1 : ∀ w, ds_wn (ds_lf m D P kn n d) mr (ds_bh P G vl mr) w → post (nI w)) (h2 : (∀ r, ¬ ds_lf m D P kn n d r) → post (-1000000003)) : wpY_findWinner post (nI m, dc, pr, vl, mr, kn, hb, ct, st) (nI n) (nI d) := by
  have hm : m ≤ 80 := hT.1
  have main : ∀ (f s : Nat) (x : Int32), s ≤ m → m - s < f → ((x = -1000000003 ∧ ∀ t, t < s → ¬ ds_lf m D P kn n d t) ∨ (∃ b, x = nI b ∧ b < s ∧ ds_lf m D P kn n d b ∧ ∀ t, t < s → ds_lf m D P kn n d t → t ≠ b → ds_bb mr (ds_bh P G vl mr) b t)) → wY_findWinner_6 post (nI n) (nI d) (nI m) dc pr vl mr kn hb ct st f x (nI s) := by
    intro f
    induction f with
    | zero => intro s x h1 h2; omega
    | succ f ih =>
      intro s x h3 h4 h5
      rw [wY_findWinner_6]; dsimp only
      by_cases z : m ≤ s
      · refine br_t (nI_le z (by omega)) ?_
        rcases h5 with ⟨rfl, h5⟩ | ⟨b, rfl, h6, h7, h8⟩
        · exact h2 (fun r hr => h5 r (by have := hr.1; omega) hr)
        · exact h1 b ⟨h7, fun t ht => h8 t (by have := ht.1; omega) ht⟩
      · refine br_f (nI_ge (by omega) (by omega)) (ds_y_lf hT hR hk hn hd (by omega) (ds_brb (fun w => ?_) (fun w => ?_)))
        · rcases h5 with ⟨rfl, h5⟩ | ⟨b, rfl, h6, h7, h8⟩
          · refine br_t rfl (ds_y_w70 rfl (ih (s + 1) (nI s) (by omega) (by omega) (Or.inr ⟨s, rfl, by omega, w, fun t ht h9 h10 => ?_⟩)))
            exact absurd h9 (h5 t (by omega))
          · have hbm : b < m := by omega
            have up : ds_bb mr (ds_bh P G vl mr) s b → wY_findWinner_6 post (nI n) (nI d) (nI m) dc pr vl mr kn hb ct st f (nI s) (nI (s + 1)) := by
              intro v
              refine ih (s + 1) (nI s) (by omega) (by omega) (Or.inr ⟨s, rfl, by omega, w, fun t ht h9 h10 => ?_⟩)
              by_cases e : t = b
              · rw [e]; exact v
              · exact ds_bb_tr hT (by omega) hbm h9.1 v (h8 t (by omega) h9 e)
            have dn : ¬ ds_bb mr (ds_bh P G vl mr) s b → wY_findWinner_6 post (nI n) (nI d) (nI m) dc pr vl mr kn hb ct st f (nI b) (nI (s + 1)) := by
              intro v
              refine ih (s + 1) (nI b) (by omega) (by omega) (Or.inr ⟨b, rfl, by omega, h7, fun t ht h9 h10 => ?_⟩)
              by_cases e : t = s
              · rw [e]
                rcases ds_bb_tot hT hbm (show s < m by omega) (by rw [h7.2.1, w.2.1]) (show b ≠ s by omega) with y | y
                · exact y
                · exact absurd y v
              · exact h8 t (by omega) h9 h10
            refine br_f (ds_nNO (by omega)) ⟨ds_in (by omega) (by omega), ds_in (by omega) (by omega), ?_⟩
            rw [ds_cl (n := s) (by omega), ds_cl (n := b) (by omega)]
            by_cases e : mr s = mr b
            · refine br_t e (ds_y_bh hT hR (by omega) hbm (ds_brb (fun v => ds_y_w70 rfl (up (Or.inl ⟨e, v⟩))) (fun v => ds_y_w74 rfl (dn (fun y => y.elim (fun x => v x.2) (fun x => x.1 e))))))
            · refine br_f e ⟨ds_in (by omega) (by omega), ?_⟩
              by_cases v : mr b = 0
              · exact br_t v (ds_y_w74 rfl (dn (fun y => y.elim (fun x => e x.1) (fun x => x.2 v))))
              · exact br_f v (ds_y_w70 rfl (up (Or.inr ⟨e, v⟩)))
        · refine nm_r (nI_1 s) (ih (s + 1) x (by omega) (by omega) ?_)
          rcases h5 with ⟨rfl, h5⟩ | ⟨b, rfl, h6, h7, h8⟩
          · refine Or.inl ⟨rfl, fun t ht y => ?_⟩
            by_cases e : t = s
            · rw [e] at y; exact w y
            · exact h5 t (by omega) y
          · refine Or.inr ⟨b, rfl, by omega, h7, fun t ht h9 h10 => ?_⟩
            by_cases e : t = s
            · rw [e] at h9; exact absurd h9 w
            · exact h8 t (by omega) h9 h10
  exact ⟨m + 1, main (m + 1) 0 (-1000000003) (by omega) (by omega) (Or.inl ⟨rfl, fun t ht => by omega⟩)⟩
end
end
section
/-! X's revisions: chains of children, making, paths, order -/
def ds_un (f : Nat → Nat) (k x : Nat) : Nat → Nat := fun j => if j = k then x else f j
theorem ds_uns {f : Nat → Nat} {k x : Nat} : ds_un f k x k = x := if_pos rfl
theorem ds_unn {f : Nat → Nat} {k j x : Nat} (h : j ≠ k) : ds_un f k x j = f j := if_neg h
def ds_la (D P : Nat → Nat) (d q b c : Nat) : Prop := c ≤ b ∧ (∀ r, c = r + 1 → D r = d ∧ P r = q) ∧ ∀ s, c ≤ s → s < b → ¬ (D s = d ∧ P s = q)
def ds_CH (m : Nat) (D P : Nat → Nat) (lh cb lf : Nat → Int32) : Prop := (∀ d, d < 8 → ∃ c, lf d = ds_pI c ∧ ds_la D P d 0 m c) ∧ (∀ p, p < m → ∃ c, lh p = ds_pI c ∧ ds_la D P (D p) (p + 1) m c) ∧ (∀ r, r < m → ∃ c, cb r = ds_pI c ∧ ds_la D P (D r) (P r) r c)
def ds_rg (m : Nat) (G : Nat → Nat) (gn : Nat → Int32) : Prop := ∀ r, r < m → gn r = nI (G r)
def ds_mt (D P : Nat → Nat) (vl mr : Nat → Int32) (d q : Nat) (x k : Int32) (r : Nat) : Prop := D r = d ∧ P r = q ∧ vl r = x ∧ mr r = k
section
variable {m : Nat} {D P : Nat → Nat}
theorem ds_la_c {d q d' q' b c : Nat} (h : ds_la D P d' q' b c) (hb : b ≤ m) : ds_la (ds_un D m d) (ds_un P m q) d' q' b c := by
  obtain ⟨h1, h2, h3⟩ := h
  refine ⟨h1, fun r hr => ?_, fun s h4 h5 => ?_⟩
  · rw [ds_unn (by omega), ds_unn (by omega)]; exact h2 r hr
  · rw [ds_unn (by omega), ds_unn (by omega)]; exact h3 s h4 h5
theorem ds_la_m {d q d' q' c : Nat} (h : ds_la D P d' q' m c) (hn : ¬ (d = d' ∧ q = q')) : ds_la (ds_un D m d) (ds_un P m q) d' q' (m + 1) c := by
  obtain ⟨h1, h2, h3⟩ := ds_la_c (d := d) (q := q) h (Nat.le_refl m)
  refine ⟨by omega, h2, fun s h4 h5 => ?_⟩
  by_cases e : s = m
  · rw [e, ds_uns, ds_uns]; exact hn
  · exact h3 s h4 (by omega)
theorem ds_la_n {d q : Nat} : ds_la (ds_un D m d) (ds_un P m q) d q (m + 1) (m + 1) := by
  refine ⟨Nat.le_refl _, fun r hr => ?_, fun s h4 h5 => by omega⟩
  have e : r = m := by omega
  rw [e, ds_uns, ds_uns]; exact ⟨rfl, rfl⟩
theorem ds_la_0 {d q d' : Nat} (hP : ∀ r, r < m → P r ≤ r) (hq : q ≤ m) : ds_la (ds_un D m d) (ds_un P m q) d' (m + 1) (m + 1) 0 := by
  refine ⟨by omega, fun r hr => by omega, fun s _ h5 w => ?_⟩
  by_cases e : s = m
  · rw [e, ds_uns, ds_uns] at w; omega
  · rw [ds_unn e, ds_unn e] at w
    have := hP s (by omega)
    omega
theorem ds_CH_0 {lh cb lf : Nat → Int32} {d : Nat} (h : ds_CH m D P lh cb lf) (hP : ∀ r, r < m → P r ≤ r) (hd : d < 8) : ds_CH (m + 1) (ds_un D m d) (ds_un P m 0) (upd lh m (-1)) (upd cb m (lf d)) (upd lf d (nI m)) := by
  obtain ⟨h1, h2, h3⟩ := h
  refine ⟨fun e he => ?_, fun p hp => ?_, fun r hr => ?_⟩
  · by_cases z : e = d
    · subst z
      exact ⟨m + 1, by rw [pk_us, ds_pIs], ds_la_n⟩
    · obtain ⟨c, c1, c2⟩ := h1 e he
      exact ⟨c, by rw [pk_un z]; exact c1, ds_la_m c2 (fun w => z w.1.symm)⟩
  · by_cases z : p = m
    · subst z
      exact ⟨0, by rw [pk_us, ds_pI0], ds_la_0 hP (Nat.zero_le _)⟩
    · obtain ⟨c, c1, c2⟩ := h2 p (by omega)
      exact ⟨c, by rw [pk_un z]; exact c1, by rw [ds_unn z]; exact ds_la_m c2 (fun w => by omega)⟩
  · by_cases z : r = m
    · subst z
      obtain ⟨c, c1, c2⟩ := h1 d hd
      exact ⟨c, by rw [pk_us]; exact c1, by rw [ds_uns, ds_uns]; exact ds_la_c c2 (Nat.le_refl _)⟩
    · obtain ⟨c, c1, c2⟩ := h3 r (by omega)
      exact ⟨c, by rw [pk_un z]; exact c1, by rw [ds_unn z, ds_unn z]; exact ds_la_c c2 (by omega)⟩
theorem ds_CH_s {lh cb lf : Nat → Int32} {p : Nat} (h : ds_CH m D P lh cb lf) (hP : ∀ r, r < m → P r ≤ r) (hp : p < m) : ds_CH (m + 1) (ds_un D m (D p)) (ds_un P m (p + 1)) (upd (upd lh m (-1)) p (nI m)) (upd cb m (lh p)) lf := by
  obtain ⟨h1, h2, h3⟩ := h
  refine ⟨fun e he => ?_, fun x hx => ?_, fun r hr => ?_⟩
  · obtain ⟨c, c1, c2⟩ := h1 e he
    exact ⟨c, c1, ds_la_m c2 (fun w => by omega)⟩
  · by_cases y : x = p
    · subst y
      exact ⟨m + 1, by rw [pk_us, ds_pIs], by rw [ds_unn (by omega)]; exact ds_la_n⟩
    · by_cases z : x = m
      · subst z
        exact ⟨0, by rw [pk_un y, pk_us, ds_pI0], ds_la_0 hP (by omega)⟩
      · obtain ⟨c, c1, c2⟩ := h2 x (by omega)
        exact ⟨c, by rw [pk_un y, pk_un z]; exact c1, by rw [ds_unn z]; exact ds_la_m c2 (fun w => by omega)⟩
  · by_cases z : r = m
    · subst z
      obtain ⟨c, c1, c2⟩ := h2 p hp
      exact ⟨c, by rw [pk_us]; exact c1, by rw [ds_uns, ds_uns]; exact ds_la_c c2 (Nat.le_refl _)⟩
    · obtain ⟨c, c1, c2⟩ := h3 r (by omega)
      exact ⟨c, by rw [pk_un z]; exact c1, by rw [ds_unn z, ds_unn z]; exact ds_la_c c2 (by omega)⟩
end
section
variable {m : Nat} {D P G : Nat → Nat} {dc pr vl mr gn lh cb lf kn kc hb lc ll ct st cp vs vw iv vv qa qb : Nat → Int32}
theorem ds_x_fr_l (hm : m ≤ 80) (hC : ds_CH m D P lh cb lf) {d q : Nat} {x k : Int32} {post : Int32 → Prop} (h1 : ∀ r, r < m → ds_mt D P vl mr d q x k r → post (nI r)) (h2 : (∀ r, r < m → ¬ ds_mt D P vl mr d q x k r) → post (-1)) : ∀ (n c i : Nat), c ≤ m → c < n → c + i ≤ 80 → (∀ r, c = r + 1 → D r = d ∧ P r = q) → (∀ s, c ≤ s → s < m → ¬ ds_mt D P vl mr d q x k s) → wX_findRevision_25 post x k (nI m) dc pr vl mr gn lh cb lf kn kc hb lc ll ct st cp vs vw iv vv qa qb n (ds_pI c) (nI i) := by
  intro n
  induction n with
  | zero => intro c i h3 h4; omega
  | succ n ih =>
    intro c i h3 h4 h5 h6 h7
    rw [wX_findRevision_25]; dsimp only
    by_cases z : c = 0
    · have w : post (ds_pI c) := by
        rw [z, ds_pI0]
        exact h2 (fun r hr => h7 r (by omega) hr)
      exact br_c (fun _ => w) (fun _ => br_t ((ds_pI_n1 (by omega)).mpr z) w)
    · obtain ⟨r, rfl⟩ : ∃ r, c = r + 1 := ⟨c - 1, by omega⟩
      obtain ⟨c', c1, c2, c3, c4⟩ := hC.2.2 r (by omega)
      obtain ⟨e1, e2⟩ := h6 r rfl
      rw [ds_pIs, ds_cl (n := r) (by omega)]
      have ir : vp_in (nI r) 80 := ds_in (by omega) (by omega)
      have nx : ¬ ds_mt D P vl mr d q x k r → wX_findRevision_25 post x k (nI m) dc pr vl mr gn lh cb lf kn kc hb lc ll ct st cp vs vw iv vv qa qb n (ds_pI c') (nI (i + 1)) := by
        intro w
        refine ih c' (i + 1) (by omega) (by omega) (by omega) (fun s hs => ?_) (fun s h8 h9 => ?_)
        · have := c3 s hs
          rw [e1, e2] at this; exact this
        · by_cases y : r < s
          · exact h7 s (by omega) h9
          · by_cases y2 : s = r
            · rw [y2]; exact w
            · intro v
              exact c4 s h8 (by omega) ⟨by rw [e1]; exact v.1, by rw [e2]; exact v.2.1⟩
      refine br_f (nI_ge (b := 80) (by omega) (by omega)) (br_f (ds_nIn1 (by omega)) ⟨ir, ?_⟩)
      by_cases v1 : vl r = x
      · refine br_t v1 ⟨ir, ?_⟩
        by_cases v2 : mr r = k
        · exact br_t v2 (h1 r (by omega) ⟨e1, e2, v1, v2⟩)
        · exact br_f v2 ⟨ir, nm_r c1 (nm_r (nI_1 i) (nx (fun w => v2 w.2.2.2)))⟩
      · exact br_f v1 ⟨ir, nm_r c1 (nm_r (nI_1 i) (nx (fun w => v1 w.2.2.1)))⟩
theorem ds_x_fr (hm : m ≤ 80) (hC : ds_CH m D P lh cb lf) {d q : Nat} (hd : d < 8) (hq : q = 0 ∨ ∃ p, q = p + 1 ∧ p < m ∧ D p = d) {x k : Int32} {post : Int32 → Prop} (h1 : ∀ r, r < m → ds_mt D P vl mr d q x k r → post (nI r)) (h2 : (∀ r, r < m → ¬ ds_mt D P vl mr d q x k r) → post (-1)) : wpX_findRevision post (nI m, dc, pr, vl, mr, gn, lh, cb, lf, kn, kc, hb, lc, ll, ct, st, cp, vs, vw, iv, vv, qa, qb) (nI d) (ds_pI q) x k := by
  unfold wpX_findRevision
  dsimp only
  rcases hq with rfl | ⟨p, rfl, hp, e⟩
  · obtain ⟨c, c1, c2, c3, c4⟩ := hC.1 d hd
    rw [ds_cl (n := d) (by omega)]
    refine br_t ds_pI0 ⟨ds_in hd (by omega), nm_r c1 ⟨c + 1, ds_x_fr_l hm hC h1 h2 (c + 1) c 0 c2 (by omega) (by omega) c3 (fun s h5 h6 w => c4 s h5 h6 ⟨w.1, w.2.1⟩)⟩⟩
  · obtain ⟨c, c1, c2, c3, c4⟩ := hC.2.1 p hp
    rw [e] at c3 c4
    rw [ds_pIs, ds_cl (n := p) (by omega)]
    refine br_f (ds_nIn1 (by omega)) ⟨ds_in (by omega) (by omega), nm_r c1 ⟨c + 1, ds_x_fr_l hm hC h1 h2 (c + 1) c 0 c2 (by omega) (by omega) c3 (fun s h5 h6 w => c4 s h5 h6 ⟨w.1, w.2.1⟩)⟩⟩
theorem ds_x_mr (hT : ds_TI m D P G vl mr) (hG : ds_rg m G gn) (hC : ds_CH m D P lh cb lf) (hm : m < 80) {d q : Nat} (hd : d < 8) (hq : q = 0 ∨ ∃ p, q = p + 1 ∧ p < m ∧ D p = d) {x k : Int32} (hk : k = 0 ∨ k = 1) {post : Int32 → SX → Prop} (hp : ∀ gn' lh' cb' lf' : Nat → Int32, ds_rg (m + 1) (ds_un G m (if q = 0 then 1 else G (q - 1) + 1)) gn' → ds_CH (m + 1) (ds_un D m d) (ds_un P m q) lh' cb' lf' → post (nI m) (nI (m + 1), upd dc m (nI d), upd pr m (ds_pI q), upd vl m x, upd mr m k, gn', lh', cb', lf', kn, kc, hb, lc, ll, ct, st, cp, vs, vw, iv, vv, qa, qb)) : wpX_makeRevision post (nI m, dc, pr, vl, mr, gn, lh, cb, lf, kn, kc, hb, lc, ll, ct, st, cp, vs, vw, iv, vv, qa, qb) (nI d) (ds_pI q) x k := by
  have i : vp_in (nI m) 80 := ds_in hm (by omega)
  have id : vp_in (nI d) 8 := ds_in hd (by omega)
  have hP : ∀ r, r < m → P r ≤ r := fun r hr => (hT.2.1 r hr).2.1
  unfold wpX_makeRevision
  dsimp only
  rw [ds_cl (n := m) (by omega)]
  refine ⟨i, nm_e ⟨i, nm_e ⟨i, nm_e ⟨i, nm_r (e' := upd mr m k) (by rw [ds_vn hk]) ?_⟩⟩⟩⟩
  rcases hq with rfl | ⟨p, rfl, hp1, rfl⟩
  · refine br_t ds_pI0 ?_
    unfold wX_makeRevision_62
    rw [ds_cl (n := m) (by omega), ds_cl (n := d) (by omega)]
    refine ⟨i, nm_e ⟨i, nm_e (br_t ds_pI0 ⟨id, ?_⟩)⟩⟩
    unfold wX_makeRevision_97
    rw [ds_cl (n := m) (by omega), ds_cl (n := d) (by omega)]
    refine ⟨i, nm_e (br_t ds_pI0 ⟨id, nm_e ?_⟩)⟩
    unfold wX_makeRevision_122
    refine nm_r (nI_1 m) (hp _ _ _ _ (fun r hr => ?_) (ds_CH_0 hC hP hd))
    by_cases z : r = m
    · rw [z, pk_us, ds_uns]; rfl
    · rw [pk_un z, ds_unn z]; exact hG r (by omega)
  · have ip : vp_in (nI p) 80 := ds_in (by omega) (by omega)
    have np : ¬ nI p = -1 := ds_nIn1 (by omega)
    simp only [ds_pIs] at hp ⊢
    refine br_f np ⟨ip, ?_⟩
    unfold wX_makeRevision_62
    rw [ds_cl (n := m) (by omega), ds_cl (n := p) (by omega)]
    refine ⟨i, nm_e ⟨i, nm_e (br_f np ⟨ip, ?_⟩)⟩⟩
    unfold wX_makeRevision_97
    rw [ds_cl (n := m) (by omega), ds_cl (n := p) (by omega), pk_un (f := lh) (k := m) (j := p) (by omega)]
    refine ⟨i, nm_e (br_f np ⟨ip, nm_e ?_⟩)⟩
    unfold wX_makeRevision_122
    refine nm_r (nI_1 m) (hp _ _ _ _ (fun r hr => ?_) (ds_CH_s hC hP hp1))
    by_cases z : r = m
    · rw [z, pk_us, ds_uns, if_neg (by omega), hG p hp1, nI_1]
      rfl
    · rw [pk_un z, ds_unn z]; exact hG r (by omega)
theorem ds_x_fp (hT : ds_TI m D P G vl mr) (hR : ds_rp m D P dc pr) (hG : ds_rg m G gn) {a b g : Nat} (ha : a < m) (hb2 : b < m) (ga : G a = g) (gb : G b = g) {post : SX → Prop} (hp : ∀ qa' qb' : Nat → Int32, (∀ k, k < g → qa' k = nI (ds_an P a (g - 1 - k)) ∧ qb' k = nI (ds_an P b (g - 1 - k))) → post (nI m, dc, pr, vl, mr, gn, lh, cb, lf, kn, kc, hb, lc, ll, ct, st, cp, vs, vw, iv, vv, qa', qb')) : wpX_findPaths post (nI m, dc, pr, vl, mr, gn, lh, cb, lf, kn, kc, hb, lc, ll, ct, st, cp, vs, vw, iv, vv, qa, qb) (nI a) (nI b) := by
  have hm : m ≤ 80 := hT.1
  have hg := ds_g1 hT a ha
  have main : ∀ (c n : Nat) (x y : Int32) (qa' qb' : Nat → Int32), c ≤ g → c < n → (0 < c → x = nI (ds_an P a (g - c)) ∧ y = nI (ds_an P b (g - c))) → (∀ k, c ≤ k → k < g → qa' k = nI (ds_an P a (g - 1 - k)) ∧ qb' k = nI (ds_an P b (g - 1 - k))) → wX_findPaths_15 post (nI m) n x y (ds_pI c) dc pr vl mr gn lh cb lf kn kc hb lc ll ct st cp vs vw iv vv qa' qb' := by
    intro c
    induction c with
    | zero =>
      intro n x y qa' qb' h1 h2 h3 h4
      obtain ⟨n, rfl⟩ : ∃ z, n = z + 1 := ⟨n - 1, by omega⟩
      rw [wX_findPaths_15]; dsimp only
      exact br_t ((ds_pI_lt (by omega)).mpr rfl) (hp _ _ (fun k hk => h4 k (Nat.zero_le _) hk))
    | succ c ih =>
      intro n x y qa' qb' h1 h2 h3 h4
      obtain ⟨n, rfl⟩ : ∃ z, n = z + 1 := ⟨n - 1, by omega⟩
      obtain ⟨rfl, rfl⟩ := h3 (by omega)
      have qa1 := ds_an_g hT ha ga (g - (c + 1)) (by omega)
      have qb1 := ds_an_g hT hb2 gb (g - (c + 1)) (by omega)
      have ic : vp_in (nI c) 80 := ds_in (by omega) (by omega)
      have ia : vp_in (nI (ds_an P a (g - (c + 1)))) 80 := ds_in (by omega) (by omega)
      have ib : vp_in (nI (ds_an P b (g - (c + 1)))) 80 := ds_in (by omega) (by omega)
      rw [wX_findPaths_15]; dsimp only; rw [ds_pIs, ds_cl (n := c) (by omega), ds_cl (n := ds_an P a (g - (c + 1))) (by omega), ds_cl (n := ds_an P b (g - (c + 1))) (by omega)]
      refine br_f (nI_pos (by omega)) ⟨ic, nm_e ⟨ic, nm_e ⟨ia, nm_e ⟨ib, nm_e (nm_r (ds_m1 c) (ih n _ _ _ _ (by omega) (by omega) (fun h5 => ?_) (fun k h5 h6 => ?_)))⟩⟩⟩⟩
      · have e : g - c = (g - (c + 1)) + 1 := by omega
        have za : P (ds_an P a (g - (c + 1))) ≠ 0 := fun w => by have := qa1.2.2.mp w; omega
        have zb : P (ds_an P b (g - (c + 1))) ≠ 0 := fun w => by have := qb1.2.2.mp w; omega
        rw [e]
        constructor
        · rw [(hR _ qa1.1).2, ← ds_pIs]
          congr 1
          show _ = P (ds_an P a (g - (c + 1))) - 1 + 1
          omega
        · rw [(hR _ qb1.1).2, ← ds_pIs]
          congr 1
          show _ = P (ds_an P b (g - (c + 1))) - 1 + 1
          omega
      · by_cases z : k = c
        · rw [z, pk_us, pk_us, show g - 1 - c = g - (c + 1) by omega]
          exact ⟨rfl, rfl⟩
        · rw [pk_un z, pk_un z]
          exact h4 k (by omega) h6
  unfold wpX_findPaths
  dsimp only
  rw [ds_cl (n := a) (by omega)]
  refine ⟨ds_in (by omega) (by omega), nm_r (e' := ds_pI g) (by rw [hG a ha, ga]; rfl) ⟨g + 1, main g (g + 1) _ _ _ _ (Nat.le_refl _) (by omega) (fun _ => ?_) (fun k h1 h2 => by omega)⟩⟩
  rw [Nat.sub_self]
  exact ⟨rfl, rfl⟩
theorem ds_x_cf90 {post : Int32 → SX → Prop} {k A B : Nat} {p : Prop} (hk : k < 80) (hA : A < 80) (hB : B < 80) (ea : qa k = nI A) (eb : qb k = nI B) (e : p ↔ ds_lx vl mr A B) {mk : Int32} (hp : post (nI (ds_b p)) (mk, dc, pr, vl, mr, gn, lh, cb, lf, kn, kc, hb, lc, ll, ct, st, cp, vs, vw, iv, vv, qa, qb)) : wX_comesFirst_90 post (nI k) mk dc pr vl mr gn lh cb lf kn kc hb lc ll ct st cp vs vw iv vv qa qb := by
  rw [ds_bc e] at hp
  have ik : vp_in (nI k) 80 := ds_in hk (by omega)
  have ia : vp_in (nI A) 80 := ds_in hA (by omega)
  have ib : vp_in (nI B) 80 := ds_in hB (by omega)
  unfold wX_comesFirst_90
  rw [ds_cl (n := k) (by omega)]
  refine ⟨ik, nm_r ea ⟨ik, nm_r eb ⟨ia, ib, ?_⟩⟩⟩
  rw [ds_cl (n := A) (by omega), ds_cl (n := B) (by omega)]
  by_cases v : vl A = vl B
  · refine br_t v ⟨ia, ?_⟩
    have nl : ¬ vl B < vl A := by rw [v]; exact Int32.lt_irrefl
    by_cases m1 : mr A = 0
    · exact br_t m1 (ds_post_f (post := fun z => post z (mk, dc, pr, vl, mr, gn, lh, cb, lf, kn, kc, hb, lc, ll, ct, st, cp, vs, vw, iv, vv, qa, qb)) (fun w => w.elim nl (fun y => y.2.1 m1)) hp)
    · refine br_f m1 ⟨ib, ?_⟩
      by_cases m2 : mr B = 0
      · exact br_t m2 (ds_post_t (post := fun z => post z (mk, dc, pr, vl, mr, gn, lh, cb, lf, kn, kc, hb, lc, ll, ct, st, cp, vs, vw, iv, vv, qa, qb)) (Or.inr ⟨v, m1, m2⟩) hp)
      · exact br_f m2 (ds_post_f (post := fun z => post z (mk, dc, pr, vl, mr, gn, lh, cb, lf, kn, kc, hb, lc, ll, ct, st, cp, vs, vw, iv, vv, qa, qb)) (fun w => w.elim nl (fun y => m2 y.2.2)) hp)
  · refine br_f v ⟨ia, ib, ?_⟩
    by_cases w : vl A ≤ vl B
    · exact br_t w (ds_post_f (post := fun z => post z (mk, dc, pr, vl, mr, gn, lh, cb, lf, kn, kc, hb, lc, ll, ct, st, cp, vs, vw, iv, vv, qa, qb)) (fun y => y.elim (fun u => Int32.not_lt.mpr w u) (fun u => v u.1)) hp)
    · exact br_f w (ds_post_t (post := fun z => post z (mk, dc, pr, vl, mr, gn, lh, cb, lf, kn, kc, hb, lc, ll, ct, st, cp, vs, vw, iv, vv, qa, qb)) (Or.inl (Int32.not_le.mp w)) hp)
theorem ds_x_cf (hT : ds_TI m D P G vl mr) (hR : ds_rp m D P dc pr) (hG : ds_rg m G gn) {a b : Nat} (ha : a < m) (hb2 : b < m) {post : Int32 → SX → Prop} (hp : ∀ qa' qb' : Nat → Int32, post (nI (ds_b (ds_bh P G vl mr a b))) (nI m, dc, pr, vl, mr, gn, lh, cb, lf, kn, kc, hb, lc, ll, ct, st, cp, vs, vw, iv, vv, qa', qb')) : wpX_comesFirst post (nI m, dc, pr, vl, mr, gn, lh, cb, lf, kn, kc, hb, lc, ll, ct, st, cp, vs, vw, iv, vv, qa, qb) (nI a) (nI b) := by
  have hm : m ≤ 80 := hT.1
  have ga := ds_g1 hT a ha
  have gb := ds_g1 hT b hb2
  have ia : vp_in (nI a) 80 := ds_in (by omega) (by omega)
  have ib : vp_in (nI b) 80 := ds_in (by omega) (by omega)
  unfold wpX_comesFirst
  dsimp only
  rw [ds_cl (n := a) (by omega), ds_cl (n := b) (by omega)]
  refine ⟨ia, ib, ?_⟩
  by_cases e : G a = G b
  · refine br_t (by rw [hG a ha, hG b hb2, e]) (ds_x_fp hT hR hG ha hb2 rfl e.symm (fun qa' qb' hq => ?_))
    have at90 : ∀ k, k < G a → (∀ i, i < k → ds_an P a (G a - 1 - i) = ds_an P b (G a - 1 - i)) → (k + 1 = G a ∨ ds_an P a (G a - 1 - k) ≠ ds_an P b (G a - 1 - k)) → wX_comesFirst_90 post (nI k) (nI m) dc pr vl mr gn lh cb lf kn kc hb lc ll ct st cp vs vw iv vv qa' qb' := by
      intro k hk h1 h2
      have q1 := ds_an_g hT ha rfl (G a - 1 - k) (by omega)
      have q2 := ds_an_g hT hb2 e.symm (G a - 1 - k) (by omega)
      refine ds_x_cf90 (p := ds_bh P G vl mr a b) (by omega) (by omega) (by omega) (hq k hk).1 (hq k hk).2 ?_ (hp qa' qb')
      rw [← ds_pb_lv hT ha hb2 rfl e.symm hk h1 h2]
      exact ⟨fun w => w.elim (fun y => by omega) (fun y => y.2), fun w => Or.inr ⟨e, w⟩⟩
    have main : ∀ (n k : Nat), k < G a → G a - k ≤ n → (∀ i, i < k → ds_an P a (G a - 1 - i) = ds_an P b (G a - 1 - i)) → wX_comesFirst_47 post (nI a) (nI m) dc pr vl mr gn lh cb lf kn kc hb lc ll ct st cp vs vw iv vv qa' qb' n (nI k) (nI k) := by
      intro n
      induction n with
      | zero => intro k h1 h2; omega
      | succ n ih =>
        intro k h1 h2 h3
        have ik : vp_in (nI k) 80 := ds_in (by omega) (by omega)
        rw [wX_comesFirst_47]; dsimp only; rw [ds_cl (n := a) (by omega), ds_cl (n := k) (by omega), nI_1, hG a ha]
        refine br_f (nI_ge (b := 80) (by omega) (by omega)) ⟨ia, ?_⟩
        by_cases z : G a ≤ k + 1
        · exact br_t (nI_le z (by omega)) (at90 k h1 h3 (Or.inl (by omega)))
        · refine br_f (nI_ge (by omega) (by omega)) ⟨ik, ik, ?_⟩
          have q1 := ds_an_g hT ha rfl (G a - 1 - k) (by omega)
          have q2 := ds_an_g hT hb2 e.symm (G a - 1 - k) (by omega)
          rw [(hq k h1).1, (hq k h1).2]
          by_cases w : ds_an P a (G a - 1 - k) = ds_an P b (G a - 1 - k)
          · refine br_t (by rw [w]) (nm_e (nm_e (ih (k + 1) (by omega) (by omega) (fun i hi => ?_))))
            by_cases y : i = k
            · rw [y]; exact w
            · exact h3 i (by omega)
          · exact br_f (ds_neN (by omega) (by omega) w) (at90 k h1 h3 (Or.inr w))
    exact ⟨G a, main (G a) 0 (by omega) (by omega) (fun i hi => by omega)⟩
  · refine br_f (by rw [hG a ha, hG b hb2]; exact ds_neN (by omega) (by omega) e) ⟨ia, ib, ?_⟩
    rw [hG a ha, hG b hb2]
    have k := hp qa qb
    by_cases z : G b < G a
    · exact br_f (nI_ge z (by omega)) (ds_post_t (post := fun z => post z (nI m, dc, pr, vl, mr, gn, lh, cb, lf, kn, kc, hb, lc, ll, ct, st, cp, vs, vw, iv, vv, qa, qb)) (Or.inl z) k)
    · exact br_t (nI_le (by omega) (by omega)) (ds_post_f (post := fun z => post z (nI m, dc, pr, vl, mr, gn, lh, cb, lf, kn, kc, hb, lc, ll, ct, st, cp, vs, vw, iv, vv, qa, qb)) (fun w => w.elim z (fun y => e y.1)) k)
end
end
section
/-! X's leaf lists: a leaf dropped, a leaf put, a revision learnt -/
theorem ds_LL_c {S S' : Nat → Prop} {lt lt' : Nat → Nat → Prop} {lc ll : Nat → Int32} {a b : Nat} (h : ds_LL S lt lc ll a b) (hS : ∀ r, S r ↔ S' r) (hl : ∀ x y, S x → S y → lt x y → lt' x y) : ds_LL S' lt' lc ll a b := by
  obtain ⟨c, L, h1, h2, h3⟩ := h
  exact ⟨c, L, h1, h2, ds_se_c h3 hS hl⟩
theorem ds_LL_fr {S : Nat → Prop} {lt : Nat → Nat → Prop} {lc ll lc' ll' : Nat → Int32} {a b N : Nat} (h : ds_LL S lt lc ll a b) (hi : ∀ x, ¬ lt x x) (hN : ∀ r, S r → r < N) (h1 : lc' a = lc a) (h2 : ∀ i, i < N → ll' (b + i) = ll (b + i)) : ds_LL S lt lc' ll' a b := by
  obtain ⟨c, L, k1, k2, k3⟩ := h
  have := ds_se_le k3 hi hN
  exact ⟨c, L, h1.trans k1, fun i h5 => (h2 i (by omega)).trans (k2 i h5), k3⟩
def ds_CI (m : Nat) (P : Nat → Nat) (kn kc : Nat → Int32) : Prop := ∀ n r, n < 3 → r < m → kn (80 * n + r) ≠ 0 → kc (80 * n + r) = nI (ds_cn (fun s => P s = r + 1 ∧ kn (80 * n + s) ≠ 0) m)
def ds_LI (m : Nat) (D P : Nat → Nat) (bh : Nat → Nat → Prop) (kn lc ll : Nat → Int32) : Prop := ∀ n d, n < 3 → d < 8 → ds_LL (ds_lf m D P kn n d) bh lc ll (8 * n + d) (640 * n + 80 * d)
section
variable {m : Nat} {D P G : Nat → Nat} {V M kn hb : Nat → Int32}
theorem ds_lf_in (hT : ds_TI m D P G V M) (hK : ds_KI m P kn hb) {n r : Nat} (hn : n < 3) (hr : r < m) (hu : kn (80 * n + r) = 0) (x : Nat) : ((ds_lf m D P kn n (D r) x ∧ P r ≠ x + 1) ∨ x = r) ↔ ds_lf m D P (upd kn (80 * n + r) 1) n (D r) x := by
  constructor
  · intro h
    by_cases e : x = r
    · subst e
      refine ⟨hr, rfl, by rw [pk_us]; decide, fun s hs hp => ?_⟩
      have := (hT.2.1 s hs).2.1
      rw [pk_un (by omega)]
      by_cases z : kn (80 * n + s) = 0
      · exact z
      · exact absurd hu (hK.2.2.2.2 n s x hn hs hp z)
    · rcases h with ⟨h, hq⟩ | h
      · refine ⟨h.1, h.2.1, by rw [pk_un (by omega)]; exact h.2.2.1, fun s hs hp => ?_⟩
        by_cases z : s = r
        · rw [z] at hp; exact absurd hp hq
        · rw [pk_un (by omega)]; exact h.2.2.2 s hs hp
      · exact absurd h e
  · intro h
    by_cases e : x = r
    · exact Or.inr e
    · have k := h.2.2.1
      rw [pk_un (by omega)] at k
      refine Or.inl ⟨⟨h.1, h.2.1, k, fun s hs hp => ?_⟩, fun w => ?_⟩
      · have q := h.2.2.2 s hs hp
        by_cases z : s = r
        · rw [z, pk_us] at q; exact absurd q (by decide)
        · rw [pk_un (by omega)] at q; exact q
      · have q := h.2.2.2 r hr w
        rw [pk_us] at q; exact absurd q (by decide)
theorem ds_lf_out (hT : ds_TI m D P G V M) {n r n' d' : Nat} (hr : r < m) (hne : n' ≠ n ∨ d' ≠ D r) {y : Int32} (x : Nat) : ds_lf m D P kn n' d' x ↔ ds_lf m D P (upd kn (80 * n + r) y) n' d' x := by
  have hm : m ≤ 80 := hT.1
  have key : ∀ s, s < m → (n' ≠ n ∨ D s ≠ D r) → upd kn (80 * n + r) y (80 * n' + s) = kn (80 * n' + s) := by
    intro s hs h
    refine pk_un (fun w => ?_)
    rcases h with h | h
    · omega
    · by_cases z : n' = n
      · have : s = r := by omega
        rw [this] at h; exact h rfl
      · omega
  have kid : ∀ s, s < m → P s = x + 1 → D x = d' → (n' ≠ n ∨ D s ≠ D r) := by
    intro s hs hp hd
    have := ((hT.2.1 s hs).2.2.2.2 x hp).1
    rcases hne with h | h
    · exact Or.inl h
    · exact Or.inr (by rw [← this, hd]; exact h)
  constructor
  · intro h
    refine ⟨h.1, h.2.1, ?_, fun s hs hp => ?_⟩
    · rw [key x h.1 (hne.imp (fun w => w) (fun w => by rw [h.2.1]; exact w))]; exact h.2.2.1
    · rw [key s hs (kid s hs hp h.2.1)]; exact h.2.2.2 s hs hp
  · intro h
    refine ⟨h.1, h.2.1, ?_, fun s hs hp => ?_⟩
    · have k := h.2.2.1
      rw [key x h.1 (hne.imp (fun w => w) (fun w => by rw [h.2.1]; exact w))] at k; exact k
    · have k := h.2.2.2 s hs hp
      rw [key s hs (kid s hs hp h.2.1)] at k; exact k
theorem ds_KI_in (hT : ds_TI m D P G V M) (hK : ds_KI m P kn hb) {n r : Nat} (hn : n < 3) (hr : r < m) (hpar : ∀ p, P r = p + 1 → kn (80 * n + p) ≠ 0) : ds_KI m P (upd kn (80 * n + r) 1) hb := by
  have hm : m ≤ 80 := hT.1
  obtain ⟨h1, h2, h3, h4, h5⟩ := hK
  refine ⟨ds_bo_u h1 (Or.inr rfl), h2, fun n' s hn' hs hs2 => ?_, fun n' s hn' hs hz => ?_, fun n' s p hn' hs hp hz => ?_⟩
  · rw [pk_un (by omega)]; exact h3 n' s hn' hs hs2
  · by_cases e : 80 * n' + s = 80 * n + r
    · rw [e, pk_us] at hz; exact absurd hz (by decide)
    · rw [pk_un e] at hz; exact h4 n' s hn' hs hz
  · have hps := (hT.2.1 s hs).2.1
    by_cases e : 80 * n' + p = 80 * n + r
    · rw [e, pk_us]; decide
    · rw [pk_un e]
      by_cases e2 : 80 * n' + s = 80 * n + r
      · have e3 : n' = n := by omega
        have e4 : s = r := by omega
        rw [e4] at hp
        rw [e3]; exact hpar p hp
      · rw [pk_un e2] at hz; exact h5 n' s p hn' hs hp hz
end
section
variable {m : Nat} {D P G : Nat → Nat} {dc pr vl mr gn lh cb lf kn kc hb lc ll ct st cp vs vw iv vv qa qb : Nat → Int32}
theorem ds_x_dl (hm : m ≤ 80) (hR : ds_rp m D P dc pr) {n r : Nat} (hn : n < 3) (hr : r < m) (hd : D r < 8) {S : Nat → Prop} {lt : Nat → Nat → Prop} (hi : ∀ a, ¬ lt a a) (hS : ∀ x, S x → x < 80) (hL : ds_LL S lt lc ll (8 * n + D r) (640 * n + 80 * D r)) (hx : S r) {post : SX → Prop} (hp : ∀ lc' ll' : Nat → Int32, ds_LL (fun x => S x ∧ x ≠ r) lt lc' ll' (8 * n + D r) (640 * n + 80 * D r) → (∀ j, j ≠ 8 * n + D r → lc' j = lc j) → (∀ j, (j < 640 * n + 80 * D r ∨ 640 * n + 80 * D r + 80 ≤ j) → ll' j = ll j) → post (nI m, dc, pr, vl, mr, gn, lh, cb, lf, kn, kc, hb, lc', ll', ct, st, cp, vs, vw, iv, vv, qa, qb)) : wpX_dropLeaf post (nI m, dc, pr, vl, mr, gn, lh, cb, lf, kn, kc, hb, lc, ll, ct, st, cp, vs, vw, iv, vv, qa, qb) (nI n) (nI r) := by
  obtain ⟨c, L, e1, e2, hSE⟩ := hL
  have hc : c ≤ 80 := ds_se_le hSE hi hS
  obtain ⟨k, hk, hkr⟩ := hSE.2.1 r hx
  have hrm := ds_se_rm hSE hi hk
  rw [hkr] at hrm
  obtain ⟨c, rfl⟩ : ∃ z, c = z + 1 := ⟨c - 1, by omega⟩
  rw [Nat.add_sub_cancel] at hrm
  have inj : ∀ i, i < c + 1 → L i = r → i = k := fun i h5 h6 => ds_se_inj hSE hi h5 hk (h6.trans hkr.symm)
  have Llt : ∀ i, i < c + 1 → L i < 80 := fun i h5 => hS _ (hSE.1 i h5)
  generalize hA : 8 * n + D r = A at *
  generalize hB : 640 * n + 80 * D r = B at *
  have iA : vp_in (nI A) 24 := ds_in (by omega) (by omega)
  have cA : (nI A).toNatClampNeg = A := ds_cl (by omega)
  have loop2 : ∀ (f i : Nat) (ll' : Nat → Int32), k ≤ i → i ≤ c → c - i < f → (∀ j, ll' j = if B + k ≤ j ∧ j < B + i then ll (j + 1) else ll j) → wX_dropLeaf_107 post (nI A) (nI B) (nI m) f (nI i) dc pr vl mr gn lh cb lf kn kc hb (upd lc A (nI c)) ll' ct st cp vs vw iv vv qa qb := by
    intro f
    induction f with
    | zero => intro i ll' h1 h2 h3; omega
    | succ f ih =>
      intro i ll' h1 h2 h3 h4
      rw [wX_dropLeaf_107]; dsimp only; rw [cA, pk_us]
      refine ⟨iA, ?_⟩
      by_cases z : c ≤ i
      · refine br_t (nI_le z (by omega)) (hp _ _ ⟨c, ds_rm k L, pk_us, fun j hj => ?_, hrm⟩ (fun j hj => pk_un hj) (fun j hj => ?_))
        · rw [h4]
          by_cases y : j < k
          · rw [if_neg (by omega), ds_rm_lo y]; exact e2 j (by omega)
          · rw [if_pos (by omega), ds_rm_hi y]; exact e2 (j + 1) (by omega)
        · rw [h4, if_neg (by omega)]
      · refine br_f (nI_ge (by omega) (by omega)) ?_
        rw [nI_add, nI_1 (B + i), nI_1 i, ds_cl (n := B + i + 1) (by omega), ds_cl (n := B + i) (by omega)]
        refine ⟨ds_in (by omega) (by omega), ds_in (by omega) (by omega), nm_e (nm_e (ih (i + 1) _ (by omega) (by omega) (by omega) (fun j => ?_)))⟩
        by_cases y : j = B + i
        · rw [y, pk_us, h4, if_neg (by omega), if_pos (by omega)]
        · rw [pk_un y, h4]
          by_cases w : B + k ≤ j ∧ j < B + i
          · rw [if_pos w, if_pos (by omega)]
          · rw [if_neg w, if_neg (by omega)]
  have at75 : wX_dropLeaf_75 post (nI A) (nI B) (nI k) (nI m) dc pr vl mr gn lh cb lf kn kc hb lc ll ct st cp vs vw iv vv qa qb := by
    unfold wX_dropLeaf_75
    rw [cA, e1, nI_pred]
    exact ⟨iA, br_f (nI_ge (by omega) (by omega)) ⟨iA, iA, nm_e ⟨c + 1, loop2 (c + 1) k ll (Nat.le_refl _) (by omega) (by omega) (fun j => by rw [if_neg (by omega)])⟩⟩⟩
  have loop1 : ∀ (f i : Nat), i ≤ k → k - i < f → wX_dropLeaf_33 post (nI r) (nI A) (nI B) (nI m) dc pr vl mr gn lh cb lf kn kc hb lc ll ct st cp vs vw iv vv qa qb f (nI i) (nI i) := by
    intro f
    induction f with
    | zero => intro i h1 h2; omega
    | succ f ih =>
      intro i h1 h2
      rw [wX_dropLeaf_33]; dsimp only; rw [cA, e1, nI_add, ds_cl (n := B + i) (by omega), e2 i (by omega), nI_1 i]
      refine br_f (nI_ge (b := 80) (by omega) (by omega)) ⟨iA, br_f (nI_ge (by omega) (by omega)) ⟨ds_in (by omega) (by omega), ?_⟩⟩
      by_cases z : i = k
      · refine br_t (by rw [z, hkr]) ?_
        rw [z]; exact at75
      · have := Llt i (by omega)
        exact br_f (ds_neN (by omega) (by omega) (fun w => z (inj i (by omega) w))) (nm_e (nm_e (ih (i + 1) (by omega) (by omega))))
  unfold wpX_dropLeaf
  dsimp only
  rw [ds_cl (n := r) (by omega)]
  refine ⟨ds_in (by omega) (by omega), nm_r (hR r hr).1 (nm_r (e' := nI A) (by rw [ds_8, hA]) (nm_r (e' := nI B) (by rw [ds_640, hB]) ⟨k + 1, loop1 (k + 1) 0 (by omega) (by omega)⟩))⟩
theorem ds_x_pl (hT : ds_TI m D P G vl mr) (hR : ds_rp m D P dc pr) (hG : ds_rg m G gn) {n r : Nat} (hn : n < 3) (hr : r < m) {S : Nat → Prop} (hS : ∀ x, S x → x < m ∧ D x = D r ∧ x ≠ r) (hL : ds_LL S (ds_bh P G vl mr) lc ll (8 * n + D r) (640 * n + 80 * D r)) {post : SX → Prop} (hp : ∀ lc' ll' qa' qb' : Nat → Int32, ds_LL (fun x => S x ∨ x = r) (ds_bh P G vl mr) lc' ll' (8 * n + D r) (640 * n + 80 * D r) → (∀ j, j ≠ 8 * n + D r → lc' j = lc j) → (∀ j, (j < 640 * n + 80 * D r ∨ 640 * n + 80 * D r + 80 ≤ j) → ll' j = ll j) → post (nI m, dc, pr, vl, mr, gn, lh, cb, lf, kn, kc, hb, lc', ll', ct, st, cp, vs, vw, iv, vv, qa', qb')) : wpX_putLeaf post (nI m, dc, pr, vl, mr, gn, lh, cb, lf, kn, kc, hb, lc, ll, ct, st, cp, vs, vw, iv, vv, qa, qb) (nI n) (nI r) := by
  have hm : m ≤ 80 := hT.1
  have hd := (hT.2.1 r hr).1
  obtain ⟨c, L, e1, e2, hSE⟩ := hL
  have hc : c + 1 ≤ 80 := by
    have k1 := ds_se_len (N := 80) hSE ds_bh_irr (fun x hx => by have := (hS x hx).1; omega)
    have k2 := ds_cn_u (p := S) (q := fun x => S x ∨ x = r) (x := r) (N := 80) (fun w => (hS r w).2.2 rfl) (Or.inr rfl) (fun s hs => ⟨fun w => w.elim (fun y => y) (fun y => absurd y hs), Or.inl⟩) (by omega)
    have k3 := ds_cn_le (fun x => S x ∨ x = r) 80
    omega
  have Lm : ∀ i, i < c → L i < m ∧ D (L i) = D r ∧ L i ≠ r := fun i h5 => hS _ (hSE.1 i h5)
  generalize hA : 8 * n + D r = A at *
  generalize hB : 640 * n + 80 * D r = B at *
  have iA : vp_in (nI A) 24 := ds_in (by omega) (by omega)
  have cA : (nI A).toNatClampNeg = A := ds_cl (by omega)
  have fin : ∀ (k : Nat) (qa' qb' : Nat → Int32), k ≤ c → (∀ i, i < k → ds_bh P G vl mr (L i) r) → (∀ i, k ≤ i → i < c → ds_bh P G vl mr r (L i)) → ∃ f, wX_putLeaf_108 post (nI r) (nI A) (nI B) (nI k) (nI m) f (nI c) dc pr vl mr gn lh cb lf kn kc hb lc ll ct st cp vs vw iv vv qa' qb' := by
    intro k qa' qb' hk h1 h2
    have loop : ∀ (f i : Nat) (ll' : Nat → Int32), k ≤ i → i ≤ c → i - k < f → (∀ j, ll' j = if B + i < j ∧ j ≤ B + c then ll (j - 1) else ll j) → wX_putLeaf_108 post (nI r) (nI A) (nI B) (nI k) (nI m) f (nI i) dc pr vl mr gn lh cb lf kn kc hb lc ll' ct st cp vs vw iv vv qa' qb' := by
      intro f
      induction f with
      | zero => intro i ll' h3 h4 h5; omega
      | succ f ih =>
        intro i ll' h3 h4 h5 h6
        rw [wX_putLeaf_108]; dsimp only
        by_cases z : i ≤ k
        · have ei : i = k := by omega
          rw [cA, e1, nI_1 c, nI_add B k, ds_cl (n := B + k) (by omega)]
          refine br_t (nI_le z (by omega)) ⟨ds_in (by omega) (by omega), nm_e ⟨iA, iA, nm_e (hp _ _ _ _ ⟨c + 1, ds_ins k r L, pk_us, fun j hj => ?_, ds_se_in hSE hk h1 h2⟩ (fun j hj => pk_un hj) (fun j hj => ?_))⟩⟩
          · by_cases y : j = k
            · rw [y, pk_us, ds_ins_at]
            · rw [pk_un (by omega), h6]
              by_cases w : j < k
              · rw [if_neg (by omega), ds_ins_lo w]; exact e2 j (by omega)
              · rw [if_pos (by omega), ds_ins_hi (by omega), show B + j - 1 = B + (j - 1) by omega]; exact e2 (j - 1) (by omega)
          · rw [pk_un (by omega), h6, if_neg (by omega)]
        · obtain ⟨i, rfl⟩ : ∃ x, i = x + 1 := ⟨i - 1, by omega⟩
          have eB : nI B + nI (i + 1) = nI (B + i + 1) := by rw [nI_add]; rfl
          rw [eB, nI_pred, pk_m1, ds_cl (n := B + i + 1) (by omega), ds_cl (n := B + i) (by omega)]
          refine br_f (nI_ge (by omega) (by omega)) ⟨ds_in (by omega) (by omega), ds_in (by omega) (by omega), nm_e (nm_e (ih i _ (by omega) (by omega) (by omega) (fun j => ?_)))⟩
          by_cases y : j = B + i + 1
          · rw [y, pk_us, h6, if_neg (by omega), if_pos (by omega)]; rfl
          · rw [pk_un y, h6]
            by_cases w : B + (i + 1) < j ∧ j ≤ B + c
            · rw [if_pos w, if_pos (by omega)]
            · rw [if_neg w, if_neg (by omega)]
    exact ⟨c + 1, loop (c + 1) c ll hk (Nat.le_refl _) (by omega) (fun j => by rw [if_neg (by omega)])⟩
  have main : ∀ (f k : Nat) (qa' qb' : Nat → Int32), k ≤ c → c - k + 1 < f → (∀ i, i < k → ds_bh P G vl mr (L i) r) → wX_putLeaf_36 post (nI r) (nI A) (nI B) f (nI k) 1 (nI k) (nI m) dc pr vl mr gn lh cb lf kn kc hb lc ll ct st cp vs vw iv vv qa' qb' := by
    intro f
    induction f with
    | zero => intro k qa' qb' h1 h2; omega
    | succ f ih =>
      intro k qa' qb' h1 h2 h3
      rw [wX_putLeaf_36]; dsimp only; rw [cA, e1]
      refine br_f (nI_ge (b := 80) (by omega) (by omega)) (br_f ds_10 ⟨iA, ?_⟩)
      by_cases z : c ≤ k
      · exact br_t (nI_le z (by omega)) ⟨iA, nm_e (fin k qa' qb' h1 h3 (fun i h5 h6 => by omega))⟩
      · obtain ⟨l1, l2, l3⟩ := Lm k (by omega)
        rw [nI_add B k, ds_cl (n := B + k) (by omega), e2 k (by omega), nI_1 k]
        refine br_f (nI_ge (by omega) (by omega)) ⟨ds_in (by omega) (by omega), ds_x_cf hT hR hG l1 hr (fun qa2 qb2 => ?_)⟩
        refine ds_brb (fun v => nm_e (nm_e ?_)) (fun v => nm_e ?_)
        · rw [ds_bt v]
          refine ih (k + 1) qa2 qb2 (by omega) (by omega) (fun i hi => ?_)
          by_cases y : i = k
          · rw [y]; exact v
          · exact h3 i (by omega)
        · rw [ds_bf v]
          obtain ⟨f, rfl⟩ : ∃ x, f = x + 1 := ⟨f - 1, by omega⟩
          have hf := fin k qa2 qb2 h1 h3 (fun i h5 h6 => by
            have b1 : ds_bh P G vl mr r (L k) := by
              rcases ds_bh_tot hT l1 hr l2 l3 with y | y
              · exact absurd y v
              · exact y
            by_cases y : i = k
            · rw [y]; exact b1
            · exact ds_bh_tr hT hr l1 (Lm i h6).1 b1 (hSE.2.2 k i (by omega) h6))
          rw [wX_putLeaf_36]; dsimp only; rw [cA, e1]
          exact br_c (fun _ => ⟨iA, nm_e hf⟩) (fun _ => br_t rfl ⟨iA, nm_e hf⟩)
  unfold wpX_putLeaf
  dsimp only
  rw [ds_cl (n := r) (by omega)]
  refine ⟨ds_in (by omega) (by omega), nm_r (hR r hr).1 (nm_r (e' := nI A) (by rw [ds_8, hA]) (nm_r (e' := nI B) (by rw [ds_640, hB]) ⟨c + 2, main (c + 2) 0 qa qb (by omega) (by omega) (fun i hi => by omega)⟩))⟩
theorem ds_x_learn (hT : ds_TI m D P G vl mr) (hR : ds_rp m D P dc pr) (hG : ds_rg m G gn) (hK : ds_KI m P kn hb) (hCI : ds_CI m P kn kc) (hLI : ds_LI m D P (ds_bh P G vl mr) kn lc ll) {n r : Nat} (hn : n < 3) (hr : r < m) (hu : kn (80 * n + r) = 0) (hpar : ∀ p, P r = p + 1 → kn (80 * n + p) ≠ 0) {post : SX → Prop} (hp : ∀ kc' lc' ll' qa' qb' : Nat → Int32, ds_CI m P (upd kn (80 * n + r) 1) kc' → ds_LI m D P (ds_bh P G vl mr) (upd kn (80 * n + r) 1) lc' ll' → post (nI m, dc, pr, vl, mr, gn, lh, cb, lf, upd kn (80 * n + r) 1, kc', hb, lc', ll', ct, st, cp, vs, vw, iv, vv, qa', qb')) : wpX_learn post (nI m, dc, pr, vl, mr, gn, lh, cb, lf, kn, kc, hb, lc, ll, ct, st, cp, vs, vw, iv, vv, qa, qb) (nI n) (nI r) := by
  have hm : m ≤ 80 := hT.1
  obtain ⟨hd, hPr, _, _, hpd⟩ := hT.2.1 r hr
  have i : vp_in (nI (80 * n + r)) 240 := ds_in (by omega) (by omega)
  have kids : ds_cn (fun s => P s = r + 1 ∧ kn (80 * n + s) ≠ 0) m = 0 := ds_cn_z.mpr (fun s hs w => hK.2.2.2.2 n s r hn hs w.1 w.2 hu)
  -- the lists of other documents and stores stay
  have LIn : ∀ lc' ll' : Nat → Int32, ds_LL (fun x => (ds_lf m D P kn n (D r) x ∧ P r ≠ x + 1) ∨ x = r) (ds_bh P G vl mr) lc' ll' (8 * n + D r) (640 * n + 80 * D r) → (∀ j, j ≠ 8 * n + D r → lc' j = lc j) → (∀ j, (j < 640 * n + 80 * D r ∨ 640 * n + 80 * D r + 80 ≤ j) → ll' j = ll j) → ds_LI m D P (ds_bh P G vl mr) (upd kn (80 * n + r) 1) lc' ll' := by
    intro lc' ll' h1 h2 h3 n' d' hn' hd'
    by_cases e : n' = n ∧ d' = D r
    · rw [e.1, e.2]
      exact ds_LL_c h1 (fun x => ds_lf_in hT hK hn hr hu x) (fun _ _ _ _ w => w)
    · have hne : n' ≠ n ∨ d' ≠ D r := by omega
      refine ds_LL_c (ds_LL_fr (N := 80) (hLI n' d' hn' hd') ds_bh_irr (fun x hx => by have := hx.1; omega) (h2 _ (by omega)) (fun i hi => h3 _ (by omega))) (fun x => ds_lf_out hT hr hne x) (fun _ _ _ _ w => w)
  -- the counts of children
  have CIn : ∀ kc' : Nat → Int32, kc' (80 * n + r) = 0 → (∀ p, P r = p + 1 → kc' (80 * n + p) = kc (80 * n + p) + 1) → (∀ j, j ≠ 80 * n + r → (∀ p, P r = p + 1 → j ≠ 80 * n + p) → kc' j = kc j) → ds_CI m P (upd kn (80 * n + r) 1) kc' := by
    intro kc' h1 h2 h3 n' x hn' hx hz
    by_cases e : 80 * n' + x = 80 * n + r
    · have e1 : n' = n := by omega
      have e2 : x = r := by omega
      rw [e1, e2, h1]
      have : ds_cn (fun s => P s = r + 1 ∧ upd kn (80 * n + r) 1 (80 * n + s) ≠ 0) m = 0 := by
        rw [ds_cn_z]
        intro s hs w
        have := (hT.2.1 s hs).2.1
        rw [pk_un (by omega)] at w
        exact ds_cn_z.mp kids s hs w
      rw [this]; rfl
    · rw [pk_un e] at hz
      have old := hCI n' x hn' hx hz
      by_cases y : n' = n ∧ P r = x + 1
      · obtain ⟨rfl, y2⟩ := y
        rw [h2 x y2, old, nI_1]
        congr 1
        refine (ds_cn_u (x := r) (fun w => w.2 hu) ⟨y2, by rw [pk_us]; decide⟩ (fun s hs => ?_) hr).symm
        rw [pk_un (by omega)]
      · rw [h3 _ e (fun p hp2 => by omega), old]
        congr 1
        refine ds_cn_c (fun s hs => ?_)
        by_cases w : 80 * n' + s = 80 * n + r
        · have w1 : n' = n := by omega
          have w2 : s = r := by omega
          rw [w2]
          exact ⟨fun q => absurd ⟨w1, q.1⟩ y, fun q => absurd ⟨w1, q.1⟩ y⟩
        · rw [pk_un w]
  have sub : ∀ x, (ds_lf m D P kn n (D r) x ∧ P r ≠ x + 1) → x < m ∧ D x = D r ∧ x ≠ r := by
    intro x hx
    refine ⟨hx.1.1, hx.1.2.1, fun w => ?_⟩
    rw [w] at hx
    exact hx.1.2.2.1 hu
  unfold wpX_learn
  dsimp only
  rw [ds_80, ds_cl (n := r) (by omega), ds_cl (n := 80 * n + r) (by omega), ds_vn0, ds_vn1]
  refine ⟨ds_in (by omega) (by omega), nm_r (hR r hr).2 ⟨i, nm_e ⟨i, nm_e ⟨i, nm_r (ds_us hb (80 * n + r) (hK.2.2.2.1 n r hn (by omega) hu)) ?_⟩⟩⟩⟩
  by_cases z : P r = 0
  · refine br_t (by rw [z]; exact ds_pI0) ?_
    unfold wX_learn_92
    refine ds_x_pl hT hR hG hn hr sub (ds_LL_c (hLI n (D r) hn hd) (fun x => ⟨fun w => ⟨w, by omega⟩, fun w => w.1⟩) (fun _ _ _ _ w => w)) (fun lc' ll' qa' qb' h1 h2 h3 => ?_)
    exact hp _ _ _ _ _ (CIn _ pk_us (fun p w => by omega) (fun j hj _ => pk_un hj)) (LIn _ _ h1 h2 h3)
  · obtain ⟨p, hq⟩ : ∃ p, P r = p + 1 := ⟨P r - 1, by omega⟩
    have hpm : p < m := by omega
    have dp := (hpd p hq).1
    have ip : vp_in (nI (80 * n + p)) 240 := ds_in (by omega) (by omega)
    have old := hCI n p hn hpm (hpar p hq)
    have pne : 80 * n + p ≠ 80 * n + r := by omega
    rw [hq, ds_pIs, ds_80, ds_cl (n := 80 * n + p) (by omega), pk_un pne]
    have tail : ∀ lc1 ll1 : Nat → Int32, ds_LL (fun x => ds_lf m D P kn n (D r) x ∧ P r ≠ x + 1) (ds_bh P G vl mr) lc1 ll1 (8 * n + D r) (640 * n + 80 * D r) → (∀ j, j ≠ 8 * n + D r → lc1 j = lc j) → (∀ j, (j < 640 * n + 80 * D r ∨ 640 * n + 80 * D r + 80 ≤ j) → ll1 j = ll j) → wX_learn_68 post (nI n) (nI r) (nI p) (nI m) dc pr vl mr gn lh cb lf (upd kn (80 * n + r) 1) (upd kc (80 * n + r) 0) hb lc1 ll1 ct st cp vs vw iv vv qa qb := by
      intro lc1 ll1 h1 h2 h3
      unfold wX_learn_68
      rw [ds_80, ds_cl (n := 80 * n + p) (by omega), pk_un pne]
      refine ⟨ip, ip, nm_e ?_⟩
      unfold wX_learn_92
      refine ds_x_pl hT hR hG hn hr sub h1 (fun lc' ll' qa' qb' k1 k2 k3 => ?_)
      refine hp _ _ _ _ _ (CIn _ ?_ (fun p2 w => ?_) (fun j hj hj2 => ?_)) (LIn _ _ k1 (fun j hj => (k2 j hj).trans (h2 j hj)) (fun j hj => (k3 j hj).trans (h3 j hj)))
      · rw [pk_un (by omega), pk_us]
      · have : p2 = p := by omega
        rw [this, pk_us]
      · rw [pk_un (hj2 p hq), pk_un hj]
    refine br_f (ds_nIn1 (by omega)) ⟨ip, ?_⟩
    by_cases w : ds_cn (fun s => P s = p + 1 ∧ kn (80 * n + s) ≠ 0) m = 0
    · have lfp : ds_lf m D P kn n (D r) p := ⟨hpm, dp, hpar p hq, fun s hs hs2 => Classical.not_not.mp (fun y => ds_cn_z.mp w s hs ⟨hs2, y⟩)⟩
      refine br_t (by rw [old, w]; rfl) ?_
      have hl := hLI n (D r) hn hd
      rw [← dp] at hl
      refine ds_x_dl hm hR hn hpm (by omega) ds_bh_irr (fun x hx => by have := hx.1; omega) hl (by rw [dp]; exact lfp) (fun lc1 ll1 h1 h2 h3 => ?_)
      rw [dp] at h1 h2 h3
      exact tail lc1 ll1 (ds_LL_c h1 (fun x => ⟨fun y => ⟨y.1, by omega⟩, fun y => ⟨y.1, fun q => y.2 (by omega)⟩⟩) (fun _ _ _ _ w => w)) h2 h3
    · have cb2 := ds_cn_le (fun s => P s = p + 1 ∧ kn (80 * n + s) ≠ 0) m
      refine br_f (by rw [old]; exact nI_ne0 (by omega) (by omega)) (tail lc ll (ds_LL_c (hLI n (D r) hn hd) (fun x => ⟨fun y => ⟨y, fun q => ?_⟩, fun y => y.1⟩) (fun _ _ _ _ w => w)) (fun _ _ => rfl) (fun _ _ => rfl))
      refine w (ds_cn_z.mpr (fun s hs v => ?_))
      have : x = p := by omega
      rw [this] at y
      exact v.2 (y.2.2.2 s hs v.1)
end
end
section
/-! X's winners and views -/
def ds_vlt (vv : Nat → Int32) (n d e : Nat) : Prop := vv (8 * n + d) < vv (8 * n + e) ∨ (vv (8 * n + d) = vv (8 * n + e) ∧ d < e)
theorem ds_vlt_irr {vv : Nat → Int32} {n : Nat} (a : Nat) : ¬ ds_vlt vv n a a := by
  intro w
  rcases w with w | w
  · exact Int32.lt_irrefl w
  · omega
theorem ds_vlt_tr {vv : Nat → Int32} {n a b c : Nat} (h : ds_vlt vv n a b) (k : ds_vlt vv n b c) : ds_vlt vv n a c := by
  rcases h with h | h
  · rcases k with k | k
    · exact Or.inl (Int32.lt_trans h k)
    · exact Or.inl (by rw [← k.1]; exact h)
  · rcases k with k | k
    · exact Or.inl (by rw [h.1]; exact k)
    · exact Or.inr ⟨h.1.trans k.1, by omega⟩
theorem ds_vlt_as {vv : Nat → Int32} {n a b : Nat} (h : ds_vlt vv n a b) : ¬ ds_vlt vv n b a := fun k => ds_vlt_irr a (ds_vlt_tr h k)
theorem ds_vlt_tot {vv : Nat → Int32} {n a b : Nat} (h : a ≠ b) : ds_vlt vv n a b ∨ ds_vlt vv n b a := by
  by_cases e : vv (8 * n + a) = vv (8 * n + b)
  · by_cases z : a < b
    · exact Or.inl (Or.inr ⟨e, z⟩)
    · exact Or.inr (Or.inr ⟨e.symm, by omega⟩)
  · rcases Int32.lt_or_lt_of_ne e with w | w
    · exact Or.inl (Or.inl w)
    · exact Or.inr (Or.inl w)
def ds_VL (vs vw iv vv : Nat → Int32) : Prop := ∀ n, n < 3 → ds_LL (fun d => d < 8 ∧ iv (8 * n + d) ≠ 0) (ds_vlt vv n) vs vw n (8 * n)
def ds_VW (S : Nat → Prop) (mr : Nat → Int32) (bh : Nat → Nat → Prop) (vl : Nat → Int32) (i v : Int32) : Prop := (i ≠ 0 ↔ ∃ w, ds_wn S mr bh w ∧ mr w = 0) ∧ (∀ w, ds_wn S mr bh w → mr w = 0 → v = vl w)
section
variable {m : Nat} {D P G : Nat → Nat} {mk : Int32} {dc pr vl mr gn lh cb lf kn kc hb lc ll ct st cp vs vw iv vv qa qb : Nat → Int32}
theorem ds_x_la {post : Int32 → Prop} {n d k : Nat} (hn : n < 3) (hd : d < 8) (hk : k < 80) (hp : post (ll (640 * n + 80 * d + k))) : wpX_leafAt post (mk, dc, pr, vl, mr, gn, lh, cb, lf, kn, kc, hb, lc, ll, ct, st, cp, vs, vw, iv, vv, qa, qb) (nI n) (nI d) (nI k) := by
  unfold wpX_leafAt
  dsimp only
  rw [ds_640, nI_add, ds_cl (n := 640 * n + 80 * d + k) (by omega)]
  exact ⟨ds_in (by omega) (by omega), hp⟩
theorem ds_x_fw (hT : ds_TI m D P G vl mr) {n d : Nat} (hn : n < 3) (hd : d < 8) {S : Nat → Prop} (hS : ∀ x, S x → x < m) (hL : ds_LL S (ds_bh P G vl mr) lc ll (8 * n + d) (640 * n + 80 * d)) {post : Int32 → Prop} (h1 : ∀ w, ds_wn S mr (ds_bh P G vl mr) w → post (nI w)) (h2 : (∀ r, ¬ S r) → post (-1)) : wpX_findWinner post (mk, dc, pr, vl, mr, gn, lh, cb, lf, kn, kc, hb, lc, ll, ct, st, cp, vs, vw, iv, vv, qa, qb) (nI n) (nI d) := by
  have hm : m ≤ 80 := hT.1
  obtain ⟨c, L, e1, e2, hSE⟩ := hL
  have hc : c ≤ 80 := ds_se_le hSE ds_bh_irr (fun x hx => by have := hS x hx; omega)
  have Lm : ∀ i, i < c → L i < m := fun i hi => hS _ (hSE.1 i hi)
  have main : ∀ (f k : Nat), k ≤ c → c - k < f → (∀ i, i < k → mr (L i) ≠ 0) → wX_findWinner_15 post (nI n) (nI d) (nI c) mk dc pr vl mr gn lh cb lf kn kc hb lc ll ct st cp vs vw iv vv qa qb f (nI k) := by
    intro f
    induction f with
    | zero => intro k h3 h4; omega
    | succ f ih =>
      intro k h3 h4 h5
      rw [wX_findWinner_15]; dsimp only
      by_cases z : c ≤ k
      · refine br_t (nI_le z (by omega)) ?_
        by_cases y : c = 0
        · refine br_t (by rw [y]; rfl) (h2 (fun r hr => ?_))
          obtain ⟨i, hi, _⟩ := hSE.2.1 r hr
          omega
        · refine br_f (nI_ne0 (by omega) (by omega)) (ds_x_la (k := 0) hn hd (by omega) ?_)
          rw [e2 0 (by omega)]
          refine h1 (L 0) ⟨hSE.1 0 (by omega), fun s hs hs2 => ?_⟩
          obtain ⟨j, hj, rfl⟩ := hSE.2.1 s hs
          have j0 : j ≠ 0 := fun w => hs2 (by rw [w])
          have b := hSE.2.2 0 j (by omega) hj
          have m0 := ((hT.2.1 (L 0) (Lm 0 (by omega))).2.2.1).resolve_left (h5 0 (by omega))
          have mj := ((hT.2.1 (L j) (Lm j hj)).2.2.1).resolve_left (h5 j (by omega))
          exact Or.inl ⟨m0.trans mj.symm, b⟩
      · have lk := Lm k (by omega)
        refine br_f (nI_ge (by omega) (by omega)) (ds_x_la hn hd (by omega) ?_)
        rw [e2 k (by omega), ds_cl (n := L k) (by omega)]
        refine ⟨ds_in (by omega) (by omega), ?_⟩
        by_cases y : mr (L k) = 0
        · refine br_t y (h1 (L k) ⟨hSE.1 k (by omega), fun s hs hs2 => ?_⟩)
          obtain ⟨j, hj, rfl⟩ := hSE.2.1 s hs
          by_cases w : mr (L j) = 0
          · have jk : k < j := by
              by_cases q : j < k
              · exact absurd w (h5 j q)
              · have : j ≠ k := fun u => hs2 (by rw [u])
                omega
            exact Or.inl ⟨y.trans w.symm, hSE.2.2 k j jk hj⟩
          · exact Or.inr ⟨fun u => w (u.symm.trans y), w⟩
        · refine br_f y (nm_r (nI_1 k) (ih (k + 1) (by omega) (by omega) (fun i hi => ?_)))
          by_cases q : i = k
          · rw [q]; exact y
          · exact h5 i (by omega)
  unfold wpX_findWinner
  dsimp only
  rw [ds_8, ds_cl (n := 8 * n + d) (by omega)]
  exact ⟨ds_in (by omega) (by omega), nm_r e1 ⟨c + 1, main (c + 1) 0 (by omega) (by omega) (fun i hi => by omega)⟩⟩
theorem ds_x_vb {n d e : Nat} (hn : n < 3) (hd : d < 8) (he : e < 8) {post : Int32 → Prop} (hp : post (nI (ds_b (ds_vlt vv n d e)))) : wpX_viewBefore post (mk, dc, pr, vl, mr, gn, lh, cb, lf, kn, kc, hb, lc, ll, ct, st, cp, vs, vw, iv, vv, qa, qb) (nI n) (nI d) (nI e) := by
  unfold wpX_viewBefore
  dsimp only
  rw [ds_8, ds_8, ds_cl (n := 8 * n + d) (by omega), ds_cl (n := 8 * n + e) (by omega)]
  refine ⟨ds_in (by omega) (by omega), nm_e ⟨ds_in (by omega) (by omega), nm_e ?_⟩⟩
  by_cases z : vv (8 * n + d) = vv (8 * n + e)
  · refine br_t z ?_
    have nl : ¬ vv (8 * n + d) < vv (8 * n + e) := by rw [z]; exact Int32.lt_irrefl
    by_cases y : d < e
    · exact br_f (nI_ge y (by omega)) (ds_post_t (Or.inr ⟨z, y⟩) hp)
    · exact br_t (nI_le (by omega) (by omega)) (ds_post_f (fun w => w.elim nl (fun q => y q.2)) hp)
  · refine br_f z ?_
    by_cases y : vv (8 * n + e) ≤ vv (8 * n + d)
    · exact br_t y (ds_post_f (fun w => w.elim (fun q => Int32.not_lt.mpr y q) (fun q => z q.1)) hp)
    · exact br_f y (ds_post_t (Or.inl (Int32.not_le.mp y)) hp)
theorem ds_x_tv {n d : Nat} (hn : n < 3) (hd : d < 8) {S : Nat → Prop} {lt : Nat → Nat → Prop} (hi : ∀ a, ¬ lt a a) (hS : ∀ x, S x → x < 8) (hL : ds_LL S lt vs vw n (8 * n)) (hx : S d) {post : SX → Prop} (hp : ∀ vs' vw' : Nat → Int32, ds_LL (fun x => S x ∧ x ≠ d) lt vs' vw' n (8 * n) → (∀ j, j ≠ n → vs' j = vs j) → (∀ j, (j < 8 * n ∨ 8 * n + 8 ≤ j) → vw' j = vw j) → post (mk, dc, pr, vl, mr, gn, lh, cb, lf, kn, kc, hb, lc, ll, ct, st, cp, vs', vw', upd iv (8 * n + d) 0, vv, qa, qb)) : wpX_takeFromView post (mk, dc, pr, vl, mr, gn, lh, cb, lf, kn, kc, hb, lc, ll, ct, st, cp, vs, vw, iv, vv, qa, qb) (nI n) (nI d) := by
  obtain ⟨c, L, e1, e2, hSE⟩ := hL
  have hc : c ≤ 8 := ds_se_le hSE hi hS
  obtain ⟨k, hk, hkr⟩ := hSE.2.1 d hx
  have hrm := ds_se_rm hSE hi hk
  rw [hkr] at hrm
  obtain ⟨c, rfl⟩ : ∃ z, c = z + 1 := ⟨c - 1, by omega⟩
  rw [Nat.add_sub_cancel] at hrm
  have inj : ∀ i, i < c + 1 → L i = d → i = k := fun i h5 h6 => ds_se_inj hSE hi h5 hk (h6.trans hkr.symm)
  have Llt : ∀ i, i < c + 1 → L i < 8 := fun i h5 => hS _ (hSE.1 i h5)
  have iA : vp_in (nI n) 3 := ds_in hn (by omega)
  have cA : (nI n).toNatClampNeg = n := ds_cl (by omega)
  have loop2 : ∀ (f i : Nat) (vw' : Nat → Int32), k ≤ i → i ≤ c → c - i < f → (∀ j, vw' j = if 8 * n + k ≤ j ∧ j < 8 * n + i then vw (j + 1) else vw j) → wX_takeFromView_53 post (nI n) (nI d) mk f (nI i) dc pr vl mr gn lh cb lf kn kc hb lc ll ct st cp (upd vs n (nI c)) vw' iv vv qa qb := by
    intro f
    induction f with
    | zero => intro i vw' h1 h2 h3; omega
    | succ f ih =>
      intro i vw' h1 h2 h3 h4
      rw [wX_takeFromView_53]; dsimp only; rw [cA, pk_us]
      refine ⟨iA, ?_⟩
      by_cases z : c ≤ i
      · rw [ds_8 n d, ds_cl (n := 8 * n + d) (by omega), ds_vn0]
        refine br_t (nI_le z (by omega)) ⟨ds_in (by omega) (by omega), nm_e (hp _ _ ⟨c, ds_rm k L, pk_us, fun j hj => ?_, hrm⟩ (fun j hj => pk_un hj) (fun j hj => ?_))⟩
        · rw [h4]
          by_cases y : j < k
          · rw [if_neg (by omega), ds_rm_lo y]; exact e2 j (by omega)
          · rw [if_pos (by omega), ds_rm_hi y]; exact e2 (j + 1) (by omega)
        · rw [h4, if_neg (by omega)]
      · refine br_f (nI_ge (by omega) (by omega)) ?_
        rw [ds_8 n i, nI_1 (8 * n + i), nI_1 i, ds_cl (n := 8 * n + i + 1) (by omega), ds_cl (n := 8 * n + i) (by omega)]
        refine ⟨ds_in (by omega) (by omega), ds_in (by omega) (by omega), nm_e (nm_e (ih (i + 1) _ (by omega) (by omega) (by omega) (fun j => ?_)))⟩
        by_cases y : j = 8 * n + i
        · rw [y, pk_us, h4, if_neg (by omega), if_pos (by omega)]
        · rw [pk_un y, h4]
          by_cases w : 8 * n + k ≤ j ∧ j < 8 * n + i
          · rw [if_pos w, if_pos (by omega)]
          · rw [if_neg w, if_neg (by omega)]
  have at36 : wX_takeFromView_36 post (nI n) (nI d) (nI k) mk dc pr vl mr gn lh cb lf kn kc hb lc ll ct st cp vs vw iv vv qa qb := by
    unfold wX_takeFromView_36
    rw [cA, e1, nI_pred]
    exact ⟨iA, iA, nm_e ⟨c + 1, loop2 (c + 1) k vw (Nat.le_refl _) (by omega) (by omega) (fun j => by rw [if_neg (by omega)])⟩⟩
  have loop1 : ∀ (f i : Nat), i ≤ k → k - i < f → wX_takeFromView_5 post (nI n) (nI d) mk dc pr vl mr gn lh cb lf kn kc hb lc ll ct st cp vs vw iv vv qa qb f (nI i) (nI i) := by
    intro f
    induction f with
    | zero => intro i h1 h2; omega
    | succ f ih =>
      intro i h1 h2
      rw [wX_takeFromView_5]; dsimp only; rw [ds_8 n i, ds_cl (n := 8 * n + i) (by omega), e2 i (by omega), nI_1 i]
      refine br_f (nI_ge (b := 8) (by omega) (by omega)) ⟨ds_in (by omega) (by omega), ?_⟩
      by_cases z : i = k
      · refine br_t (by rw [z, hkr]) ?_
        rw [z]; exact at36
      · have := Llt i (by omega)
        exact br_f (ds_neN (by omega) (by omega) (fun w => z (inj i (by omega) w))) (nm_e (nm_e (ih (i + 1) (by omega) (by omega))))
  exact ⟨k + 1, loop1 (k + 1) 0 (by omega) (by omega)⟩
theorem ds_x_pv {n d : Nat} (hn : n < 3) (hd : d < 8) {x : Int32} {S : Nat → Prop} (hS : ∀ x, S x → x < 8 ∧ x ≠ d) (hL : ds_LL S (ds_vlt (upd vv (8 * n + d) x) n) vs vw n (8 * n)) {post : SX → Prop} (hp : ∀ vs' vw' : Nat → Int32, ds_LL (fun x => S x ∨ x = d) (ds_vlt (upd vv (8 * n + d) x) n) vs' vw' n (8 * n) → (∀ j, j ≠ n → vs' j = vs j) → (∀ j, (j < 8 * n ∨ 8 * n + 8 ≤ j) → vw' j = vw j) → post (mk, dc, pr, vl, mr, gn, lh, cb, lf, kn, kc, hb, lc, ll, ct, st, cp, vs', vw', upd iv (8 * n + d) 1, upd vv (8 * n + d) x, qa, qb)) : wpX_putIntoView post (mk, dc, pr, vl, mr, gn, lh, cb, lf, kn, kc, hb, lc, ll, ct, st, cp, vs, vw, iv, vv, qa, qb) (nI n) (nI d) x := by
  obtain ⟨c, L, e1, e2, hSE⟩ := hL
  have hc : c + 1 ≤ 8 := by
    have k1 := ds_se_len (N := 8) hSE ds_vlt_irr (fun x hx => (hS x hx).1)
    have k2 := ds_cn_u (p := S) (q := fun x => S x ∨ x = d) (x := d) (N := 8) (fun w => (hS d w).2 rfl) (Or.inr rfl) (fun s hs => ⟨fun w => w.elim (fun y => y) (fun y => absurd y hs), Or.inl⟩) hd
    have k3 := ds_cn_le (fun x => S x ∨ x = d) 8
    omega
  have Lm : ∀ i, i < c → L i < 8 ∧ L i ≠ d := fun i h5 => hS _ (hSE.1 i h5)
  have iA : vp_in (nI n) 3 := ds_in hn (by omega)
  have cA : (nI n).toNatClampNeg = n := ds_cl (by omega)
  have fin : ∀ (k : Nat) (vw' : Nat → Int32), k ≤ c → (∀ j, vw' j = if 8 * n + k < j ∧ j ≤ 8 * n + c then vw (j - 1) else vw j) → (∀ i, i < k → ds_vlt (upd vv (8 * n + d) x) n (L i) d) → (∀ i, k ≤ i → i < c → ds_vlt (upd vv (8 * n + d) x) n d (L i)) → wX_putIntoView_105 post (nI n) (nI d) (nI k) mk dc pr vl mr gn lh cb lf kn kc hb lc ll ct st cp vs vw' (upd iv (8 * n + d) 1) (upd vv (8 * n + d) x) qa qb := by
    intro k vw' hk h6 h1 h2
    unfold wX_putIntoView_105
    rw [cA, e1, nI_1 c, ds_8 n k, ds_cl (n := 8 * n + k) (by omega)]
    refine ⟨ds_in (by omega) (by omega), nm_e ⟨iA, iA, nm_e (hp _ _ ⟨c + 1, ds_ins k d L, pk_us, fun j hj => ?_, ds_se_in hSE hk h1 h2⟩ (fun j hj => pk_un hj) (fun j hj => ?_))⟩⟩
    · by_cases y : j = k
      · rw [y, pk_us, ds_ins_at]
      · rw [pk_un (by omega), h6]
        by_cases w : j < k
        · rw [if_neg (by omega), ds_ins_lo w]; exact e2 j (by omega)
        · rw [if_pos (by omega), ds_ins_hi (by omega), show 8 * n + j - 1 = 8 * n + (j - 1) by omega]; exact e2 (j - 1) (by omega)
    · rw [pk_un (by omega), h6, if_neg (by omega)]
  have loop : ∀ (f k i : Nat) (vw' : Nat → Int32), k ≤ c → k + i = c → k < f → (∀ j, vw' j = if 8 * n + k < j ∧ j ≤ 8 * n + c then vw (j - 1) else vw j) → (∀ i, k ≤ i → i < c → ds_vlt (upd vv (8 * n + d) x) n d (L i)) → wX_putIntoView_35 post (nI n) (nI d) mk f (nI k) (nI i) dc pr vl mr gn lh cb lf kn kc hb lc ll ct st cp vs vw' (upd iv (8 * n + d) 1) (upd vv (8 * n + d) x) qa qb := by
    intro f
    induction f with
    | zero => intro k i vw' h1 h2 h3; omega
    | succ f ih =>
      intro k i vw' h1 h2 h3 h4 h5
      rw [wX_putIntoView_35]; dsimp only
      refine br_f (nI_ge (b := 8) (by omega) (by omega)) ?_
      by_cases z : k = 0
      · exact br_t (by rw [z]; exact Int32.le_refl _) (fin k vw' h1 h4 (fun i hi => by omega) h5)
      · obtain ⟨k, rfl⟩ : ∃ y, k = y + 1 := ⟨k - 1, by omega⟩
        obtain ⟨l1, l2⟩ := Lm k (by omega)
        have eB : (8 : Int32) * nI n + nI (k + 1) = nI (8 * n + k + 1) := by rw [ds_8]; rfl
        have rd : vw' (8 * n + k) = nI (L k) := by rw [h4, if_neg (by omega)]; exact e2 k (by omega)
        rw [eB, nI_pred, pk_m1, ds_cl (n := 8 * n + k + 1) (by omega), ds_cl (n := 8 * n + k) (by omega), rd]
        refine br_f (nI_nle (by omega) (by omega)) ⟨ds_in (by omega) (by omega), ds_x_vb hn hd l1 (ds_brb (fun v => ?_) (fun v => ?_))⟩
        · refine ⟨ds_in (by omega) (by omega), ds_in (by omega) (by omega), nm_e (nm_e (nm_r (nI_1 i) (ih k (i + 1) _ (by omega) (by omega) (by omega) (fun j => ?_) (fun t h7 h8 => ?_))))⟩
          · by_cases y : j = 8 * n + k + 1
            · rw [y, pk_us, if_pos (by omega), ← rd, h4, if_neg (by omega)]; rfl
            · rw [pk_un y, h4]
              by_cases w : 8 * n + (k + 1) < j ∧ j ≤ 8 * n + c
              · rw [if_pos w, if_pos (by omega)]
              · rw [if_neg w, if_neg (by omega)]
          · by_cases y : t = k
            · rw [y]; exact v
            · exact h5 t (by omega) h8
        · refine fin (k + 1) vw' h1 h4 (fun t ht => ?_) h5
          have b1 : ds_vlt (upd vv (8 * n + d) x) n (L k) d := by
            rcases ds_vlt_tot (vv := upd vv (8 * n + d) x) (n := n) l2 with y | y
            · exact y
            · exact absurd y v
          by_cases y : t = k
          · rw [y]; exact b1
          · exact ds_vlt_tr (hSE.2.2 t k (by omega) (by omega)) b1
  unfold wpX_putIntoView
  dsimp only
  rw [ds_8, ds_cl (n := 8 * n + d) (by omega), cA, ds_vn1]
  exact ⟨ds_in (by omega) (by omega), nm_e ⟨ds_in (by omega) (by omega), nm_e ⟨iA, nm_r e1 ⟨c + 1, loop (c + 1) c 0 vw (Nat.le_refl _) (by omega) (by omega) (fun j => by rw [if_neg (by omega)]) (fun i h5 h6 => by omega)⟩⟩⟩⟩
/-- views of other stores stay -/
theorem ds_VL_out {vs' vw' iv' vv' : Nat → Int32} {n : Nat} (h : ds_VL vs vw iv vv) (h1 : ∀ j, j ≠ n → vs' j = vs j) (h2 : ∀ j, (j < 8 * n ∨ 8 * n + 8 ≤ j) → vw' j = vw j) (h3 : ∀ j, (j < 8 * n ∨ 8 * n + 8 ≤ j) → iv' j = iv j ∧ vv' j = vv j) (hn : ds_LL (fun d => d < 8 ∧ iv' (8 * n + d) ≠ 0) (ds_vlt vv' n) vs' vw' n (8 * n)) : ds_VL vs' vw' iv' vv' := by
  intro n' hn'
  by_cases e : n' = n
  · rw [e]; exact hn
  · refine ds_LL_c (ds_LL_fr (N := 8) (h n' hn') ds_vlt_irr (fun x hx => hx.1) (h1 n' e) (fun i hi => h2 _ (by omega))) (fun x => ⟨fun w => ⟨w.1, ?_⟩, fun w => ⟨w.1, ?_⟩⟩) (fun a b ha hb2 w => ?_)
    · have := w.1
      rw [(h3 (8 * n' + x) (by omega)).1]; exact w.2
    · have := w.1
      have k := w.2
      rw [(h3 (8 * n' + x) (by omega)).1] at k; exact k
    · have := ha.1
      have := hb2.1
      unfold ds_vlt
      rw [(h3 (8 * n' + a) (by omega)).2, (h3 (8 * n' + b) (by omega)).2]
      exact w
theorem ds_x_renew (hT : ds_TI m D P G vl mr) {n d : Nat} (hn : n < 3) (hd : d < 8) {S : Nat → Prop} (hS : ∀ x, S x → x < m) (hL : ds_LL S (ds_bh P G vl mr) lc ll (8 * n + d) (640 * n + 80 * d)) (hbo : ds_bo iv) (hVL : ds_VL vs vw iv vv) {post : SX → Prop} (hp : ∀ vs' vw' iv' vv' : Nat → Int32, ds_bo iv' → ds_VL vs' vw' iv' vv' → (∀ j, j ≠ 8 * n + d → iv' j = iv j ∧ vv' j = vv j) → ds_VW S mr (ds_bh P G vl mr) vl (iv' (8 * n + d)) (vv' (8 * n + d)) → post (mk, dc, pr, vl, mr, gn, lh, cb, lf, kn, kc, hb, lc, ll, ct, st, cp, vs', vw', iv', vv', qa, qb)) : wpX_renew post (mk, dc, pr, vl, mr, gn, lh, cb, lf, kn, kc, hb, lc, ll, ct, st, cp, vs, vw, iv, vv, qa, qb) (nI n) (nI d) := by
  have hm : m ≤ 80 := hT.1
  have i8 : vp_in (nI (8 * n + d)) 24 := ds_in (by omega) (by omega)
  have c8 : (nI (8 * n + d)).toNatClampNeg = 8 * n + d := ds_cl (by omega)
  -- the document taken out
  have take : iv (8 * n + d) ≠ 0 → ∀ K : SX → Prop, (∀ vs1 vw1 : Nat → Int32, ds_VL vs1 vw1 (upd iv (8 * n + d) 0) vv → K (mk, dc, pr, vl, mr, gn, lh, cb, lf, kn, kc, hb, lc, ll, ct, st, cp, vs1, vw1, upd iv (8 * n + d) 0, vv, qa, qb)) → wpX_takeFromView K (mk, dc, pr, vl, mr, gn, lh, cb, lf, kn, kc, hb, lc, ll, ct, st, cp, vs, vw, iv, vv, qa, qb) (nI n) (nI d) := by
    intro hv K hK
    refine ds_x_tv hn hd ds_vlt_irr (fun x hx => hx.1) (hVL n hn) ⟨hd, hv⟩ (fun vs1 vw1 h1 h2 h3 => hK vs1 vw1 (ds_VL_out hVL h2 h3 (fun j hj => ⟨pk_un (by omega), rfl⟩) (ds_LL_c h1 (fun x => ?_) (fun _ _ _ _ w => w))))
    constructor
    · intro w
      have := w.2
      exact ⟨w.1.1, by rw [pk_un (by omega)]; exact w.1.2⟩
    · intro w
      by_cases e : x = d
      · have k := w.2
        rw [e, pk_us] at k; exact absurd rfl k
      · have k := w.2
        rw [pk_un (by omega)] at k
        exact ⟨⟨w.1, k⟩, e⟩
  -- the document put in
  have put : ∀ (w : Nat) (vs1 vw1 iv1 : Nat → Int32), w < m → ds_wn S mr (ds_bh P G vl mr) w → mr w = 0 → ds_bo iv1 → ds_VL vs1 vw1 iv1 vv → iv1 (8 * n + d) = 0 → (∀ j, j ≠ 8 * n + d → iv1 j = iv j) → wX_renew_83 post (nI n) (nI d) (nI w) 1 mk dc pr vl mr gn lh cb lf kn kc hb lc ll ct st cp vs1 vw1 iv1 vv qa qb := by
    intro w vs1 vw1 iv1 hw hw1 hw2 hb1 hv1 hz hf
    unfold wX_renew_83
    rw [ds_cl (n := w) (by omega)]
    refine br_f ds_10 ⟨ds_in (by omega) (by omega), ?_⟩
    refine ds_x_pv hn hd (S := fun x => x < 8 ∧ iv1 (8 * n + x) ≠ 0) (fun x hx => ⟨hx.1, fun e => hx.2 (by rw [e]; exact hz)⟩) (ds_LL_c (hv1 n hn) (fun x => Iff.rfl) (fun a b ha hb2 q => ?_)) (fun vs2 vw2 h1 h2 h3 => ?_)
    · have ea : a ≠ d := fun e => ha.2 (by rw [e]; exact hz)
      have eb : b ≠ d := fun e => hb2.2 (by rw [e]; exact hz)
      unfold ds_vlt
      rw [pk_un (by omega), pk_un (by omega)]
      exact q
    · refine hp _ _ _ _ (ds_bo_u hb1 (Or.inr rfl)) (ds_VL_out hv1 h2 h3 (fun j hj => ⟨pk_un (by omega), pk_un (by omega)⟩) (ds_LL_c h1 (fun x => ?_) (fun _ _ _ _ w => w))) (fun j hj => ⟨(pk_un hj).trans (hf j hj), pk_un hj⟩) ?_
      · constructor
        · intro q
          by_cases e : x = d
          · rw [e, pk_us]; exact ⟨hd, ds_10⟩
          · rcases q with q | q
            · rw [pk_un (by omega)]; exact q
            · exact absurd q e
        · intro q
          by_cases e : x = d
          · exact Or.inr e
          · rw [pk_un (by omega)] at q; exact Or.inl q
      · rw [pk_us, pk_us]
        exact ⟨⟨fun _ => ⟨w, hw1, hw2⟩, fun _ => ds_10⟩, fun x hx _ => by rw [ds_wn_u hT hS hx hw1]⟩
  have no : (¬ ∃ w, ds_wn S mr (ds_bh P G vl mr) w ∧ mr w = 0) → ∀ x : Int32, wX_renew_25 post (nI n) (nI d) x mk dc pr vl mr gn lh cb lf kn kc hb lc ll ct st cp vs vw iv vv qa qb := by
    intro hno x
    have vw0 : ∀ v : Int32, ds_VW S mr (ds_bh P G vl mr) vl 0 v := fun v => ⟨⟨fun z => absurd rfl z, fun z => absurd z hno⟩, fun w h1 h2 => absurd ⟨w, h1, h2⟩ hno⟩
    unfold wX_renew_25 wX_renew_26
    rw [ds_8, c8]
    refine ⟨i8, nm_e (br_c (fun z => ?_) (fun z => br_t rfl ?_))⟩
    · unfold wX_renew_72 wX_renew_83
      refine br_t z (br_t rfl (hp _ _ _ _ hbo hVL (fun _ _ => ⟨rfl, rfl⟩) ?_))
      rw [z]; exact vw0 _
    · unfold wX_renew_72
      refine br_f z (take z _ (fun vs1 vw1 h1 => ?_))
      unfold wX_renew_83
      refine br_t rfl (hp _ _ _ _ (ds_bo_u hbo (Or.inl rfl)) h1 (fun j hj => ⟨pk_un hj, rfl⟩) ?_)
      rw [pk_us]; exact vw0 _
  unfold wpX_renew
  dsimp only
  refine ds_x_fw hT hn hd hS hL (fun w hw => ?_) (fun h => ?_)
  · have hwm := hS w hw.1
    refine br_f (ds_nIn1 (by omega)) ⟨ds_in (by omega) (by omega), ?_⟩
    rw [ds_cl (n := w) (by omega)]
    by_cases y : mr w = 0
    · refine br_t y ?_
      unfold wX_renew_26
      rw [ds_8, c8, ds_cl (n := w) (by omega)]
      refine ⟨i8, nm_e (br_c (fun z => ?_) (fun z => br_f ds_10 ⟨i8, ds_in (by omega) (by omega), ?_⟩))⟩
      · unfold wX_renew_72
        exact br_t z (put w vs vw iv hwm hw y hbo hVL z (fun _ _ => rfl))
      · by_cases q : vv (8 * n + d) = vl w
        · refine br_t q (hp _ _ _ _ hbo hVL (fun _ _ => ⟨rfl, rfl⟩) ⟨⟨fun _ => ⟨w, hw, y⟩, fun _ => z⟩, fun x hx _ => ?_⟩)
          rw [ds_wn_u hT hS hx hw]; exact q
        · refine br_f q ?_
          unfold wX_renew_72
          exact br_f z (take z _ (fun vs1 vw1 h1 => put w vs1 vw1 _ hwm hw y (ds_bo_u hbo (Or.inl rfl)) h1 pk_us (fun j hj => pk_un hj)))
    · refine br_f y (no (fun h => ?_) _)
      obtain ⟨x, hx, hx2⟩ := h
      rw [ds_wn_u hT hS hx hw] at hx2
      exact y hx2
  · exact br_t rfl (no (fun q => by obtain ⟨x, hx, _⟩ := q; exact h x hx.1) _)
end
end
section
/-! stamps and copies; the whole invariant; a revision made; a document touched -/
def ds_ZR (C T Z : Nat → Nat) (ct st cp : Nat → Int32) : Prop := (∀ n, n < 3 → ct n = nI (C n)) ∧ (∀ j, j < 24 → st j = nI (T j)) ∧ (∀ j, j < 9 → cp j = nI (Z j))
def ds_ZI (B m : Nat) (D : Nat → Nat) (kn : Nat → Int32) (C T Z : Nat → Nat) : Prop :=
  (∀ n, n < 3 → C n ≤ B) ∧
  (∀ n d, n < 3 → d < 8 → T (8 * n + d) ≤ C n ∧ (T (8 * n + d) = 0 ↔ ∀ r, r < m → D r = d → kn (80 * n + r) = 0)) ∧
  (∀ n d e, n < 3 → d < 8 → e < 8 → T (8 * n + d) = T (8 * n + e) → T (8 * n + d) = 0 ∨ d = e) ∧
  (∀ n t, n < 3 → t < 3 → n ≠ t → Z (3 * n + t) ≤ C n ∧ ∀ r, r < m → T (8 * n + D r) ≤ Z (3 * n + t) → kn (80 * n + r) ≠ 0 → kn (80 * t + r) ≠ 0)
def ds_VA (m : Nat) (D P G : Nat → Nat) (vl mr kn iv vv : Nat → Int32) : Prop := ∀ n d, n < 3 → d < 8 → ds_VW (ds_lf m D P kn n d) mr (ds_bh P G vl mr) vl (iv (8 * n + d)) (vv (8 * n + d))
def ds_INV (B m : Nat) (D P G C T Z : Nat → Nat) (dc pr vl mr gn lh cb lf kn kc hb lc ll ct st cp vs vw iv vv : Nat → Int32) : Prop :=
  (ds_TI m D P G vl mr ∧ ds_rp m D P dc pr ∧ ds_rg m G gn ∧ ds_CH m D P lh cb lf) ∧
  (ds_KI m P kn hb ∧ ds_CI m P kn kc ∧ ds_LI m D P (ds_bh P G vl mr) kn lc ll) ∧
  (ds_bo iv ∧ ds_VL vs vw iv vv ∧ ds_VA m D P G vl mr kn iv vv) ∧
  (ds_ZR C T Z ct st cp ∧ ds_ZI B m D kn C T Z)
theorem ds_wn_c {S S' : Nat → Prop} {mr mr' : Nat → Int32} {bh bh' : Nat → Nat → Prop} (h1 : ∀ x, S x ↔ S' x) (h2 : ∀ x, S x → mr x = mr' x) (h3 : ∀ a b, S a → S b → (bh a b ↔ bh' a b)) (w : Nat) : ds_wn S mr bh w ↔ ds_wn S' mr' bh' w := by
  have key : ∀ a b, S a → S b → (ds_bb mr bh a b ↔ ds_bb mr' bh' a b) := by
    intro a b ha hb
    unfold ds_bb
    rw [h2 a ha, h2 b hb, h3 a b ha hb]
  constructor
  · intro h
    exact ⟨(h1 w).mp h.1, fun s hs hn => (key w s h.1 ((h1 s).mpr hs)).mp (h.2 s ((h1 s).mpr hs) hn)⟩
  · intro h
    have hw := (h1 w).mpr h.1
    exact ⟨hw, fun s hs hn => (key w s hw hs).mpr (h.2 s ((h1 s).mp hs) hn)⟩
theorem ds_VW_c {S S' : Nat → Prop} {mr mr' vl vl' : Nat → Int32} {bh bh' : Nat → Nat → Prop} {i v : Int32} (h : ds_VW S mr bh vl i v) (h1 : ∀ x, S x ↔ S' x) (h2 : ∀ x, S x → mr x = mr' x) (h3 : ∀ a b, S a → S b → (bh a b ↔ bh' a b)) (h4 : ∀ x, S x → vl x = vl' x) : ds_VW S' mr' bh' vl' i v := by
  obtain ⟨k1, k2⟩ := h
  constructor
  · rw [k1]
    constructor
    · intro ⟨w, hw, hm⟩
      exact ⟨w, (ds_wn_c h1 h2 h3 w).mp hw, by rw [← h2 w hw.1]; exact hm⟩
    · intro ⟨w, hw, hm⟩
      have hw2 := (ds_wn_c h1 h2 h3 w).mpr hw
      exact ⟨w, hw2, by rw [h2 w hw2.1]; exact hm⟩
  · intro w hw hm
    have hw2 := (ds_wn_c h1 h2 h3 w).mpr hw
    rw [← h4 w hw2.1]
    exact k2 w hw2 (by rw [h2 w hw2.1]; exact hm)
section
variable {m : Nat} {D P G : Nat → Nat} {V M : Nat → Int32}
theorem ds_TI_up (hT : ds_TI m D P G V M) (hm : m < 80) {d q : Nat} (hd : d < 8) (hq : q = 0 ∨ ∃ p, q = p + 1 ∧ p < m ∧ D p = d) {x k : Int32} (hk : k = 0 ∨ k = 1) (hno : ∀ r, r < m → ¬ ds_mt D P V M d q x k r) : ds_TI (m + 1) (ds_un D m d) (ds_un P m q) (ds_un G m (if q = 0 then 1 else G (q - 1) + 1)) (upd V m x) (upd M m k) := by
  obtain ⟨h1, h2, h3⟩ := hT
  refine ⟨by omega, fun r hr => ?_, fun r s hr hs => ?_⟩
  · by_cases e : r = m
    · rw [e, ds_uns, ds_uns, ds_uns, pk_us]
      refine ⟨hd, ?_, hk, fun z => by rw [if_pos z], fun p hp => ?_⟩
      · rcases hq with rfl | ⟨p, rfl, hp, _⟩ <;> omega
      · rcases hq with rfl | ⟨p2, rfl, hp2, hp3⟩
        · omega
        · have : p = p2 := by omega
          subst this
          rw [ds_unn (by omega), ds_unn (by omega), if_neg (by omega)]
          exact ⟨hp3, rfl⟩
    · obtain ⟨k1, k2, k3, k4, k5⟩ := h2 r (by omega)
      rw [ds_unn e, ds_unn e, ds_unn e, pk_un e]
      refine ⟨k1, k2, k3, k4, fun p hp => ?_⟩
      rw [ds_unn (by omega), ds_unn (by omega)]
      exact k5 p hp
  · by_cases e : r = m
    · by_cases e2 : s = m
      · intro _ _ _ _; omega
      · rw [e, ds_uns, ds_uns, pk_us, pk_us, ds_unn e2, ds_unn e2, pk_un e2, pk_un e2]
        intro w1 w2 w3 w4
        exact absurd ⟨w1.symm, w2.symm, w3.symm, w4.symm⟩ (hno s (by omega))
    · by_cases e2 : s = m
      · rw [e2, ds_uns, ds_uns, pk_us, pk_us, ds_unn e, ds_unn e, pk_un e, pk_un e]
        intro w1 w2 w3 w4
        exact absurd ⟨w1, w2, w3, w4⟩ (hno r (by omega))
      · rw [ds_unn e, ds_unn e, pk_un e, pk_un e, ds_unn e2, ds_unn e2, pk_un e2, pk_un e2]
        exact h3 r s (by omega) (by omega)
theorem ds_pb_up (hP : ∀ r, r < m → P r ≤ r) {q : Nat} {x k : Int32} : ∀ (n a b : Nat), a < m → b < m → (ds_pb P V M n a b ↔ ds_pb (ds_un P m q) (upd V m x) (upd M m k) n a b) := by
  intro n
  induction n with
  | zero => intro a b _ _; exact Iff.rfl
  | succ n ih =>
    intro a b ha hb
    have pa := hP a ha
    have pb := hP b hb
    have ea : ds_un P m q a = P a := ds_unn (by omega)
    have eb : ds_un P m q b = P b := ds_unn (by omega)
    have ev : ds_lx V M a b ↔ ds_lx (upd V m x) (upd M m k) a b := by
      unfold ds_lx
      rw [pk_un (by omega), pk_un (by omega), pk_un (by omega), pk_un (by omega)]
    by_cases e : P a = P b
    · rw [ds_pb_e e, ds_pb_e (by rw [ea, eb]; exact e)]; exact ev
    · rw [ds_pb_n e, ds_pb_n (by rw [ea, eb]; exact e), ea, eb]
      exact ih _ _ (by omega) (by omega)
theorem ds_bh_up (hP : ∀ r, r < m → P r ≤ r) {q g : Nat} {x k : Int32} {a b : Nat} (ha : a < m) (hb : b < m) : ds_bh P G V M a b ↔ ds_bh (ds_un P m q) (ds_un G m g) (upd V m x) (upd M m k) a b := by
  unfold ds_bh
  rw [ds_unn (f := G) (show a ≠ m by omega), ds_unn (f := G) (show b ≠ m by omega), ← ds_pb_up hP (G a) a b ha hb]
theorem ds_lf_up {kn : Nat → Int32} (hP : ∀ r, r < m → P r ≤ r) {n d d' q : Nat} (h0 : kn (80 * n + m) = 0) (x : Nat) : ds_lf m D P kn n d' x ↔ ds_lf (m + 1) (ds_un D m d) (ds_un P m q) kn n d' x := by
  constructor
  · intro h
    have h1 := h.1
    refine ⟨by omega, by rw [ds_unn (by omega)]; exact h.2.1, h.2.2.1, fun s hs hp => ?_⟩
    by_cases e : s = m
    · rw [e]; exact h0
    · rw [ds_unn e] at hp; exact h.2.2.2 s (by omega) hp
  · intro h
    have e : x ≠ m := fun w => by have := h.2.2.1; rw [w] at this; exact this h0
    have h1 := h.1
    refine ⟨by omega, by have := h.2.1; rw [ds_unn e] at this; exact this, h.2.2.1, fun s hs hp => h.2.2.2 s (by omega) (by rw [ds_unn (by omega)]; exact hp)⟩
end
section
variable {B m : Nat} {D P G C T Z : Nat → Nat} {dc pr vl mr gn lh cb lf kn kc hb lc ll ct st cp vs vw iv vv : Nat → Int32}
/-- a revision that no store knows yet -/
theorem ds_INV_up (I : ds_INV B m D P G C T Z dc pr vl mr gn lh cb lf kn kc hb lc ll ct st cp vs vw iv vv) (hm : m < 80) {d q : Nat} (hd : d < 8) (hq : q = 0 ∨ ∃ p, q = p + 1 ∧ p < m ∧ D p = d) {x k : Int32} (hk : k = 0 ∨ k = 1) (hno : ∀ r, r < m → ¬ ds_mt D P vl mr d q x k r) {gn' lh' cb' lf' : Nat → Int32} (hg : ds_rg (m + 1) (ds_un G m (if q = 0 then 1 else G (q - 1) + 1)) gn') (hc : ds_CH (m + 1) (ds_un D m d) (ds_un P m q) lh' cb' lf') : ds_INV B (m + 1) (ds_un D m d) (ds_un P m q) (ds_un G m (if q = 0 then 1 else G (q - 1) + 1)) C T Z (upd dc m (nI d)) (upd pr m (ds_pI q)) (upd vl m x) (upd mr m k) gn' lh' cb' lf' kn kc hb lc ll ct st cp vs vw iv vv := by
  obtain ⟨⟨i1, i2, i3, i4⟩, ⟨i5, i6, i7⟩, ⟨i8, i9, i10⟩, ⟨i11, i12⟩⟩ := I
  have hP : ∀ r, r < m → P r ≤ r := fun r hr => (i1.2.1 r hr).2.1
  have k0 : ∀ n, n < 3 → kn (80 * n + m) = 0 := fun n hn => i5.2.2.1 n m hn (Nat.le_refl _) hm
  refine ⟨⟨ds_TI_up i1 hm hd hq hk hno, fun r hr => ?_, hg, hc⟩, ⟨⟨i5.1, i5.2.1, fun n r hn h1 h2 => i5.2.2.1 n r hn (by omega) h2, i5.2.2.2.1, fun n r p hn hr hp hz => ?_⟩, fun n r hn hr hz => ?_, fun n e hn he => ?_⟩, ⟨i8, i9, fun n e hn he => ?_⟩, ⟨i11, i12.1, fun n e hn he => ?_, i12.2.2.1, fun n t hn ht hne => ⟨(i12.2.2.2 n t hn ht hne).1, fun r hr h1 h2 => ?_⟩⟩⟩
  · by_cases e : r = m
    · rw [e, pk_us, pk_us, ds_uns, ds_uns]; exact ⟨rfl, rfl⟩
    · rw [pk_un e, pk_un e, ds_unn e, ds_unn e]; exact i2 r (by omega)
  · by_cases e : r = m
    · rw [e] at hz; exact absurd (k0 n hn) hz
    · rw [ds_unn e] at hp; exact i5.2.2.2.2 n r p hn (by omega) hp hz
  · have e : r ≠ m := fun w => by rw [w] at hz; exact hz (k0 n hn)
    rw [i6 n r hn (by omega) hz, ds_cn_f (fun w => w.2 (k0 n hn))]
    congr 1
    exact ds_cn_c (fun s hs => by rw [ds_unn (show s ≠ m by omega)])
  · exact ds_LL_c (i7 n e hn he) (fun y => ds_lf_up hP (k0 n hn) y) (fun a b ha hb2 w => (ds_bh_up hP ha.1 hb2.1).mp w)
  · exact ds_VW_c (i10 n e hn he) (fun y => ds_lf_up hP (k0 n hn) y) (fun y hy => (pk_un (by have := hy.1; omega)).symm) (fun a b ha hb2 => ds_bh_up hP ha.1 hb2.1) (fun y hy => (pk_un (by have := hy.1; omega)).symm)
  · obtain ⟨j1, j2⟩ := i12.2.1 n e hn he
    refine ⟨j1, ?_⟩
    rw [j2]
    constructor
    · intro w r hr hr2
      by_cases z : r = m
      · rw [z]; exact k0 n hn
      · rw [ds_unn z] at hr2; exact w r (by omega) hr2
    · intro w r hr hr2
      exact w r (by omega) (by rw [ds_unn (by omega)]; exact hr2)
  · have e : r ≠ m := fun w => by rw [w] at h2; exact h2 (k0 n hn)
    rw [ds_unn e] at h1
    exact (i12.2.2.2 n t hn ht hne).2 r (by omega) h1 h2
/-- a store's document is stamped anew, with more known -/
theorem ds_ZI_st {kn' : Nat → Int32} (hD : ∀ r, r < m → D r < 8) (h : ds_ZI B m D kn C T Z) {n d : Nat} (hn : n < 3) (hd : d < 8) (h1 : ∀ n' r, n' < 3 → r < m → (n' ≠ n ∨ D r ≠ d) → kn' (80 * n' + r) = kn (80 * n' + r)) (h2 : ∀ r, r < m → kn (80 * n + r) ≠ 0 → kn' (80 * n + r) ≠ 0) (h3 : ∃ r, r < m ∧ D r = d ∧ kn' (80 * n + r) ≠ 0) : ds_ZI (B + 1) m D kn' (ds_un C n (C n + 1)) (ds_un T (8 * n + d) (C n + 1)) Z := by
  obtain ⟨z1, z2, z3, z4⟩ := h
  have cn := z1 n hn
  have C2 : ∀ n', n' < 3 → C n' ≤ ds_un C n (C n + 1) n' := by
    intro n' hn'
    by_cases e : n' = n
    · rw [e, ds_uns]; omega
    · rw [ds_unn e]; exact Nat.le_refl _
  refine ⟨fun n' hn' => ?_, fun n' d' hn' hd' => ?_, fun n' d' e' hn' hd' he' => ?_, fun n' t hn' ht hne => ⟨?_, fun r hr h4 h5 => ?_⟩⟩
  · by_cases e : n' = n
    · rw [e, ds_uns]; omega
    · rw [ds_unn e]; have := z1 n' hn'; omega
  · by_cases e : n' = n ∧ d' = d
    · rw [e.1, e.2, ds_uns, ds_uns]
      refine ⟨Nat.le_refl _, fun w => by omega, fun w => ?_⟩
      obtain ⟨r, r1, r2, r3⟩ := h3
      exact absurd (w r r1 r2) r3
    · rw [ds_unn (k := 8 * n + d) (j := 8 * n' + d') (by omega)]
      obtain ⟨j1, j2⟩ := z2 n' d' hn' hd'
      have := C2 n' hn'
      refine ⟨by omega, ?_⟩
      rw [j2]
      constructor
      · intro w r hr hr2
        rw [h1 n' r hn' hr (by omega)]; exact w r hr hr2
      · intro w r hr hr2
        rw [← h1 n' r hn' hr (by omega)]; exact w r hr hr2
  · have b1 := (z2 n' d' hn' hd').1
    have b2 := (z2 n' e' hn' he').1
    by_cases e : n' = n ∧ d' = d
    · by_cases y : e' = d
      · intro _; exact Or.inr (by omega)
      · rw [e.1, e.2, ds_uns, ds_unn (by omega)]
        intro w
        rw [e.1] at b2
        omega
    · rw [ds_unn (k := 8 * n + d) (j := 8 * n' + d') (by omega)]
      by_cases y : n' = n ∧ e' = d
      · rw [y.1, y.2, ds_uns]
        intro w
        rw [y.1] at b1
        omega
      · rw [ds_unn (by omega)]
        exact z3 n' d' e' hn' hd' he'
  · have := (z4 n' t hn' ht hne).1
    have := C2 n' hn'
    omega
  · have dr := hD r hr
    obtain ⟨j1, j2⟩ := z4 n' t hn' ht hne
    by_cases e : n' = n ∧ D r = d
    · rw [e.1, e.2, ds_uns] at h4
      rw [e.1] at j1
      omega
    · rw [ds_unn (by omega)] at h4
      rw [h1 n' r hn' hr (by omega)] at h5
      have k := j2 r hr h4 h5
      by_cases y : t = n
      · rw [y] at k ⊢; exact h2 r hr k
      · rw [h1 t r ht hr (Or.inl y)]; exact k
theorem ds_ZR_st (h : ds_ZR C T Z ct st cp) {n d : Nat} (hn : n < 3) (hd : d < 8) : ds_ZR (ds_un C n (C n + 1)) (ds_un T (8 * n + d) (C n + 1)) Z (upd ct n (nI (C n + 1))) (upd st (8 * n + d) (nI (C n + 1))) cp := by
  obtain ⟨z1, z2, z3⟩ := h
  refine ⟨fun n' hn' => ?_, fun j hj => ?_, z3⟩
  · by_cases e : n' = n
    · rw [e, pk_us, ds_uns]
    · rw [pk_un e, ds_unn e]; exact z1 n' hn'
  · by_cases e : j = 8 * n + d
    · rw [e, pk_us, ds_uns]
    · rw [pk_un e, ds_unn e]; exact z2 j hj
end
end
section
/-! edits: X's change, Y's make -/
section
variable {B m : Nat} {D P G C T Z : Nat → Nat} {dc pr vl mr gn lh cb lf kn kc hb lc ll ct st cp vs vw iv vv qa qb : Nat → Int32}
theorem ds_x_stamp {mk : Int32} (hZ : ds_ZR C T Z ct st cp) {n d : Nat} (hn : n < 3) (hd : d < 8) {post : SX → Prop} (hp : post (mk, dc, pr, vl, mr, gn, lh, cb, lf, kn, kc, hb, lc, ll, upd ct n (nI (C n + 1)), upd st (8 * n + d) (nI (C n + 1)), cp, vs, vw, iv, vv, qa, qb)) : wpX_stampNow post (mk, dc, pr, vl, mr, gn, lh, cb, lf, kn, kc, hb, lc, ll, ct, st, cp, vs, vw, iv, vv, qa, qb) (nI n) (nI d) := by
  have i : vp_in (nI n) 3 := ds_in hn (by omega)
  unfold wpX_stampNow
  dsimp only
  rw [ds_8, ds_cl (n := n) (by omega), ds_cl (n := 8 * n + d) (by omega), hZ.1 n hn, nI_1]
  refine ⟨i, i, nm_e ⟨i, ds_in (by omega) (by omega), ?_⟩⟩
  rw [pk_us]
  exact nm_e hp
theorem ds_y_learn {mk : Int32} (hZ : ds_ZR C T Z ct st cp) {n d : Nat} (hn : n < 3) (hd : d < 8) {post : SY → Prop} (hp : post (mk, dc, pr, vl, mr, kn, hb, upd ct n (nI (C n + 1)), upd st (8 * n + d) (nI (C n + 1)))) : wpY_learn post (mk, dc, pr, vl, mr, kn, hb, ct, st) (nI n) (nI d) := by
  have i : vp_in (nI n) 3 := ds_in hn (by omega)
  unfold wpY_learn
  dsimp only
  rw [ds_8, ds_cl (n := n) (by omega), ds_cl (n := 8 * n + d) (by omega), hZ.1 n hn, nI_1]
  refine ⟨i, i, nm_e ⟨i, ds_in (by omega) (by omega), ?_⟩⟩
  rw [pk_us]
  exact nm_e hp
theorem ds_x_48 (I : ds_INV B m D P G C T Z dc pr vl mr gn lh cb lf kn kc hb lc ll ct st cp vs vw iv vv) {n r : Nat} (hn : n < 3) (hr : r < m) (hu : kn (80 * n + r) = 0) (hpar : ∀ p, P r = p + 1 → kn (80 * n + p) ≠ 0) {post : Int32 → SX → Prop} (hp : ∀ kc' lc' ll' vs' vw' iv' vv' qa' qb' : Nat → Int32, ds_INV (B + 1) m D P G (ds_un C n (C n + 1)) (ds_un T (8 * n + D r) (C n + 1)) Z dc pr vl mr gn lh cb lf (upd kn (80 * n + r) 1) kc' (upd hb (80 * n + r) 1) lc' ll' (upd ct n (nI (C n + 1))) (upd st (8 * n + D r) (nI (C n + 1))) cp vs' vw' iv' vv' → post (nI r) (nI m, dc, pr, vl, mr, gn, lh, cb, lf, upd kn (80 * n + r) 1, kc', upd hb (80 * n + r) 1, lc', ll', upd ct n (nI (C n + 1)), upd st (8 * n + D r) (nI (C n + 1)), cp, vs', vw', iv', vv', qa', qb')) : wX_change_48 post (nI n) (nI (D r)) (nI r) (nI m) dc pr vl mr gn lh cb lf kn kc hb lc ll ct st cp vs vw iv vv qa qb := by
  obtain ⟨⟨i1, i2, i3, i4⟩, ⟨i5, i6, i7⟩, ⟨i8, i9, i10⟩, ⟨i11, i12⟩⟩ := I
  have hm : m ≤ 80 := i1.1
  have hd := (i1.2.1 r hr).1
  have i : vp_in (nI (80 * n + r)) 240 := ds_in (by omega) (by omega)
  unfold wX_change_48
  rw [ds_80, ds_cl (n := 80 * n + r) (by omega), ds_vn1]
  refine ⟨i, br_t hu (ds_x_learn i1 i2 i3 i5 i6 i7 hn hr hu hpar (fun kc' lc' ll' qa' qb' c1 c2 => ?_))⟩
  refine ⟨i, nm_e (ds_x_stamp i11 hn hd ?_)⟩
  refine ds_x_renew i1 hn hd (fun x hx => hx.1) (c2 n (D r) hn hd) i8 i9 (fun vs' vw' iv' vv' v1 v2 v3 v4 => ?_)
  refine hp _ _ _ _ _ _ _ _ _ ⟨⟨i1, i2, i3, i4⟩, ⟨?_, c1, c2⟩, ⟨v1, v2, fun n' d' hn' hd' => ?_⟩, ⟨ds_ZR_st i11 hn hd, ds_ZI_st (fun s hs => (i1.2.1 s hs).1) i12 hn hd (fun n' s hn' hs h => ?_) (fun s hs h => ?_) ⟨r, hr, rfl, by rw [pk_us]; exact ds_10⟩⟩⟩
  · obtain ⟨k1, k2, k3, k4, k5⟩ := ds_KI_in i1 i5 hn hr hpar
    refine ⟨k1, ds_bo_u k2 (Or.inr rfl), k3, fun n' s hn' hs h => ?_, k5⟩
    by_cases e : 80 * n' + s = 80 * n + r
    · rw [e, pk_us] at h; exact absurd h ds_10
    · rw [pk_un e]; exact k4 n' s hn' hs h
  · by_cases e : n' = n ∧ d' = D r
    · rw [e.1, e.2]; exact v4
    · have hne : n' ≠ n ∨ d' ≠ D r := by omega
      have hv := v3 (8 * n' + d') (by omega)
      rw [hv.1, hv.2]
      exact ds_VW_c (i10 n' d' hn' hd') (fun x => ds_lf_out i1 hr hne x) (fun _ _ => rfl) (fun _ _ _ _ => Iff.rfl) (fun _ _ => rfl)
  · refine pk_un (fun w => ?_)
    have e1 : n' = n := by omega
    have e2 : s = r := by omega
    rw [e1, e2] at h
    exact h.elim (fun y => y rfl) (fun y => y rfl)
  · by_cases e : 80 * n + s = 80 * n + r
    · rw [e, pk_us]; exact ds_10
    · rw [pk_un e]; exact h
theorem ds_x_48k {n d r : Nat} (hn : n < 3) (hr : r < 80) (hu : kn (80 * n + r) ≠ 0) {mk : Int32} {post : Int32 → SX → Prop} (hp : post (nI r) (mk, dc, pr, vl, mr, gn, lh, cb, lf, kn, kc, hb, lc, ll, ct, st, cp, vs, vw, iv, vv, qa, qb)) : wX_change_48 post (nI n) (nI d) (nI r) mk dc pr vl mr gn lh cb lf kn kc hb lc ll ct st cp vs vw iv vv qa qb := by
  unfold wX_change_48
  rw [ds_80, ds_cl (n := 80 * n + r) (by omega)]
  exact ⟨ds_in (by omega) (by omega), br_f hu hp⟩
theorem ds_x_ch (I : ds_INV B m D P G C T Z dc pr vl mr gn lh cb lf kn kc hb lc ll ct st cp vs vw iv vv) {n d q : Nat} (hn : n < 3) (hd : d < 8) (hq : q = 0 ∨ ∃ p, q = p + 1 ∧ p < m ∧ D p = d) (hqk : ∀ p, q = p + 1 → kn (80 * n + p) ≠ 0) {x k : Int32} (hk : k = 0 ∨ k = 1) {post : Int32 → SX → Prop}
    (h1 : ∀ r, r < m → ds_mt D P vl mr d q x k r → kn (80 * n + r) ≠ 0 → post (nI r) (nI m, dc, pr, vl, mr, gn, lh, cb, lf, kn, kc, hb, lc, ll, ct, st, cp, vs, vw, iv, vv, qa, qb))
    (h2 : (∀ r, r < m → ¬ ds_mt D P vl mr d q x k r) → m = 80 → post (-1000000002) (nI m, dc, pr, vl, mr, gn, lh, cb, lf, kn, kc, hb, lc, ll, ct, st, cp, vs, vw, iv, vv, qa, qb))
    (h3 : ∀ r, r < m → ds_mt D P vl mr d q x k r → kn (80 * n + r) = 0 → ∀ kc' lc' ll' vs' vw' iv' vv' qa' qb' : Nat → Int32, ds_INV (B + 1) m D P G (ds_un C n (C n + 1)) (ds_un T (8 * n + d) (C n + 1)) Z dc pr vl mr gn lh cb lf (upd kn (80 * n + r) 1) kc' (upd hb (80 * n + r) 1) lc' ll' (upd ct n (nI (C n + 1))) (upd st (8 * n + d) (nI (C n + 1))) cp vs' vw' iv' vv' → post (nI r) (nI m, dc, pr, vl, mr, gn, lh, cb, lf, upd kn (80 * n + r) 1, kc', upd hb (80 * n + r) 1, lc', ll', upd ct n (nI (C n + 1)), upd st (8 * n + d) (nI (C n + 1)), cp, vs', vw', iv', vv', qa', qb'))
    (h4 : (∀ r, r < m → ¬ ds_mt D P vl mr d q x k r) → m < 80 → ∀ gn' lh' cb' lf' kc' lc' ll' vs' vw' iv' vv' qa' qb' : Nat → Int32, ds_INV (B + 1) (m + 1) (ds_un D m d) (ds_un P m q) (ds_un G m (if q = 0 then 1 else G (q - 1) + 1)) (ds_un C n (C n + 1)) (ds_un T (8 * n + d) (C n + 1)) Z (upd dc m (nI d)) (upd pr m (ds_pI q)) (upd vl m x) (upd mr m k) gn' lh' cb' lf' (upd kn (80 * n + m) 1) kc' (upd hb (80 * n + m) 1) lc' ll' (upd ct n (nI (C n + 1))) (upd st (8 * n + d) (nI (C n + 1))) cp vs' vw' iv' vv' → post (nI m) (nI (m + 1), upd dc m (nI d), upd pr m (ds_pI q), upd vl m x, upd mr m k, gn', lh', cb', lf', upd kn (80 * n + m) 1, kc', upd hb (80 * n + m) 1, lc', ll', upd ct n (nI (C n + 1)), upd st (8 * n + d) (nI (C n + 1)), cp, vs', vw', iv', vv', qa', qb')) : wpX_change post (nI m, dc, pr, vl, mr, gn, lh, cb, lf, kn, kc, hb, lc, ll, ct, st, cp, vs, vw, iv, vv, qa, qb) (nI n) (nI d) (ds_pI q) x k := by
  have I0 := I
  obtain ⟨⟨i1, i2, i3, i4⟩, ⟨i5, i6, i7⟩, ⟨i8, i9, i10⟩, ⟨i11, i12⟩⟩ := I
  have hm : m ≤ 80 := i1.1
  unfold wpX_change
  dsimp only
  refine ds_x_fr hm i4 hd hq (fun r hr hmt => ?_) (fun hno => ?_)
  · refine br_f (ds_nIn1 (by omega)) ?_
    unfold wX_change_30
    refine br_f (ds_nIn1 (by omega)) ?_
    by_cases z : kn (80 * n + r) = 0
    · have e := hmt.1
      rw [← e]
      refine ds_x_48 I0 hn hr z (fun p hp => hqk p (hmt.2.1.symm.trans hp)) ?_
      rw [e]
      exact h3 r hr hmt z
    · exact ds_x_48k hn (by omega) z (h1 r hr hmt z)
  · refine br_t rfl ?_
    by_cases z : m = 80
    · exact br_t (by rw [z]; rfl) (h2 hno z)
    · refine br_f (ds_neN (b := 80) (by omega) (by omega) z) ?_
      unfold wX_change_30
      refine br_t rfl (ds_x_mr i1 i3 i4 (by omega) hd hq hk (fun gn' lh' cb' lf' g1 g2 => ?_))
      have J := ds_INV_up I0 (by omega) hd hq hk hno g1 g2
      have k0 : kn (80 * n + m) = 0 := i5.2.2.1 n m hn (Nat.le_refl _) (by omega)
      have e : ds_un D m d m = d := ds_uns
      have w := ds_x_48 (qa := qa) (qb := qb) (post := post) J hn (show m < m + 1 by omega) k0 (fun p hp => hqk p (by rw [ds_uns] at hp; exact hp))
      rw [e] at w
      exact w (h4 hno (by omega) gn' lh' cb' lf')
end
section
variable {m : Nat} {D P G C T Z : Nat → Nat} {dc pr vl mr kn hb ct st cp : Nat → Int32}
theorem ds_y_170 (hk : ds_bo kn) (hZ : ds_ZR C T Z ct st cp) {mk : Int32} {n d r : Nat} (hn : n < 3) (hd : d < 8) (hr : r < 80) {post : Int32 → SY → Prop} (h1 : kn (80 * n + r) ≠ 0 → post (nI r) (mk, dc, pr, vl, mr, kn, hb, ct, st)) (h2 : kn (80 * n + r) = 0 → post (nI r) (mk, dc, pr, vl, mr, upd kn (80 * n + r) 1, upd hb (80 * n + r) 1, upd ct n (nI (C n + 1)), upd st (8 * n + d) (nI (C n + 1)))) : wY_make_170 post (nI n) (nI d) (nI r) mk dc pr vl mr kn hb ct st := by
  have i : vp_in (nI (80 * n + r)) 240 := ds_in (by omega) (by omega)
  unfold wY_make_170
  refine ds_y_kn hk hn hr ?_
  rw [ds_80, ds_cl (n := 80 * n + r) (by omega), ds_vn1]
  exact br_c (fun z => ⟨i, nm_e ⟨i, nm_e (ds_y_learn hZ hn hd (h2 z))⟩⟩) h1
theorem ds_y_mk (hT : ds_TI m D P G vl mr) (hR : ds_rp m D P dc pr) (hK : ds_KI m P kn hb) (hZ : ds_ZR C T Z ct st cp) {n d q : Nat} (hn : n < 3) (hd : d < 8) (hq : q ≤ 80) {x k : Int32} (hk : k = 0 ∨ k = 1) {post : Int32 → SY → Prop}
    (h1 : ∀ r, r < m → ds_mt D P vl mr d q x k r → kn (80 * n + r) ≠ 0 → post (nI r) (nI m, dc, pr, vl, mr, kn, hb, ct, st))
    (h2 : (∀ r, r < m → ¬ ds_mt D P vl mr d q x k r) → m = 80 → post (-1000000002) (nI m, dc, pr, vl, mr, kn, hb, ct, st))
    (h3 : ∀ r, r < m → ds_mt D P vl mr d q x k r → kn (80 * n + r) = 0 → post (nI r) (nI m, dc, pr, vl, mr, upd kn (80 * n + r) 1, upd hb (80 * n + r) 1, upd ct n (nI (C n + 1)), upd st (8 * n + d) (nI (C n + 1))))
    (h4 : (∀ r, r < m → ¬ ds_mt D P vl mr d q x k r) → m < 80 → post (nI m) (nI (m + 1), upd dc m (nI d), upd pr m (ds_pI q), upd vl m x, upd mr m k, upd kn (80 * n + m) 1, upd hb (80 * n + m) 1, upd ct n (nI (C n + 1)), upd st (8 * n + d) (nI (C n + 1)))) : wpY_make post (nI m, dc, pr, vl, mr, kn, hb, ct, st) (nI n) (nI d) (ds_pI q) x k := by
  have hm : m ≤ 80 := hT.1
  have new : (∀ r, r < m → ¬ ds_mt D P vl mr d q x k r) → wY_make_64 post (nI n) (nI d) (ds_pI q) x k (nI m) (nI m) dc pr vl mr kn hb ct st := by
    intro hno
    unfold wY_make_64
    by_cases z : m = 80
    · exact br_t (by rw [z]; rfl) (h2 hno z)
    · have i : vp_in (nI m) 80 := ds_in (by omega) (by omega)
      have k0 : ∀ s, s < 3 → kn (80 * s + m) = 0 := fun s hs => hK.2.2.1 s m hs (Nat.le_refl _) (by omega)
      have b0 : ∀ s, s < 3 → hb (80 * s + m) = 0 := fun s hs => hK.2.2.2.1 s m hs (by omega) (k0 s hs)
      have loop : ∀ (f s : Nat), s ≤ 3 → 3 - s < f → wY_make_120 post (nI n) (nI d) (nI m) (nI m) f (nI s) (upd dc m (nI d)) (upd pr m (ds_pI q)) (upd vl m x) (upd mr m k) kn hb ct st := by
        intro f
        induction f with
        | zero => intro s g1 g2; omega
        | succ f ih =>
          intro s g1 g2
          rw [wY_make_120]; dsimp only
          by_cases y : 3 ≤ s
          · exact br_t (nI_le (a := 3) y (by omega)) (nm_r (nI_1 m) (ds_y_170 hK.1 hZ hn hd (by omega) (fun w => absurd (k0 n hn) w) (fun _ => h4 hno (by omega))))
          · rw [ds_80, ds_cl (n := 80 * s + m) (by omega), ds_vn0]
            exact br_f (nI_ge (b := 3) (by omega) (by omega)) ⟨ds_in (by omega) (by omega), nm_r (ds_us kn (80 * s + m) (k0 s (by omega))) ⟨ds_in (by omega) (by omega), nm_r (ds_us hb (80 * s + m) (b0 s (by omega))) (nm_r (nI_1 s) (ih (s + 1) (by omega) (by omega)))⟩⟩
      rw [ds_cl (n := m) (by omega), ds_vn hk]
      exact br_f (ds_neN (b := 80) (by omega) (by omega) z) (br_t rfl ⟨i, nm_e ⟨i, nm_e ⟨i, nm_e ⟨i, nm_e ⟨4, loop 4 0 (by omega) (by omega)⟩⟩⟩⟩⟩)
  have old : ∀ r, r < m → ds_mt D P vl mr d q x k r → wY_make_64 post (nI n) (nI d) (ds_pI q) x k (nI r) (nI m) dc pr vl mr kn hb ct st := by
    intro r hr hmt
    unfold wY_make_64
    exact br_f (ds_neN (b := 80) (by omega) (by omega) (by omega)) (br_f (ds_neN (by omega) (by omega) (by omega)) (ds_y_170 hK.1 hZ hn hd (by omega) (h1 r hr hmt) (h3 r hr hmt)))
  have main : ∀ (f s : Nat), s ≤ m → m - s < f → (∀ r, r < s → ¬ ds_mt D P vl mr d q x k r) → wY_make_3 post (nI n) (nI d) (ds_pI q) x k (nI m) dc pr vl mr kn hb ct st f (nI s) := by
    intro f
    induction f with
    | zero => intro s g1 g2; omega
    | succ f ih =>
      intro s g1 g2 g3
      rw [wY_make_3]; dsimp only
      by_cases y : m ≤ s
      · have e : s = m := by omega
        rw [e] at g3 ⊢
        exact br_t (Int32.le_refl _) (new g3)
      · have is : vp_in (nI s) 80 := ds_in (by omega) (by omega)
        obtain ⟨r1, r2⟩ := hR s (by omega)
        obtain ⟨t1, t2, _⟩ := hT.2.1 s (by omega)
        have nx : ¬ ds_mt D P vl mr d q x k s → wY_make_3 post (nI n) (nI d) (ds_pI q) x k (nI m) dc pr vl mr kn hb ct st f (nI (s + 1)) := by
          intro w
          refine ih (s + 1) (by omega) (by omega) (fun r hr => ?_)
          by_cases e : r = s
          · rw [e]; exact w
          · exact g3 r (by omega)
        rw [ds_cl (n := s) (by omega), nI_1 s, r1, r2]
        refine br_f (nI_ge (by omega) (by omega)) ⟨is, ?_⟩
        by_cases e1 : D s = d
        · refine br_t (by rw [e1]) ⟨is, ?_⟩
          by_cases e2 : P s = q
          · refine br_t (by rw [e2]) ⟨is, ?_⟩
            by_cases e3 : vl s = x
            · refine br_t e3 ⟨is, ?_⟩
              by_cases e4 : mr s = k
              · exact br_t e4 (old s (by omega) ⟨e1, e2, e3, e4⟩)
              · exact br_f e4 (nm_e (nx (fun w => e4 w.2.2.2)))
            · exact br_f e3 (nm_e (nx (fun w => e3 w.2.2.1)))
          · exact br_f (fun w => e2 ((ds_pI_eq (by omega) (by omega)).mp w)) (nm_e (nx (fun w => e2 w.2.1)))
        · exact br_f (ds_neN (by omega) (by omega) e1) (nm_e (nx (fun w => e1 w.1)))
  exact ⟨m + 1, main (m + 1) 0 (by omega) (by omega) (fun r hr => by omega)⟩
end
end
section
/-! the relation, its beginning, the edits -/
def i_Rel (k : Nat) (u : SX) (v : SY) : Prop := match u with
  | (xk, dc, pr, vl, mr, gn, lh, cb, lf, kn, kc, hb, lc, ll, ct, st, cp, vs, vw, iv, vv, qa, qb) => v = (xk, dc, pr, vl, mr, kn, hb, ct, st) ∧ ∃ (m : Nat) (D P G C T Z : Nat → Nat), xk = nI m ∧ ds_INV (2 * k) m D P G C T Z dc pr vl mr gn lh cb lf kn kc hb lc ll ct st cp vs vw iv vv
theorem ds_el {k : Nat} {Q : SX → SY → Prop} {u : SX} {v : SY} (I : i_Rel k u v) (h : ∀ (m : Nat) (D P G C T Z : Nat → Nat) (dc pr vl mr gn lh cb lf kn kc hb lc ll ct st cp vs vw iv vv qa qb : Nat → Int32), ds_INV (2 * k) m D P G C T Z dc pr vl mr gn lh cb lf kn kc hb lc ll ct st cp vs vw iv vv → Q (nI m, dc, pr, vl, mr, gn, lh, cb, lf, kn, kc, hb, lc, ll, ct, st, cp, vs, vw, iv, vv, qa, qb) (nI m, dc, pr, vl, mr, kn, hb, ct, st)) : Q u v := by
  obtain ⟨mk, dc, pr, vl, mr, gn, lh, cb, lf, kn, kc, hb, lc, ll, ct, st, cp, vs, vw, iv, vv, qa, qb⟩ := u
  obtain ⟨rfl, m, D, P, G, C, T, Z, rfl, J⟩ := I
  exact h m D P G C T Z dc pr vl mr gn lh cb lf kn kc hb lc ll ct st cp vs vw iv vv qa qb J
section
variable {B m : Nat} {D P G C T Z : Nat → Nat} {dc pr vl mr gn lh cb lf kn kc hb lc ll ct st cp vs vw iv vv qa qb : Nat → Int32}
theorem ds_INV_mono (I : ds_INV B m D P G C T Z dc pr vl mr gn lh cb lf kn kc hb lc ll ct st cp vs vw iv vv) {B' : Nat} (h : B ≤ B') : ds_INV B' m D P G C T Z dc pr vl mr gn lh cb lf kn kc hb lc ll ct st cp vs vw iv vv := by
  obtain ⟨i1, i2, i3, i4, z1, z2⟩ := I
  exact ⟨i1, i2, i3, i4, fun n hn => by have := z1 n hn; omega, z2⟩
theorem ds_rel (I : ds_INV B m D P G C T Z dc pr vl mr gn lh cb lf kn kc hb lc ll ct st cp vs vw iv vv) {k : Nat} (h : B ≤ 2 * k) : i_Rel k (nI m, dc, pr, vl, mr, gn, lh, cb, lf, kn, kc, hb, lc, ll, ct, st, cp, vs, vw, iv, vv, qa, qb) (nI m, dc, pr, vl, mr, kn, hb, ct, st) := ⟨rfl, m, D, P, G, C, T, Z, rfl, ds_INV_mono I h⟩
end
theorem i_up {k : Nat} {u : SX} {v : SY} (h : i_Rel k u v) : i_Rel (k + 5) u v :=
  ds_el (Q := fun u v => i_Rel (k + 5) u v) h (fun _ _ _ _ _ _ _ _ _ _ _ _ _ _ _ _ _ _ _ _ _ _ _ _ _ _ _ _ _ J => ds_rel J (by omega))
theorem ds_z0 : ds_INV 0 0 (fun _ => 0) (fun _ => 0) (fun _ => 0) (fun _ => 0) (fun _ => 0) (fun _ => 0) (fun _ => 0) (fun _ => 0) (fun _ => 0) (fun _ => 0) (fun _ => 0) (fun _ => 0) (fun _ => 0) (fun d => if d < 8 then -1 else 0) (fun _ => 0) (fun _ => 0) (fun _ => 0) (fun _ => 0) (fun _ => 0) (fun _ => 0) (fun _ => 0) (fun _ => 0) (fun _ => 0) (fun _ => 0) (fun _ => 0) (fun _ => 0) := by
  have b0 : ds_bo (fun _ => 0) := fun _ => Or.inl rfl
  have nl : ∀ n d r, ¬ ds_lf 0 (fun _ => 0) (fun _ => 0) (fun _ => 0) n d r := fun n d r h => absurd h.1 (by omega)
  refine ⟨⟨⟨by omega, fun r hr => by omega, fun r s hr => by omega⟩, fun r hr => by omega, fun r hr => by omega, fun d hd => ⟨0, ?_, Nat.le_refl _, fun r hr => by omega, fun s h1 h2 => by omega⟩, fun r hr => by omega, fun r hr => by omega⟩, ⟨⟨b0, b0, fun _ _ _ _ _ => rfl, fun _ _ _ _ _ => rfl, fun _ _ _ _ hr => by omega⟩, fun _ _ _ hr => by omega, fun n d hn hd => ⟨0, fun _ => 0, rfl, fun i hi => by omega, fun i hi => by omega, fun r hr => absurd hr (nl n d r), fun i j h1 h2 => by omega⟩⟩, ⟨b0, fun n hn => ⟨0, fun _ => 0, rfl, fun i hi => by omega, fun i hi => by omega, fun r hr => absurd rfl hr.2, fun i j h1 h2 => by omega⟩, fun n d hn hd => ⟨⟨fun w => absurd rfl w, fun ⟨w, hw, _⟩ => absurd hw.1 (nl n d w)⟩, fun w hw => absurd hw.1 (nl n d w)⟩⟩, ⟨⟨fun _ _ => rfl, fun _ _ => rfl, fun _ _ => rfl⟩, fun _ _ => Nat.le_refl _, fun _ _ _ _ => ⟨Nat.le_refl _, fun _ r hr => by omega, fun _ => rfl⟩, fun _ _ _ _ _ _ _ => Or.inl rfl, fun _ _ _ _ _ => ⟨Nat.le_refl _, fun r hr => by omega⟩⟩⟩
  show (if d < 8 then (-1 : Int32) else 0) = ds_pI 0
  rw [if_pos hd, ds_pI0]
theorem i_vc0 : wpX_init (fun u => wpY_init (fun v => i_Rel 0 u v)) := by
  have main : ∀ (f d : Nat), d ≤ 8 → 8 - d < f → wX_init_184 (fun u => wpY_init (fun v => i_Rel 0 u v)) 0 f (nI d) (fun _ => 0) (fun _ => 0) (fun _ => 0) (fun _ => 0) (fun _ => 0) (fun _ => 0) (fun _ => 0) (fun e => if e < d then -1 else 0) (fun _ => 0) (fun _ => 0) (fun _ => 0) (fun _ => 0) (fun _ => 0) (fun _ => 0) (fun _ => 0) (fun _ => 0) (fun _ => 0) (fun _ => 0) (fun _ => 0) (fun _ => 0) (fun _ => 0) (fun _ => 0) := by
    intro f
    induction f with
    | zero => intro d h1 h2; omega
    | succ f ih =>
      intro d h1 h2
      rw [wX_init_184]; dsimp only
      by_cases z : 8 ≤ d
      · have e : d = 8 := by omega
        rw [e]
        exact br_t (Int32.le_refl _) (ds_rel (m := 0) (qa := fun _ => 0) (qb := fun _ => 0) ds_z0 (Nat.zero_le _))
      · rw [ds_cl (n := d) (by omega)]
        refine br_f (nI_ge (b := 8) (by omega) (by omega)) ⟨ds_in (by omega) (by omega), nm_r (e' := fun e => if e < d + 1 then -1 else 0) ?_ (nm_r (nI_1 d) (ih (d + 1) (by omega) (by omega)))⟩
        funext e
        by_cases y : e = d
        · rw [y, pk_us, if_pos (by omega)]
        · rw [pk_un y]
          by_cases w : e < d
          · rw [if_pos w, if_pos (by omega)]
          · rw [if_neg w, if_neg (by omega)]
  have k := main 9 0 (by omega) (by omega)
  have e : (fun e : Nat => if e < 0 then (-1 : Int32) else 0) = fun _ => 0 := by
    funext e
    rw [if_neg (by omega)]
  rw [e] at k
  exact ⟨9, k⟩
/-! arguments -/
theorem ds_arg (N : Nat) (hN : N < 2000000000) (x : Int32) : (∃ n, n < N ∧ x = nI n) ∨ (x < 0 ∨ nI N ≤ x) := by
  rcases pk_ix x (n := N) (by omega) with h | h | h
  · exact Or.inr (Or.inl h)
  · exact Or.inr (Or.inr h)
  · exact Or.inl h
theorem ds_23 {x : Int32} {N : Nat} (hN : N < 1000) (h : nI (N + 1) ≤ x) : nI N < x := by
  rw [Int32.lt_iff_toInt_lt]
  rw [Int32.le_iff_toInt_le] at h
  rw [nI_toInt (by omega)] at h ⊢
  omega
section
variable {mk : Int32} {dc pr vl mr gn lh cb lf kn kc hb lc ll ct st cp vs vw iv vv qa qb : Nat → Int32}
theorem ds_x_bs {post : Int32 → Prop} {n : Nat} (hn : n < 3) (hp : post 0) : wpX_badStore post (mk, dc, pr, vl, mr, gn, lh, cb, lf, kn, kc, hb, lc, ll, ct, st, cp, vs, vw, iv, vv, qa, qb) (nI n) := br_f (nI_pos (by omega)) (br_t (nI_lt (b := 3) hn (by omega)) hp)
theorem ds_x_bsn {post : Int32 → Prop} {x : Int32} (h : x < 0 ∨ nI 3 ≤ x) (hp : post 1) : wpX_badStore post (mk, dc, pr, vl, mr, gn, lh, cb, lf, kn, kc, hb, lc, ll, ct, st, cp, vs, vw, iv, vv, qa, qb) x := br_c (fun _ => hp) (fun z => br_f (fun w => (h.elim z (fun y => Int32.not_lt.mpr y w))) hp)
theorem ds_x_bd {post : Int32 → Prop} {n : Nat} (hn : n < 8) (hp : post 0) : wpX_badDocument post (mk, dc, pr, vl, mr, gn, lh, cb, lf, kn, kc, hb, lc, ll, ct, st, cp, vs, vw, iv, vv, qa, qb) (nI n) := br_f (nI_pos (by omega)) (br_t (nI_lt (b := 8) hn (by omega)) hp)
theorem ds_x_bdn {post : Int32 → Prop} {x : Int32} (h : x < 0 ∨ nI 8 ≤ x) (hp : post 1) : wpX_badDocument post (mk, dc, pr, vl, mr, gn, lh, cb, lf, kn, kc, hb, lc, ll, ct, st, cp, vs, vw, iv, vv, qa, qb) x := br_c (fun _ => hp) (fun z => br_f (fun w => (h.elim z (fun y => Int32.not_lt.mpr y w))) hp)
theorem ds_y_is {post : Int32 → Prop} {n : Nat} (hn : n < 3) (hp : post 1) : wpY_isStore post (mk, dc, pr, vl, mr, kn, hb, ct, st) (nI n) := br_f (nI_pos (by omega)) (br_f (nI_nlt (a := 2) (by omega) (by omega)) hp)
theorem ds_y_isn {post : Int32 → Prop} {x : Int32} (h : x < 0 ∨ nI 3 ≤ x) (hp : post 0) : wpY_isStore post (mk, dc, pr, vl, mr, kn, hb, ct, st) x := br_c (fun _ => hp) (fun z => br_t (h.elim (fun y => absurd y z) (fun y => ds_23 (N := 2) (by omega) y)) hp)
theorem ds_y_id {post : Int32 → Prop} {n d : Nat} (hn : n < 3) (hd : d < 8) (hp : post 1) : wpY_isDocument post (mk, dc, pr, vl, mr, kn, hb, ct, st) (nI n) (nI d) := by
  unfold wpY_isDocument
  dsimp only
  exact ds_y_is hn (br_f ds_10 (br_f (nI_pos (by omega)) (br_f (nI_nlt (a := 7) (by omega) (by omega)) hp)))
theorem ds_y_idn {post : Int32 → Prop} {x y : Int32} (h : x < 0 ∨ nI 3 ≤ x) (hp : post 0) : wpY_isDocument post (mk, dc, pr, vl, mr, kn, hb, ct, st) x y := by
  unfold wpY_isDocument
  dsimp only
  exact ds_y_isn h (br_t rfl hp)
theorem ds_y_idd {post : Int32 → Prop} {n : Nat} {x : Int32} (hn : n < 3) (h : x < 0 ∨ nI 8 ≤ x) (hp : post 0) : wpY_isDocument post (mk, dc, pr, vl, mr, kn, hb, ct, st) (nI n) x := by
  unfold wpY_isDocument
  dsimp only
  exact ds_y_is hn (br_f ds_10 (br_c (fun _ => hp) (fun z => br_t (h.elim (fun y => absurd y z) (fun y => ds_23 (N := 7) (by omega) y)) hp)))
end
section
variable {B m : Nat} {D P G C T Z : Nat → Nat} {dc pr vl mr gn lh cb lf kn kc hb lc ll ct st cp vs vw iv vv qa qb : Nat → Int32}
/-- X changes, Y makes: one answer, related states -/
theorem ds_chmk {k : Nat} (I : ds_INV (2 * k) m D P G C T Z dc pr vl mr gn lh cb lf kn kc hb lc ll ct st cp vs vw iv vv) {n d q : Nat} (hn : n < 3) (hd : d < 8) (hq : q = 0 ∨ ∃ p, q = p + 1 ∧ p < m ∧ D p = d) (hqk : ∀ p, q = p + 1 → kn (80 * n + p) ≠ 0) {x j : Int32} (hj : j = 0 ∨ j = 1) {Y : (Int32 → SY → Prop) → Prop} (hY : ∀ K : Int32 → SY → Prop, (∀ K' : Int32 → SY → Prop, (∀ r mk dc pr vl mr kn hb ct st, K r (mk, dc, pr, vl, mr, kn, hb, ct, st) → K' r (mk, dc, pr, vl, mr, kn, hb, ct, st)) → wpY_make K' (nI m, dc, pr, vl, mr, kn, hb, ct, st) (nI n) (nI d) (ds_pI q) x j) → Y K) {post : Int32 → SX → Prop} (hp : ∀ r mk dc pr vl mr gn lh cb lf kn kc hb lc ll ct st cp vs vw iv vv qa qb, Y (fun r' v' => r' = r ∧ i_Rel (k + 5) (mk, dc, pr, vl, mr, gn, lh, cb, lf, kn, kc, hb, lc, ll, ct, st, cp, vs, vw, iv, vv, qa, qb) v') → post r (mk, dc, pr, vl, mr, gn, lh, cb, lf, kn, kc, hb, lc, ll, ct, st, cp, vs, vw, iv, vv, qa, qb)) : wpX_change post (nI m, dc, pr, vl, mr, gn, lh, cb, lf, kn, kc, hb, lc, ll, ct, st, cp, vs, vw, iv, vv, qa, qb) (nI n) (nI d) (ds_pI q) x j := by
  have I0 := I
  obtain ⟨⟨i1, i2, i3, i4⟩, ⟨i5, i6, i7⟩, ⟨i8, i9, i10⟩, ⟨i11, i12⟩⟩ := I
  have hm : m ≤ 80 := i1.1
  have hq80 : q ≤ 80 := by rcases hq with h | ⟨p, h, h1, _⟩ <;> omega
  have un : ∀ r s, r < m → s < m → ds_mt D P vl mr d q x j r → ds_mt D P vl mr d q x j s → r = s := fun r s hr hs h1 h2 => i1.2.2 r s hr hs (h1.1.trans h2.1.symm) (h1.2.1.trans h2.2.1.symm) (h1.2.2.1.trans h2.2.2.1.symm) (h1.2.2.2.trans h2.2.2.2.symm)
  refine ds_x_ch I0 hn hd hq hqk hj (fun r hr hmt hkn => ?_) (fun hno hm8 => ?_) (fun r hr hmt hkn kc' lc' ll' vs' vw' iv' vv' qa' qb' J => ?_) (fun hno hm8 gn' lh' cb' lf' kc' lc' ll' vs' vw' iv' vv' qa' qb' J => ?_)
  · refine hp _ _ _ _ _ _ _ _ _ _ _ _ _ _ _ _ _ _ _ _ _ _ _ _ (hY _ (fun K' hK => ds_y_mk i1 i2 i5 i11 hn hd hq80 hj (fun s hs h1 h2 => hK _ _ _ _ _ _ _ _ _ _ ⟨?_, ds_rel I0 (by omega)⟩) (fun h _ => absurd hmt (h r hr)) (fun s hs h1 h2 => ?_) (fun h _ => absurd hmt (h r hr))))
    · rw [un s r hs hr h1 hmt]
    · rw [un s r hs hr h1 hmt] at h2; exact absurd h2 hkn
  · exact hp _ _ _ _ _ _ _ _ _ _ _ _ _ _ _ _ _ _ _ _ _ _ _ _ (hY _ (fun K' hK => ds_y_mk i1 i2 i5 i11 hn hd hq80 hj (fun s hs h1 _ => absurd h1 (hno s hs)) (fun _ _ => hK _ _ _ _ _ _ _ _ _ _ ⟨rfl, ds_rel I0 (by omega)⟩) (fun s hs h1 _ => absurd h1 (hno s hs)) (fun _ h => by omega)))
  · refine hp _ _ _ _ _ _ _ _ _ _ _ _ _ _ _ _ _ _ _ _ _ _ _ _ (hY _ (fun K' hK => ds_y_mk i1 i2 i5 i11 hn hd hq80 hj (fun s hs h1 h2 => ?_) (fun h _ => absurd hmt (h r hr)) (fun s hs h1 h2 => ?_) (fun h _ => absurd hmt (h r hr))))
    · rw [un s r hs hr h1 hmt] at h2; exact absurd hkn h2
    · have e := un s r hs hr h1 hmt
      rw [e]
      exact hK _ _ _ _ _ _ _ _ _ _ ⟨rfl, ds_rel J (by omega)⟩
  · exact hp _ _ _ _ _ _ _ _ _ _ _ _ _ _ _ _ _ _ _ _ _ _ _ _ (hY _ (fun K' hK => ds_y_mk i1 i2 i5 i11 hn hd hq80 hj (fun s hs h1 _ => absurd h1 (hno s hs)) (fun _ h => by omega) (fun s hs h1 _ => absurd h1 (hno s hs)) (fun _ _ => hK _ _ _ _ _ _ _ _ _ _ ⟨rfl, ds_rel J (by omega)⟩)))
theorem ds_y_hit (hT : ds_TI m D P G vl mr) (hR : ds_rp m D P dc pr) (hk : ds_bo kn) {n d c i : Nat} {L : Nat → Nat} (hn : n < 3) (hd : d < 8) (hSE : ds_SE (ds_lf m D P kn n d) (ds_bh P G vl mr) c L) (hi : i < c) {post : Int32 → Prop} (hp : post (nI (L i))) : wpY_findLeaf post (nI m, dc, pr, vl, mr, kn, hb, ct, st) (nI n) (nI d) (nI i) := by
  have hm : m ≤ 80 := hT.1
  have hc : c ≤ m := ds_se_le hSE ds_bh_irr (fun x hx => hx.1)
  have rank : ∀ j, j < c → ds_cn (fun s => ds_lf m D P kn n d s ∧ ds_bh P G vl mr s (L j)) m = j := fun j hj => ds_se_rank hSE ds_bh_irr (fun a b ha hb2 w => ds_bh_as hT ha.1 hb2.1 w) (fun x hx => hx.1) hj
  refine ds_y_fl hT hR hk hn hd (fun r hr h => ?_) (fun h => ?_)
  · obtain ⟨j, hj, rfl⟩ := hSE.2.1 r hr
    rw [rank j hj, nI_eq (by omega) (by omega)] at h
    rw [h]; exact hp
  · exact absurd (by rw [rank i hi]) (h (L i) (hSE.1 i hi))
theorem ds_y_miss (hT : ds_TI m D P G vl mr) (hR : ds_rp m D P dc pr) (hk : ds_bo kn) {n d c : Nat} {x : Int32} {L : Nat → Nat} (hn : n < 3) (hd : d < 8) (hSE : ds_SE (ds_lf m D P kn n d) (ds_bh P G vl mr) c L) (hx : x < 0 ∨ nI c ≤ x) {post : Int32 → Prop} (hp : post (-1000000003)) : wpY_findLeaf post (nI m, dc, pr, vl, mr, kn, hb, ct, st) (nI n) (nI d) x := by
  have hm : m ≤ 80 := hT.1
  have hc : c ≤ m := ds_se_le hSE ds_bh_irr (fun x hx => hx.1)
  have rank : ∀ j, j < c → ds_cn (fun s => ds_lf m D P kn n d s ∧ ds_bh P G vl mr s (L j)) m = j := fun j hj => ds_se_rank hSE ds_bh_irr (fun a b ha hb2 w => ds_bh_as hT ha.1 hb2.1 w) (fun x hx => hx.1) hj
  refine ds_y_fl hT hR hk hn hd (fun r hr h => ?_) (fun _ => hp)
  obtain ⟨j, hj, rfl⟩ := hSE.2.1 r hr
  rw [rank j hj] at h
  exfalso
  rcases hx with hx | hx
  · rw [← h] at hx; exact nI_pos (by omega) hx
  · rw [← h] at hx; exact nI_ge hj (by omega) hx
theorem ds_x_nl {mk : Int32} {n d c i : Nat} (hn : n < 3) (hd : d < 8) (hc : c < 100) (e : lc (8 * n + d) = nI c) (hi : i < c) {post : Int32 → Prop} (hp : post 0) : wpX_noLeaf post (mk, dc, pr, vl, mr, gn, lh, cb, lf, kn, kc, hb, lc, ll, ct, st, cp, vs, vw, iv, vv, qa, qb) (nI n) (nI d) (nI i) := by
  unfold wpX_noLeaf
  dsimp only
  rw [ds_8, ds_cl (n := 8 * n + d) (by omega), e]
  exact br_f (nI_pos (by omega)) ⟨ds_in (by omega) (by omega), br_t (nI_lt hi (by omega)) hp⟩
theorem ds_x_nln {mk : Int32} {n d c : Nat} {x : Int32} (hn : n < 3) (hd : d < 8) (e : lc (8 * n + d) = nI c) (hx : x < 0 ∨ nI c ≤ x) {post : Int32 → Prop} (hp : post 1) : wpX_noLeaf post (mk, dc, pr, vl, mr, gn, lh, cb, lf, kn, kc, hb, lc, ll, ct, st, cp, vs, vw, iv, vv, qa, qb) (nI n) (nI d) x := by
  unfold wpX_noLeaf
  dsimp only
  rw [ds_8, ds_cl (n := 8 * n + d) (by omega), e]
  exact br_c (fun _ => hp) (fun z => ⟨ds_in (by omega) (by omega), br_f (hx.elim (fun y => absurd y z) Int32.not_lt.mpr) hp⟩)
end
end
section
/-! edit, editLeaf, delete -/
theorem ds_sp {f : Nat → Int32} {a w p : Nat} (h : w + 1 = p + 1) (k : f (a + w) ≠ 0) : f (a + p) ≠ 0 := by
  have e : w = p := by omega
  rw [e] at k; exact k
section
variable {B m : Nat} {D P G C T Z : Nat → Nat} {dc pr vl mr gn lh cb lf kn kc hb lc ll ct st cp vs vw iv vv qa qb : Nat → Int32}
theorem ds_y_edit (I : ds_INV B m D P G C T Z dc pr vl mr gn lh cb lf kn kc hb lc ll ct st cp vs vw iv vv) {n d q : Nat} (hn : n < 3) (hd : d < 8) (hq : (q = 0 ∧ ∀ r, ¬ ds_lf m D P kn n d r) ∨ (∃ w, q = w + 1 ∧ ds_wn (ds_lf m D P kn n d) mr (ds_bh P G vl mr) w)) {x : Int32} {K : Int32 → SY → Prop} (h : ∀ K' : Int32 → SY → Prop, (∀ r mk dc pr vl mr kn hb ct st, K r (mk, dc, pr, vl, mr, kn, hb, ct, st) → K' r (mk, dc, pr, vl, mr, kn, hb, ct, st)) → wpY_make K' (nI m, dc, pr, vl, mr, kn, hb, ct, st) (nI n) (nI d) (ds_pI q) x 0) : wpY_edit K (nI m, dc, pr, vl, mr, kn, hb, ct, st) (nI n) (nI d) x := by
  obtain ⟨⟨i1, i2, i3, i4⟩, ⟨i5, i6, i7⟩, _, _⟩ := I
  have hm : m ≤ 80 := i1.1
  unfold wpY_edit
  dsimp only
  refine ds_y_id hn hd (br_f ds_10 (ds_y_fw i1 i2 i5.1 hn hd (fun w hw => ?_) (fun hno => ?_)))
  · have hwm := hw.1.1
    refine br_f (ds_nNO (by omega)) ?_
    have e : q = w + 1 := by
      rcases hq with ⟨_, hq⟩ | ⟨w2, rfl, hq⟩
      · exact absurd hw.1 (hq w)
      · rw [ds_wn_u i1 (fun x hx => hx.1) hw hq]
    rw [e, ds_pIs] at h
    unfold wY_edit_36
    exact h _ (fun _ _ _ _ _ _ _ _ _ _ z => z)
  · refine br_t rfl ?_
    have e : q = 0 := by
      rcases hq with ⟨hq, _⟩ | ⟨w2, _, hq⟩
      · exact hq
      · exact absurd hq.1 (hno w2)
    rw [e, ds_pI0] at h
    unfold wY_edit_36
    exact h _ (fun _ _ _ _ _ _ _ _ _ _ z => z)
end
theorem i_vc_edit {k : Nat} {u : SX} {v : SY} (I : i_Rel k u v) (hk : k + 5 ≤ 2560) (v1 : Int32) (v2 : Int32) (v3 : Int32) : wpX_edit (fun r u' => wpY_edit (fun r' v' => r' = r ∧ i_Rel (k + 5) u' v') v v1 v2 v3) u v1 v2 v3 := by
  refine ds_el (Q := fun u v => wpX_edit (fun r u' => wpY_edit (fun r' v' => r' = r ∧ i_Rel (k + 5) u' v') v v1 v2 v3) u v1 v2 v3) I ?_
  intro m D P G C T Z dc pr vl mr gn lh cb lf kn kc hb lc ll ct st cp vs vw iv vv qa qb J
  have J0 := J
  obtain ⟨⟨i1, i2, i3, i4⟩, ⟨i5, i6, i7⟩, _, _⟩ := J
  unfold wpX_edit
  dsimp only
  rcases ds_arg 3 (by omega) v1 with ⟨n, hn, rfl⟩ | h1
  · rcases ds_arg 8 (by omega) v2 with ⟨d, hd, rfl⟩ | h2
    · refine ds_x_bs hn (br_t rfl (ds_x_bd hd (br_t rfl (ds_x_fw i1 hn hd (fun x hx => hx.1) (i7 n d hn hd) (fun w hw => ?_) (fun hno => ?_)))))
      · have K := ds_chmk (qa := qa) (qb := qb) (x := v3) (j := 0) (q := w + 1) J0 hn hd (Or.inr ⟨w, rfl, hw.1.1, hw.1.2.1⟩) (fun p hp => ds_sp hp hw.1.2.2.1) (Or.inl rfl) (Y := fun K => wpY_edit K (nI m, dc, pr, vl, mr, kn, hb, ct, st) (nI n) (nI d) v3) (fun K h => ds_y_edit J0 hn hd (Or.inr ⟨w, rfl, hw⟩) h) (post := fun r u => wpY_edit (fun r' v' => r' = r ∧ i_Rel (k + 5) u v') (nI m, dc, pr, vl, mr, kn, hb, ct, st) (nI n) (nI d) v3) (fun _ _ _ _ _ _ _ _ _ _ _ _ _ _ _ _ _ _ _ _ _ _ _ _ z => z)
        rw [ds_pIs] at K
        exact K
      · have K := ds_chmk (qa := qa) (qb := qb) (x := v3) (j := 0) (q := 0) J0 hn hd (Or.inl rfl) (fun p hp => by omega) (Or.inl rfl) (Y := fun K => wpY_edit K (nI m, dc, pr, vl, mr, kn, hb, ct, st) (nI n) (nI d) v3) (fun K h => ds_y_edit J0 hn hd (Or.inl ⟨rfl, hno⟩) h) (post := fun r u => wpY_edit (fun r' v' => r' = r ∧ i_Rel (k + 5) u v') (nI m, dc, pr, vl, mr, kn, hb, ct, st) (nI n) (nI d) v3) (fun _ _ _ _ _ _ _ _ _ _ _ _ _ _ _ _ _ _ _ _ _ _ _ _ z => z)
        rw [ds_pI0] at K
        exact K
    · refine ds_x_bs hn (br_t rfl (ds_x_bdn h2 (br_f ds_10 ?_)))
      unfold wpY_edit
      dsimp only
      exact ds_y_idd hn h2 (br_t rfl ⟨rfl, ds_rel J0 (by omega)⟩)
  · refine ds_x_bsn h1 (br_f ds_10 ?_)
    unfold wpY_edit
    dsimp only
    exact ds_y_idn h1 (br_t rfl ⟨rfl, ds_rel J0 (by omega)⟩)
theorem i_vc_editLeaf {k : Nat} {u : SX} {v : SY} (I : i_Rel k u v) (hk : k + 5 ≤ 2560) (v1 : Int32) (v2 : Int32) (v3 : Int32) (v4 : Int32) : wpX_editLeaf (fun r u' => wpY_editLeaf (fun r' v' => r' = r ∧ i_Rel (k + 5) u' v') v v1 v2 v3 v4) u v1 v2 v3 v4 := by
  refine ds_el (Q := fun u v => wpX_editLeaf (fun r u' => wpY_editLeaf (fun r' v' => r' = r ∧ i_Rel (k + 5) u' v') v v1 v2 v3 v4) u v1 v2 v3 v4) I ?_
  intro m D P G C T Z dc pr vl mr gn lh cb lf kn kc hb lc ll ct st cp vs vw iv vv qa qb J
  have J0 := J
  obtain ⟨⟨i1, i2, i3, i4⟩, ⟨i5, i6, i7⟩, _, _⟩ := J
  have hm : m ≤ 80 := i1.1
  unfold wpX_editLeaf
  dsimp only
  rcases ds_arg 3 (by omega) v1 with ⟨n, hn, rfl⟩ | h1
  · rcases ds_arg 8 (by omega) v2 with ⟨d, hd, rfl⟩ | h2
    · obtain ⟨c, L, e1, e2, hSE⟩ := i7 n d hn hd
      have hc : c ≤ m := ds_se_le hSE ds_bh_irr (fun x hx => hx.1)
      rcases ds_arg c (by omega) v3 with ⟨i, hi, rfl⟩ | h3
      · have hl := hSE.1 i hi
        have hlm := hl.1
        refine ds_x_bs hn (br_t rfl (ds_x_bd hd (br_t rfl (ds_x_nl hn hd (by omega) e1 hi (br_t rfl (ds_x_la hn hd (by omega) ?_))))))
        rw [e2 i hi]
        have K := ds_chmk (qa := qa) (qb := qb) (x := v4) (j := 0) (q := L i + 1) J0 hn hd (Or.inr ⟨L i, rfl, hl.1, hl.2.1⟩) (fun p hp => ds_sp hp hl.2.2.1) (Or.inl rfl) (Y := fun K => wpY_editLeaf K (nI m, dc, pr, vl, mr, kn, hb, ct, st) (nI n) (nI d) (nI i) v4) (fun K h => by
          rw [ds_pIs] at h
          unfold wpY_editLeaf
          dsimp only
          exact ds_y_id hn hd (br_f ds_10 (ds_y_hit i1 i2 i5.1 hn hd hSE hi (br_f (ds_nNO (by omega)) (h _ (fun _ _ _ _ _ _ _ _ _ _ z => z)))))) (post := fun r u => wpY_editLeaf (fun r' v' => r' = r ∧ i_Rel (k + 5) u v') (nI m, dc, pr, vl, mr, kn, hb, ct, st) (nI n) (nI d) (nI i) v4) (fun _ _ _ _ _ _ _ _ _ _ _ _ _ _ _ _ _ _ _ _ _ _ _ _ z => z)
        rw [ds_pIs] at K
        exact K
      · refine ds_x_bs hn (br_t rfl (ds_x_bd hd (br_t rfl (ds_x_nln hn hd e1 h3 (br_f ds_10 ?_)))))
        unfold wpY_editLeaf
        dsimp only
        exact ds_y_id hn hd (br_f ds_10 (ds_y_miss i1 i2 i5.1 hn hd hSE h3 (br_t rfl ⟨rfl, ds_rel J0 (by omega)⟩)))
    · refine ds_x_bs hn (br_t rfl (ds_x_bdn h2 (br_f ds_10 ?_)))
      unfold wpY_editLeaf
      dsimp only
      exact ds_y_idd hn h2 (br_t rfl ⟨rfl, ds_rel J0 (by omega)⟩)
  · refine ds_x_bsn h1 (br_f ds_10 ?_)
    unfold wpY_editLeaf
    dsimp only
    exact ds_y_idn h1 (br_t rfl ⟨rfl, ds_rel J0 (by omega)⟩)
theorem i_vc_delete {k : Nat} {u : SX} {v : SY} (I : i_Rel k u v) (hk : k + 5 ≤ 2560) (v1 : Int32) (v2 : Int32) (v3 : Int32) : wpX_delete (fun r u' => wpY_delete (fun r' v' => r' = r ∧ i_Rel (k + 5) u' v') v v1 v2 v3) u v1 v2 v3 := by
  refine ds_el (Q := fun u v => wpX_delete (fun r u' => wpY_delete (fun r' v' => r' = r ∧ i_Rel (k + 5) u' v') v v1 v2 v3) u v1 v2 v3) I ?_
  intro m D P G C T Z dc pr vl mr gn lh cb lf kn kc hb lc ll ct st cp vs vw iv vv qa qb J
  have J0 := J
  obtain ⟨⟨i1, i2, i3, i4⟩, ⟨i5, i6, i7⟩, _, _⟩ := J
  have hm : m ≤ 80 := i1.1
  unfold wpX_delete
  dsimp only
  rcases ds_arg 3 (by omega) v1 with ⟨n, hn, rfl⟩ | h1
  · rcases ds_arg 8 (by omega) v2 with ⟨d, hd, rfl⟩ | h2
    · obtain ⟨c, L, e1, e2, hSE⟩ := i7 n d hn hd
      have hc : c ≤ m := ds_se_le hSE ds_bh_irr (fun x hx => hx.1)
      rcases ds_arg c (by omega) v3 with ⟨i, hi, rfl⟩ | h3
      · have hl := hSE.1 i hi
        have hlm := hl.1
        refine ds_x_bs hn (br_t rfl (ds_x_bd hd (br_t rfl (ds_x_nl hn hd (by omega) e1 hi (br_t rfl (ds_x_la hn hd (by omega) ?_))))))
        rw [e2 i hi, ds_cl (n := L i) (by omega)]
        refine ⟨ds_in (by omega) (by omega), ?_⟩
        by_cases z : mr (L i) = 0
        · refine br_t z (ds_x_la hn hd (by omega) ?_)
          rw [e2 i hi]
          have K := ds_chmk (qa := qa) (qb := qb) (x := 0) (j := 1) (q := L i + 1) J0 hn hd (Or.inr ⟨L i, rfl, hl.1, hl.2.1⟩) (fun p hp => ds_sp hp hl.2.2.1) (Or.inr rfl) (Y := fun K => wpY_delete K (nI m, dc, pr, vl, mr, kn, hb, ct, st) (nI n) (nI d) (nI i)) (fun K h => by
            rw [ds_pIs] at h
            unfold wpY_delete
            dsimp only
            refine ds_y_id hn hd (br_f ds_10 (ds_y_hit i1 i2 i5.1 hn hd hSE hi (br_f (ds_nNO (by omega)) ⟨ds_in (by omega) (by omega), ?_⟩)))
            rw [ds_cl (n := L i) (by omega)]
            exact br_t z (h _ (fun _ _ _ _ _ _ _ _ _ _ z => z))) (post := fun r u => wpY_delete (fun r' v' => r' = r ∧ i_Rel (k + 5) u v') (nI m, dc, pr, vl, mr, kn, hb, ct, st) (nI n) (nI d) (nI i)) (fun _ _ _ _ _ _ _ _ _ _ _ _ _ _ _ _ _ _ _ _ _ _ _ _ z => z)
          rw [ds_pIs] at K
          exact K
        · refine br_f z ?_
          unfold wpY_delete
          dsimp only
          refine ds_y_id hn hd (br_f ds_10 (ds_y_hit i1 i2 i5.1 hn hd hSE hi (br_f (ds_nNO (by omega)) ⟨ds_in (by omega) (by omega), ?_⟩)))
          rw [ds_cl (n := L i) (by omega)]
          exact br_f z ⟨rfl, ds_rel J0 (by omega)⟩
      · refine ds_x_bs hn (br_t rfl (ds_x_bd hd (br_t rfl (ds_x_nln hn hd e1 h3 (br_f ds_10 ?_)))))
        unfold wpY_delete
        dsimp only
        exact ds_y_id hn hd (br_f ds_10 (ds_y_miss i1 i2 i5.1 hn hd hSE h3 (br_t rfl ⟨rfl, ds_rel J0 (by omega)⟩)))
    · refine ds_x_bs hn (br_t rfl (ds_x_bdn h2 (br_f ds_10 ?_)))
      unfold wpY_delete
      dsimp only
      exact ds_y_idd hn h2 (br_t rfl ⟨rfl, ds_rel J0 (by omega)⟩)
  · refine ds_x_bsn h1 (br_f ds_10 ?_)
    unfold wpY_delete
    dsimp only
    exact ds_y_idn h1 (br_t rfl ⟨rfl, ds_rel J0 (by omega)⟩)
end
section
/-! the plain questions -/
section
variable {m : Nat} {mk : Int32} {dc pr vl mr gn lh cb lf kn kc hb lc ll ct st cp vs vw iv vv qa qb : Nat → Int32}
theorem ds_x_nr {post : Int32 → Prop} {r : Nat} (hm : m ≤ 80) (hr : r < m) (hp : post 0) : wpX_noRevision post (nI m, dc, pr, vl, mr, gn, lh, cb, lf, kn, kc, hb, lc, ll, ct, st, cp, vs, vw, iv, vv, qa, qb) (nI r) := br_f (nI_pos (by omega)) (br_t (nI_lt hr (by omega)) hp)
theorem ds_x_nrn {post : Int32 → Prop} {x : Int32} (h : x < 0 ∨ nI m ≤ x) (hp : post 1) : wpX_noRevision post (nI m, dc, pr, vl, mr, gn, lh, cb, lf, kn, kc, hb, lc, ll, ct, st, cp, vs, vw, iv, vv, qa, qb) x := br_c (fun _ => hp) (fun z => br_f (h.elim (fun y => absurd y z) Int32.not_lt.mpr) hp)
end
theorem i_vc_revisions {k : Nat} {u : SX} {v : SY} (I : i_Rel k u v) (hk : k + 5 ≤ 2560) : wpX_revisions (fun r => wpY_revisions (fun r' => r' = r ∧ i_Rel (k + 5) u v) v) u := by
  refine ds_el (Q := fun u v => wpX_revisions (fun r => wpY_revisions (fun r' => r' = r ∧ i_Rel (k + 5) u v) v) u) I ?_
  intro m D P G C T Z dc pr vl mr gn lh cb lf kn kc hb lc ll ct st cp vs vw iv vv qa qb J
  exact ⟨rfl, ds_rel J (by omega)⟩
theorem ds_w4 {w : Nat} (h : w < 4) : w = 0 ∨ w = 1 ∨ w = 2 ∨ w = 3 := by omega
theorem i_vc_revision {k : Nat} {u : SX} {v : SY} (I : i_Rel k u v) (hk : k + 5 ≤ 2560) (v1 : Int32) (v2 : Int32) : wpX_revision (fun r => wpY_revision (fun r' => r' = r ∧ i_Rel (k + 5) u v) v v1 v2) u v1 v2 := by
  refine ds_el (Q := fun u v => wpX_revision (fun r => wpY_revision (fun r' => r' = r ∧ i_Rel (k + 5) u v) v v1 v2) u v1 v2) I ?_
  intro m D P G C T Z dc pr vl mr gn lh cb lf kn kc hb lc ll ct st cp vs vw iv vv qa qb J
  have R : i_Rel (k + 5) (nI m, dc, pr, vl, mr, gn, lh, cb, lf, kn, kc, hb, lc, ll, ct, st, cp, vs, vw, iv, vv, qa, qb) (nI m, dc, pr, vl, mr, kn, hb, ct, st) := ds_rel J (by omega)
  obtain ⟨⟨i1, i2, i3, i4⟩, ⟨i5, i6, i7⟩, _, _⟩ := J
  have hm : m ≤ 80 := i1.1
  unfold wpX_revision wpY_revision
  dsimp only
  rcases ds_arg 4 (by omega) v2 with ⟨w, hw, rfl⟩ | h2
  · have n0 : ¬ nI w < 0 := nI_pos (by omega)
    have n3 : nI w ≤ 3 := nI_le (b := 3) (by omega) (by omega)
    rcases ds_arg m (by omega) v1 with ⟨r, hr, rfl⟩ | h1
    · have ir : vp_in (nI r) 80 := ds_in (by omega) (by omega)
      have r0 : ¬ nI r < 0 := nI_pos (by omega)
      have rm : nI r < nI m := nI_lt hr (by omega)
      rw [ds_cl (n := r) (by omega)]
      refine br_f n0 (br_t n3 (ds_x_nr hm hr (br_t rfl ?_)))
      rcases ds_w4 hw with rfl | rfl | rfl | rfl
      · exact br_t rfl ⟨ir, br_f n0 (br_t n3 (br_f r0 (br_t rm (br_f (by decide) (br_t rfl ⟨ir, rfl, R⟩)))))⟩
      · refine br_f (by decide) (br_t rfl ⟨ir, ?_⟩)
        by_cases z : P r = 0
        · have e : pr r = -1 := by rw [(i2 r hr).2, z]; exact ds_pI0
          rw [e]
          exact br_t rfl (br_f n0 (br_t n3 (br_f r0 (br_t rm (br_f (by decide) (br_f (by decide) ⟨ir, br_f (by decide) ⟨rfl, R⟩⟩))))))
        · have pr2 := (i1.2.1 r hr).2.1
          obtain ⟨p, hp⟩ : ∃ p, P r = p + 1 := ⟨P r - 1, by omega⟩
          have e : pr r = nI p := by rw [(i2 r hr).2, hp]; exact ds_pIs p
          rw [e]
          exact br_f (ds_nIn1 (by omega)) ⟨ir, br_f n0 (br_t n3 (br_f r0 (br_t rm (br_f (by decide) (br_f (by decide) ⟨ir, br_t (nI_pos' (by omega)) ⟨ir, rfl, R⟩⟩)))))⟩
      · refine br_f (by decide) (br_f (by decide) (br_t rfl ⟨ir, br_f n0 (br_t n3 (br_f r0 (br_t rm (br_t (by decide) (br_t rfl (ds_y_gen i1 i2 hr ⟨?_, R⟩))))))⟩))
        exact (i3 r hr).symm
      · refine br_f (by decide) (br_f (by decide) (br_f (by decide) ⟨ir, ?_⟩))
        by_cases z : mr r = 0
        · exact br_t z (br_f n0 (br_t n3 (br_f r0 (br_t rm (br_t (by decide) (br_f (by decide) ⟨ir, br_t z ⟨rfl, R⟩⟩))))))
        · exact br_f z (br_f n0 (br_t n3 (br_f r0 (br_t rm (br_t (by decide) (br_f (by decide) ⟨ir, br_f z ⟨rfl, R⟩⟩))))))
    · refine br_f n0 (br_t n3 (ds_x_nrn h1 (br_f ds_10 (br_f n0 (br_t n3 (br_c (fun _ => ⟨rfl, R⟩) (fun z => br_f (h1.elim (fun y => absurd y z) Int32.not_lt.mpr) ⟨rfl, R⟩)))))))
  · have n3 : ¬ v2 < 0 → ¬ v2 ≤ 3 := fun z => h2.elim (fun y => absurd y z) (fun y => Int32.not_le.mpr (ds_23 (N := 3) (by omega) y))
    exact br_c (fun z => br_t z ⟨rfl, R⟩) (fun z => br_f (n3 z) (br_f z (br_f (n3 z) ⟨rfl, R⟩)))
theorem i_vc_knows {k : Nat} {u : SX} {v : SY} (I : i_Rel k u v) (hk : k + 5 ≤ 2560) (v1 : Int32) (v2 : Int32) : wpX_knows (fun r => wpY_knows (fun r' => r' = r ∧ i_Rel (k + 5) u v) v v1 v2) u v1 v2 := by
  refine ds_el (Q := fun u v => wpX_knows (fun r => wpY_knows (fun r' => r' = r ∧ i_Rel (k + 5) u v) v v1 v2) u v1 v2) I ?_
  intro m D P G C T Z dc pr vl mr gn lh cb lf kn kc hb lc ll ct st cp vs vw iv vv qa qb J
  have R : i_Rel (k + 5) (nI m, dc, pr, vl, mr, gn, lh, cb, lf, kn, kc, hb, lc, ll, ct, st, cp, vs, vw, iv, vv, qa, qb) (nI m, dc, pr, vl, mr, kn, hb, ct, st) := ds_rel J (by omega)
  obtain ⟨⟨i1, i2, i3, i4⟩, ⟨i5, i6, i7⟩, _, _⟩ := J
  have hm : m ≤ 80 := i1.1
  unfold wpX_knows wpY_knows
  dsimp only
  rcases ds_arg 3 (by omega) v1 with ⟨n, hn, rfl⟩ | h1
  · rcases ds_arg m (by omega) v2 with ⟨r, hr, rfl⟩ | h2
    · refine ds_x_bs hn (br_t rfl (ds_x_nr hm hr (br_t rfl ?_)))
      rw [ds_80, ds_cl (n := 80 * n + r) (by omega)]
      refine ⟨ds_in (by omega) (by omega), br_c (fun z => ?_) (fun z => ?_)⟩
      · exact ds_y_is hn (br_f ds_10 (br_f (nI_pos (by omega)) (br_f (nI_ge hr (by omega)) (ds_y_kn i5.1 hn (by omega) (br_t z ⟨rfl, R⟩)))))
      · exact ds_y_is hn (br_f ds_10 (br_f (nI_pos (by omega)) (br_f (nI_ge hr (by omega)) (ds_y_kn i5.1 hn (by omega) (br_f z ⟨rfl, R⟩)))))
    · exact ds_x_bs hn (br_t rfl (ds_x_nrn h2 (br_f ds_10 (ds_y_is hn (br_f ds_10 (br_c (fun _ => ⟨rfl, R⟩) (fun z => br_t (h2.elim (fun y => absurd y z) (fun y => y)) ⟨rfl, R⟩)))))))
  · exact ds_x_bsn h1 (br_f ds_10 (ds_y_isn h1 (br_t rfl ⟨rfl, R⟩)))
theorem i_vc_body {k : Nat} {u : SX} {v : SY} (I : i_Rel k u v) (hk : k + 5 ≤ 2560) (v1 : Int32) (v2 : Int32) : wpX_body (fun r => wpY_body (fun r' => r' = r ∧ i_Rel (k + 5) u v) v v1 v2) u v1 v2 := by
  refine ds_el (Q := fun u v => wpX_body (fun r => wpY_body (fun r' => r' = r ∧ i_Rel (k + 5) u v) v v1 v2) u v1 v2) I ?_
  intro m D P G C T Z dc pr vl mr gn lh cb lf kn kc hb lc ll ct st cp vs vw iv vv qa qb J
  have R : i_Rel (k + 5) (nI m, dc, pr, vl, mr, gn, lh, cb, lf, kn, kc, hb, lc, ll, ct, st, cp, vs, vw, iv, vv, qa, qb) (nI m, dc, pr, vl, mr, kn, hb, ct, st) := ds_rel J (by omega)
  obtain ⟨⟨i1, i2, i3, i4⟩, ⟨i5, i6, i7⟩, _, _⟩ := J
  have hm : m ≤ 80 := i1.1
  unfold wpX_body wpY_body
  dsimp only
  rcases ds_arg 3 (by omega) v1 with ⟨n, hn, rfl⟩ | h1
  · rcases ds_arg m (by omega) v2 with ⟨r, hr, rfl⟩ | h2
    · have i : vp_in (nI (80 * n + r)) 240 := ds_in (by omega) (by omega)
      have ir : vp_in (nI r) 80 := ds_in (by omega) (by omega)
      have r0 : ¬ nI r < 0 := nI_pos (by omega)
      have rm : ¬ nI m ≤ nI r := nI_ge hr (by omega)
      rw [ds_80, ds_cl (n := 80 * n + r) (by omega), ds_cl (n := r) (by omega)]
      refine ds_x_bs hn (br_t rfl (ds_x_nr hm hr (br_t rfl ⟨i, br_c (fun z => ?_) (fun z => ⟨i, br_c (fun y => ?_) (fun y => ⟨ir, ?_⟩)⟩)⟩)))
      · exact ds_y_is hn (br_f ds_10 (br_f r0 (br_f rm (ds_y_kn i5.1 hn (by omega) (br_t z ⟨rfl, R⟩)))))
      · exact ds_y_is hn (br_f ds_10 (br_f r0 (br_f rm (ds_y_kn i5.1 hn (by omega) (br_f z ⟨i, br_t y ⟨rfl, R⟩⟩)))))
      · exact ds_y_is hn (br_f ds_10 (br_f r0 (br_f rm (ds_y_kn i5.1 hn (by omega) (br_f z ⟨i, br_f y ⟨ir, rfl, R⟩⟩)))))
    · exact ds_x_bs hn (br_t rfl (ds_x_nrn h2 (br_f ds_10 (ds_y_is hn (br_f ds_10 (br_c (fun _ => ⟨rfl, R⟩) (fun z => br_t (h2.elim (fun y => absurd y z) (fun y => y)) ⟨rfl, R⟩)))))))
  · exact ds_x_bsn h1 (br_f ds_10 (ds_y_isn h1 (br_t rfl ⟨rfl, R⟩)))
theorem i_vc_winner {k : Nat} {u : SX} {v : SY} (I : i_Rel k u v) (hk : k + 5 ≤ 2560) (v1 : Int32) (v2 : Int32) : wpX_winner (fun r => wpY_winner (fun r' => r' = r ∧ i_Rel (k + 5) u v) v v1 v2) u v1 v2 := by
  refine ds_el (Q := fun u v => wpX_winner (fun r => wpY_winner (fun r' => r' = r ∧ i_Rel (k + 5) u v) v v1 v2) u v1 v2) I ?_
  intro m D P G C T Z dc pr vl mr gn lh cb lf kn kc hb lc ll ct st cp vs vw iv vv qa qb J
  have R : i_Rel (k + 5) (nI m, dc, pr, vl, mr, gn, lh, cb, lf, kn, kc, hb, lc, ll, ct, st, cp, vs, vw, iv, vv, qa, qb) (nI m, dc, pr, vl, mr, kn, hb, ct, st) := ds_rel J (by omega)
  obtain ⟨⟨i1, i2, i3, i4⟩, ⟨i5, i6, i7⟩, _, _⟩ := J
  have hm : m ≤ 80 := i1.1
  unfold wpX_winner wpY_winner
  dsimp only
  rcases ds_arg 3 (by omega) v1 with ⟨n, hn, rfl⟩ | h1
  · rcases ds_arg 8 (by omega) v2 with ⟨d, hd, rfl⟩ | h2
    · refine ds_x_bs hn (br_t rfl (ds_x_bd hd (br_t rfl (ds_x_fw i1 hn hd (fun x hx => hx.1) (i7 n d hn hd) (fun w hw => ?_) (fun hno => ?_)))))
      · have hwm := hw.1.1
        refine br_f (ds_nIn1 (by omega)) (ds_y_id hn hd (br_f ds_10 (ds_y_fw i1 i2 i5.1 hn hd (fun x hx => ⟨?_, R⟩) (fun h => absurd hw.1 (h w)))))
        rw [ds_wn_u i1 (fun x hx => hx.1) hx hw]
      · exact br_t rfl (ds_y_id hn hd (br_f ds_10 (ds_y_fw i1 i2 i5.1 hn hd (fun x hx => absurd hx.1 (hno x)) (fun _ => ⟨rfl, R⟩))))
    · exact ds_x_bs hn (br_t rfl (ds_x_bdn h2 (br_f ds_10 (ds_y_idd hn h2 (br_t rfl ⟨rfl, R⟩)))))
  · exact ds_x_bsn h1 (br_f ds_10 (ds_y_idn h1 (br_t rfl ⟨rfl, R⟩)))
theorem i_vc_leaves {k : Nat} {u : SX} {v : SY} (I : i_Rel k u v) (hk : k + 5 ≤ 2560) (v1 : Int32) (v2 : Int32) : wpX_leaves (fun r => wpY_leaves (fun r' => r' = r ∧ i_Rel (k + 5) u v) v v1 v2) u v1 v2 := by
  refine ds_el (Q := fun u v => wpX_leaves (fun r => wpY_leaves (fun r' => r' = r ∧ i_Rel (k + 5) u v) v v1 v2) u v1 v2) I ?_
  intro m D P G C T Z dc pr vl mr gn lh cb lf kn kc hb lc ll ct st cp vs vw iv vv qa qb J
  have R : i_Rel (k + 5) (nI m, dc, pr, vl, mr, gn, lh, cb, lf, kn, kc, hb, lc, ll, ct, st, cp, vs, vw, iv, vv, qa, qb) (nI m, dc, pr, vl, mr, kn, hb, ct, st) := ds_rel J (by omega)
  obtain ⟨⟨i1, i2, i3, i4⟩, ⟨i5, i6, i7⟩, _, _⟩ := J
  have hm : m ≤ 80 := i1.1
  unfold wpX_leaves wpY_leaves
  dsimp only
  rcases ds_arg 3 (by omega) v1 with ⟨n, hn, rfl⟩ | h1
  · rcases ds_arg 8 (by omega) v2 with ⟨d, hd, rfl⟩ | h2
    · obtain ⟨c, L, e1, e2, hSE⟩ := i7 n d hn hd
      have hl := ds_se_len hSE ds_bh_irr (fun x hx => hx.1)
      rw [ds_8, ds_cl (n := 8 * n + d) (by omega), e1]
      refine ds_x_bs hn (br_t rfl (ds_x_bd hd (br_t rfl ⟨ds_in (by omega) (by omega), ds_y_id hn hd (br_f ds_10 (ds_y_cl i1 i2 i5.1 hn hd ⟨?_, R⟩))⟩)))
      rw [← hl]
      exact congrArg nI (ds_cn_c (fun r _ => ⟨fun w => w.1, fun w => ⟨w, fun y => y.1 rfl⟩⟩))
    · exact ds_x_bs hn (br_t rfl (ds_x_bdn h2 (br_f ds_10 (ds_y_idd hn h2 (br_t rfl ⟨rfl, R⟩)))))
  · exact ds_x_bsn h1 (br_f ds_10 (ds_y_idn h1 (br_t rfl ⟨rfl, R⟩)))
theorem i_vc_leaf {k : Nat} {u : SX} {v : SY} (I : i_Rel k u v) (hk : k + 5 ≤ 2560) (v1 : Int32) (v2 : Int32) (v3 : Int32) : wpX_leaf (fun r => wpY_leaf (fun r' => r' = r ∧ i_Rel (k + 5) u v) v v1 v2 v3) u v1 v2 v3 := by
  refine ds_el (Q := fun u v => wpX_leaf (fun r => wpY_leaf (fun r' => r' = r ∧ i_Rel (k + 5) u v) v v1 v2 v3) u v1 v2 v3) I ?_
  intro m D P G C T Z dc pr vl mr gn lh cb lf kn kc hb lc ll ct st cp vs vw iv vv qa qb J
  have R : i_Rel (k + 5) (nI m, dc, pr, vl, mr, gn, lh, cb, lf, kn, kc, hb, lc, ll, ct, st, cp, vs, vw, iv, vv, qa, qb) (nI m, dc, pr, vl, mr, kn, hb, ct, st) := ds_rel J (by omega)
  obtain ⟨⟨i1, i2, i3, i4⟩, ⟨i5, i6, i7⟩, _, _⟩ := J
  have hm : m ≤ 80 := i1.1
  unfold wpX_leaf wpY_leaf
  dsimp only
  rcases ds_arg 3 (by omega) v1 with ⟨n, hn, rfl⟩ | h1
  · rcases ds_arg 8 (by omega) v2 with ⟨d, hd, rfl⟩ | h2
    · obtain ⟨c, L, e1, e2, hSE⟩ := i7 n d hn hd
      have hc : c ≤ m := ds_se_le hSE ds_bh_irr (fun x hx => hx.1)
      rcases ds_arg c (by omega) v3 with ⟨i, hi, rfl⟩ | h3
      · refine ds_x_bs hn (br_t rfl (ds_x_bd hd (br_t rfl (ds_x_nl hn hd (by omega) e1 hi (br_t rfl (ds_x_la hn hd (by omega) ?_))))))
        rw [e2 i hi]
        exact ds_y_id hn hd (br_f ds_10 (ds_y_hit i1 i2 i5.1 hn hd hSE hi ⟨rfl, R⟩))
      · exact ds_x_bs hn (br_t rfl (ds_x_bd hd (br_t rfl (ds_x_nln hn hd e1 h3 (br_f ds_10 (ds_y_id hn hd (br_f ds_10 (ds_y_miss i1 i2 i5.1 hn hd hSE h3 ⟨rfl, R⟩))))))))
    · exact ds_x_bs hn (br_t rfl (ds_x_bdn h2 (br_f ds_10 (ds_y_idd hn h2 (br_t rfl ⟨rfl, R⟩)))))
  · exact ds_x_bsn h1 (br_f ds_10 (ds_y_idn h1 (br_t rfl ⟨rfl, R⟩)))
theorem i_vc_count {k : Nat} {u : SX} {v : SY} (I : i_Rel k u v) (hk : k + 5 ≤ 2560) (v1 : Int32) : wpX_count (fun r => wpY_count (fun r' => r' = r ∧ i_Rel (k + 5) u v) v v1) u v1 := by
  refine ds_el (Q := fun u v => wpX_count (fun r => wpY_count (fun r' => r' = r ∧ i_Rel (k + 5) u v) v v1) u v1) I ?_
  intro m D P G C T Z dc pr vl mr gn lh cb lf kn kc hb lc ll ct st cp vs vw iv vv qa qb J
  have R : i_Rel (k + 5) (nI m, dc, pr, vl, mr, gn, lh, cb, lf, kn, kc, hb, lc, ll, ct, st, cp, vs, vw, iv, vv, qa, qb) (nI m, dc, pr, vl, mr, kn, hb, ct, st) := ds_rel J (by omega)
  unfold wpX_count wpY_count
  dsimp only
  rcases ds_arg 3 (by omega) v1 with ⟨n, hn, rfl⟩ | h1
  · have i : vp_in (nI n) 3 := ds_in hn (by omega)
    exact ds_x_bs hn (br_t rfl ⟨i, ds_y_is hn (br_f ds_10 ⟨i, rfl, R⟩)⟩)
  · exact ds_x_bsn h1 (br_f ds_10 (ds_y_isn h1 (br_t rfl ⟨rfl, R⟩)))
theorem i_vc_stamp {k : Nat} {u : SX} {v : SY} (I : i_Rel k u v) (hk : k + 5 ≤ 2560) (v1 : Int32) (v2 : Int32) : wpX_stamp (fun r => wpY_stamp (fun r' => r' = r ∧ i_Rel (k + 5) u v) v v1 v2) u v1 v2 := by
  refine ds_el (Q := fun u v => wpX_stamp (fun r => wpY_stamp (fun r' => r' = r ∧ i_Rel (k + 5) u v) v v1 v2) u v1 v2) I ?_
  intro m D P G C T Z dc pr vl mr gn lh cb lf kn kc hb lc ll ct st cp vs vw iv vv qa qb J
  have R : i_Rel (k + 5) (nI m, dc, pr, vl, mr, gn, lh, cb, lf, kn, kc, hb, lc, ll, ct, st, cp, vs, vw, iv, vv, qa, qb) (nI m, dc, pr, vl, mr, kn, hb, ct, st) := ds_rel J (by omega)
  unfold wpX_stamp wpY_stamp
  dsimp only
  rcases ds_arg 3 (by omega) v1 with ⟨n, hn, rfl⟩ | h1
  · rcases ds_arg 8 (by omega) v2 with ⟨d, hd, rfl⟩ | h2
    · have i : vp_in (nI (8 * n + d)) 24 := ds_in (by omega) (by omega)
      rw [ds_8]
      exact ds_x_bs hn (br_t rfl (ds_x_bd hd (br_t rfl ⟨i, ds_y_id hn hd (br_f ds_10 ⟨i, rfl, R⟩)⟩)))
    · exact ds_x_bs hn (br_t rfl (ds_x_bdn h2 (br_f ds_10 (ds_y_idd hn h2 (br_t rfl ⟨rfl, R⟩)))))
  · exact ds_x_bsn h1 (br_f ds_10 (ds_y_idn h1 (br_t rfl ⟨rfl, R⟩)))
end
section
/-! questions on views, conflicts, agreement -/
section
variable {m : Nat} {D P G : Nat → Nat} {dc pr vl mr kn hb ct st iv vv : Nat → Int32}
theorem ds_y_ex (hT : ds_TI m D P G vl mr) (hR : ds_rp m D P dc pr) (hk : ds_bo kn) {n d : Nat} (hn : n < 3) (hd : d < 8) {i v : Int32} (hi : i = 0 ∨ i = 1) (hV : ds_VW (ds_lf m D P kn n d) mr (ds_bh P G vl mr) vl i v) {post : Int32 → Prop} (hp : post i) : wpY_exists post (nI m, dc, pr, vl, mr, kn, hb, ct, st) (nI n) (nI d) := by
  have hm : m ≤ 80 := hT.1
  unfold wpY_exists
  dsimp only
  refine ds_y_fw hT hR hk hn hd (fun w hw => ?_) (fun hno => ?_)
  · have hwm := hw.1.1
    refine br_f (ds_nNO (by omega)) ⟨ds_in (by omega) (by omega), ?_⟩
    rw [ds_cl (n := w) (by omega)]
    by_cases z : mr w = 0
    · refine br_t z ?_
      have e : i ≠ 0 := hV.1.mpr ⟨w, hw, z⟩
      rw [hi.resolve_left e] at hp; exact hp
    · refine br_f z ?_
      have e : i = 0 := by
        by_cases y : i = 0
        · exact y
        · obtain ⟨x, hx, hx2⟩ := hV.1.mp y
          rw [ds_wn_u hT (fun x hx => hx.1) hx hw] at hx2
          exact absurd hx2 z
      rw [e] at hp; exact hp
  · refine br_t rfl ?_
    have e : i = 0 := by
      by_cases y : i = 0
      · exact y
      · obtain ⟨x, hx, _⟩ := hV.1.mp y
        exact absurd hx.1 (hno x)
    rw [e] at hp; exact hp
theorem ds_y_wv (hT : ds_TI m D P G vl mr) (hR : ds_rp m D P dc pr) (hk : ds_bo kn) {n d : Nat} (hn : n < 3) (hd : d < 8) {i v : Int32} (hi : i ≠ 0) (hV : ds_VW (ds_lf m D P kn n d) mr (ds_bh P G vl mr) vl i v) {post : Int32 → Prop} (hp : ∀ w, w < m → vl w = v → post (nI w)) : wpY_findWinner post (nI m, dc, pr, vl, mr, kn, hb, ct, st) (nI n) (nI d) := by
  obtain ⟨x, hx, hx2⟩ := hV.1.mp hi
  refine ds_y_fw hT hR hk hn hd (fun w hw => hp w hw.1.1 ?_) (fun hno => absurd hx.1 (hno x))
  rw [ds_wn_u hT (fun x hx => hx.1) hw hx]
  exact (hV.2 x hx hx2).symm
theorem ds_y_size (hT : ds_TI m D P G vl mr) (hR : ds_rp m D P dc pr) (hk : ds_bo kn) (hb2 : ds_bo iv) (hV : ds_VA m D P G vl mr kn iv vv) {n : Nat} (hn : n < 3) {post : Int32 → Prop} (hp : post (nI (ds_cn (fun d => iv (8 * n + d) ≠ 0) 8))) : ∃ f, wY_size_15 post (nI n) (nI m) dc pr vl mr kn hb ct st f 0 0 := by
  have main : ∀ (f s : Nat), s ≤ 8 → 8 - s < f → wY_size_15 post (nI n) (nI m) dc pr vl mr kn hb ct st f (nI (ds_cn (fun d => iv (8 * n + d) ≠ 0) s)) (nI s) := by
    intro f
    induction f with
    | zero => intro s h1 h2; omega
    | succ f ih =>
      intro s h1 h2
      rw [wY_size_15]; dsimp only
      by_cases z : 8 ≤ s
      · have e : s = 8 := by omega
        rw [e]
        exact br_t (Int32.le_refl _) hp
      · have k := ih (s + 1) (by omega) (by omega)
        refine br_f (nI_ge (b := 8) (by omega) (by omega)) (ds_y_ex hT hR hk hn (by omega) (hb2 _) (hV n s hn (by omega)) (br_c (fun y => ?_) (fun y => ?_)))
        · rw [ds_cn_f (fun w => w y)] at k
          exact nm_r (nI_1 s) k
        · rw [ds_cn_t y] at k
          exact nm_r (nI_1 _) (nm_r (nI_1 s) k)
  exact ⟨9, main 9 0 (by omega) (by omega)⟩
theorem ds_y_below (hT : ds_TI m D P G vl mr) (hR : ds_rp m D P dc pr) (hk : ds_bo kn) (hb2 : ds_bo iv) (hV : ds_VA m D P G vl mr kn iv vv) {n : Nat} (hn : n < 3) {x : Int32} {post : Int32 → Prop} (hp : post (nI (ds_cn (fun d => iv (8 * n + d) ≠ 0 ∧ vv (8 * n + d) < x) 8))) : ∃ f, wY_below_16 post (nI n) x (nI m) dc pr vl mr kn hb ct st f 0 0 := by
  have hm : m ≤ 80 := hT.1
  have main : ∀ (f s : Nat), s ≤ 8 → 8 - s < f → wY_below_16 post (nI n) x (nI m) dc pr vl mr kn hb ct st f (nI (ds_cn (fun d => iv (8 * n + d) ≠ 0 ∧ vv (8 * n + d) < x) s)) (nI s) := by
    intro f
    induction f with
    | zero => intro s h1 h2; omega
    | succ f ih =>
      intro s h1 h2
      rw [wY_below_16]; dsimp only
      by_cases z : 8 ≤ s
      · have e : s = 8 := by omega
        rw [e]
        exact br_t (Int32.le_refl _) hp
      · have k := ih (s + 1) (by omega) (by omega)
        refine br_f (nI_ge (b := 8) (by omega) (by omega)) (ds_y_ex hT hR hk hn (by omega) (hb2 _) (hV n s hn (by omega)) (br_c (fun y => ?_) (fun y => ds_y_wv hT hR hk hn (by omega) y (hV n s hn (by omega)) (fun w hw hv => ⟨ds_in (by omega) (by omega), ?_⟩))))
        · rw [ds_cn_f (fun w => w.1 y)] at k
          exact nm_r (nI_1 s) k
        · rw [ds_cl (n := w) (by omega), hv]
          refine br_c (fun q => ?_) (fun q => ?_)
          · rw [ds_cn_f (fun w => Int32.not_lt.mpr q w.2)] at k
            exact nm_r (nI_1 s) k
          · rw [ds_cn_t ⟨y, Int32.not_le.mp q⟩] at k
            exact nm_r (nI_1 _) (nm_r (nI_1 s) k)
  exact ⟨9, main 9 0 (by omega) (by omega)⟩
noncomputable def ds_ad (a b : Int32) : Int32 := a + b
noncomputable def ds_g (iv vv : Nat → Int32) (n d : Nat) : Int32 := if iv (8 * n + d) = 0 then 0 else vv (8 * n + d)
theorem ds_y_total (hT : ds_TI m D P G vl mr) (hR : ds_rp m D P dc pr) (hk : ds_bo kn) (hb2 : ds_bo iv) (hV : ds_VA m D P G vl mr kn iv vv) {n : Nat} (hn : n < 3) {post : Int32 → Prop} (hp : post (ds_fo ds_ad 0 (ds_g iv vv n) 8)) : ∃ f, wY_total_15 post (nI n) (nI m) dc pr vl mr kn hb ct st f 0 0 := by
  have hm : m ≤ 80 := hT.1
  have main : ∀ (f s : Nat), s ≤ 8 → 8 - s < f → wY_total_15 post (nI n) (nI m) dc pr vl mr kn hb ct st f (ds_fo ds_ad 0 (ds_g iv vv n) s) (nI s) := by
    intro f
    induction f with
    | zero => intro s h1 h2; omega
    | succ f ih =>
      intro s h1 h2
      rw [wY_total_15]; dsimp only
      by_cases z : 8 ≤ s
      · have e : s = 8 := by omega
        rw [e]
        exact br_t (Int32.le_refl _) hp
      · have k := ih (s + 1) (by omega) (by omega)
        have k2 : ds_fo ds_ad 0 (ds_g iv vv n) (s + 1) = ds_fo ds_ad 0 (ds_g iv vv n) s + ds_g iv vv n s := rfl
        refine br_f (nI_ge (b := 8) (by omega) (by omega)) (ds_y_ex hT hR hk hn (by omega) (hb2 _) (hV n s hn (by omega)) (br_c (fun y => ?_) (fun y => ds_y_wv hT hR hk hn (by omega) y (hV n s hn (by omega)) (fun w hw hv => ⟨ds_in (by omega) (by omega), ?_⟩))))
        · have e : ds_g iv vv n s = 0 := if_pos y
          rw [k2, e, Int32.add_zero] at k
          exact nm_r (nI_1 s) k
        · have e : ds_g iv vv n s = vv (8 * n + s) := if_neg y
          rw [k2, e] at k
          rw [ds_cl (n := w) (by omega), hv]
          exact nm_e (nm_r (nI_1 s) k)
  exact ⟨9, main 9 0 (by omega) (by omega)⟩
theorem ds_y_v108 {mk : Int32} {post J : Int32 → Prop} {J2 : Int32 → Int32 → Prop} {x1 x2 x3 x4 x5 : Int32} {s : Nat} (h : J2 x5 (nI (s + 1))) : wY_viewed_108 post J J2 x1 x2 x3 x4 x5 (nI s) mk dc pr vl mr kn hb ct st := by
  unfold wY_viewed_108 wY_viewed_109
  exact br_t rfl (nm_r (nI_1 s) h)
theorem ds_y_v104 {mk : Int32} {post J : Int32 → Prop} {J2 : Int32 → Int32 → Prop} {x1 x2 x3 x4 : Int32} {c s : Nat} (h : J2 (nI (c + 1)) (nI (s + 1))) : wY_viewed_104 post J J2 x1 x2 x3 x4 (nI c) (nI s) mk dc pr vl mr kn hb ct st := by
  unfold wY_viewed_104 wY_viewed_109
  exact br_f ds_10 (nm_r (nI_1 c) (nm_r (nI_1 s) h))
theorem ds_y_v47 (hT : ds_TI m D P G vl mr) (hR : ds_rp m D P dc pr) (hk : ds_bo kn) (hb2 : ds_bo iv) (hV : ds_VA m D P G vl mr kn iv vv) {n d : Nat} (hn : n < 3) (hd : d < 8) {x : Int32} {post J : Int32 → Prop} (hp : nI (ds_cn (fun e => iv (8 * n + e) ≠ 0 ∧ ds_vlt vv n e d) 8) = x → post (nI d)) (hj : nI (ds_cn (fun e => iv (8 * n + e) ≠ 0 ∧ ds_vlt vv n e d) 8) ≠ x → J (nI (d + 1))) : ∃ f, wY_viewed_47 post J (nI n) x (nI d) (vv (8 * n + d)) (nI m) dc pr vl mr kn hb ct st f 0 0 := by
  have hm : m ≤ 80 := hT.1
  have main : ∀ (f s : Nat), s ≤ 8 → 8 - s < f → wY_viewed_47 post J (nI n) x (nI d) (vv (8 * n + d)) (nI m) dc pr vl mr kn hb ct st f (nI (ds_cn (fun e => iv (8 * n + e) ≠ 0 ∧ ds_vlt vv n e d) s)) (nI s) := by
    intro f
    induction f with
    | zero => intro s h1 h2; omega
    | succ f ih =>
      intro s h1 h2
      rw [wY_viewed_47]; dsimp only
      by_cases z : 8 ≤ s
      · have e : s = 8 := by omega
        rw [e]
        exact br_t (Int32.le_refl _) (br_c hp (fun w => nm_r (nI_1 d) (hj w)))
      · have k := ih (s + 1) (by omega) (by omega)
        have yes : (iv (8 * n + s) ≠ 0 ∧ ds_vlt vv n s d) → wY_viewed_104 post J (wY_viewed_47 post J (nI n) x (nI d) (vv (8 * n + d)) (nI m) dc pr vl mr kn hb ct st f) (nI n) x (nI d) (vv (8 * n + d)) (nI (ds_cn (fun e => iv (8 * n + e) ≠ 0 ∧ ds_vlt vv n e d) s)) (nI s) (nI m) dc pr vl mr kn hb ct st := by
          intro w
          rw [ds_cn_t w] at k
          exact ds_y_v104 k
        have no : ¬ (iv (8 * n + s) ≠ 0 ∧ ds_vlt vv n s d) → wY_viewed_108 post J (wY_viewed_47 post J (nI n) x (nI d) (vv (8 * n + d)) (nI m) dc pr vl mr kn hb ct st f) (nI n) x (nI d) (vv (8 * n + d)) (nI (ds_cn (fun e => iv (8 * n + e) ≠ 0 ∧ ds_vlt vv n e d) s)) (nI s) (nI m) dc pr vl mr kn hb ct st := by
          intro w
          rw [ds_cn_f w] at k
          exact ds_y_v108 k
        refine br_f (nI_ge (b := 8) (by omega) (by omega)) (ds_y_ex hT hR hk hn (by omega) (hb2 _) (hV n s hn (by omega)) (br_c (fun y => no (fun w => w.1 y)) (fun y => ds_y_wv hT hR hk hn (by omega) y (hV n s hn (by omega)) (fun w hw hv => ⟨ds_in (by omega) (by omega), ?_⟩))))
        rw [ds_cl (n := w) (by omega), hv]
        refine br_c (fun q => yes ⟨y, Or.inl q⟩) (fun q => ds_y_wv hT hR hk hn (by omega) y (hV n s hn (by omega)) (fun w2 hw2 hv2 => ⟨ds_in (by omega) (by omega), ?_⟩))
        rw [ds_cl (n := w2) (by omega), hv2]
        refine br_c (fun q2 => ?_) (fun q2 => no (fun w => w.2.elim q (fun u => q2 u.1)))
        by_cases t : s < d
        · exact br_f (nI_ge t (by omega)) (yes ⟨y, Or.inr ⟨q2, t⟩⟩)
        · exact br_t (nI_le (by omega) (by omega)) (no (fun w => w.2.elim q (fun u => t u.2)))
  exact ⟨9, main 9 0 (by omega) (by omega)⟩
theorem ds_y_viewed (hT : ds_TI m D P G vl mr) (hR : ds_rp m D P dc pr) (hk : ds_bo kn) (hb2 : ds_bo iv) (hV : ds_VA m D P G vl mr kn iv vv) {n : Nat} (hn : n < 3) {x : Int32} {post : Int32 → Prop} (h1 : ∀ d, d < 8 → iv (8 * n + d) ≠ 0 → nI (ds_cn (fun e => iv (8 * n + e) ≠ 0 ∧ ds_vlt vv n e d) 8) = x → post (nI d)) (h2 : (∀ d, d < 8 → iv (8 * n + d) ≠ 0 → nI (ds_cn (fun e => iv (8 * n + e) ≠ 0 ∧ ds_vlt vv n e d) 8) ≠ x) → post (-1000000003)) : ∃ f, wY_viewed_13 post (nI n) x (nI m) dc pr vl mr kn hb ct st f 0 := by
  have hm : m ≤ 80 := hT.1
  have main : ∀ (f s : Nat), s ≤ 8 → 8 - s < f → (∀ d, d < s → iv (8 * n + d) ≠ 0 → nI (ds_cn (fun e => iv (8 * n + e) ≠ 0 ∧ ds_vlt vv n e d) 8) ≠ x) → wY_viewed_13 post (nI n) x (nI m) dc pr vl mr kn hb ct st f (nI s) := by
    intro f
    induction f with
    | zero => intro s h3 h4; omega
    | succ f ih =>
      intro s h3 h4 h5
      rw [wY_viewed_13]; dsimp only
      by_cases z : 8 ≤ s
      · exact br_t (nI_le (a := 8) z (by omega)) (h2 (fun d hd => h5 d (by omega)))
      · refine br_f (nI_ge (b := 8) (by omega) (by omega)) (ds_y_ex hT hR hk hn (by omega) (hb2 _) (hV n s hn (by omega)) (br_c (fun y => nm_r (nI_1 s) (ih (s + 1) (by omega) (by omega) (fun d hd q => ?_))) (fun y => ds_y_wv hT hR hk hn (by omega) y (hV n s hn (by omega)) (fun w hw hv => ⟨ds_in (by omega) (by omega), nm_r (e' := vv (8 * n + s)) ?_ (ds_y_v47 hT hR hk hb2 hV hn (by omega) (h1 s (by omega) y) (fun t => ih (s + 1) (by omega) (by omega) (fun d hd q => ?_)))⟩))))
        · by_cases e : d = s
          · rw [e] at q; exact absurd y q
          · exact h5 d (by omega) q
        · rw [ds_cl (n := w) (by omega), hv]
        · by_cases e : d = s
          · rw [e]; exact t
          · exact h5 d (by omega) q
  exact ⟨9, main 9 0 (by omega) (by omega) (fun d hd => by omega)⟩
end
theorem i_vc_size {k : Nat} {u : SX} {v : SY} (I : i_Rel k u v) (hk : k + 5 ≤ 2560) (v1 : Int32) : wpX_size (fun r => wpY_size (fun r' => r' = r ∧ i_Rel (k + 5) u v) v v1) u v1 := by
  refine ds_el (Q := fun u v => wpX_size (fun r => wpY_size (fun r' => r' = r ∧ i_Rel (k + 5) u v) v v1) u v1) I ?_
  intro m D P G C T Z dc pr vl mr gn lh cb lf kn kc hb lc ll ct st cp vs vw iv vv qa qb J
  have R : i_Rel (k + 5) (nI m, dc, pr, vl, mr, gn, lh, cb, lf, kn, kc, hb, lc, ll, ct, st, cp, vs, vw, iv, vv, qa, qb) (nI m, dc, pr, vl, mr, kn, hb, ct, st) := ds_rel J (by omega)
  obtain ⟨⟨i1, i2, i3, i4⟩, ⟨i5, i6, i7⟩, ⟨i8, i9, i10⟩, _⟩ := J
  unfold wpX_size wpY_size
  dsimp only
  rcases ds_arg 3 (by omega) v1 with ⟨n, hn, rfl⟩ | h1
  · obtain ⟨c, L, e1, e2, hSE⟩ := i9 n hn
    have hl := ds_se_len hSE ds_vlt_irr (fun x hx => hx.1)
    rw [ds_cl (n := n) (by omega), e1]
    refine ds_x_bs hn (br_t rfl ⟨ds_in hn (by omega), ds_y_is hn (br_f ds_10 (ds_y_size i1 i2 i5.1 i8 i10 hn ⟨?_, R⟩))⟩)
    rw [← hl]
    exact congrArg nI (ds_cn_c (fun r hr => ⟨fun w => ⟨hr, w⟩, fun w => w.2⟩))
  · exact ds_x_bsn h1 (br_f ds_10 (ds_y_isn h1 (br_t rfl ⟨rfl, R⟩)))
theorem i_vc_viewed {k : Nat} {u : SX} {v : SY} (I : i_Rel k u v) (hk : k + 5 ≤ 2560) (v1 : Int32) (v2 : Int32) : wpX_viewed (fun r => wpY_viewed (fun r' => r' = r ∧ i_Rel (k + 5) u v) v v1 v2) u v1 v2 := by
  refine ds_el (Q := fun u v => wpX_viewed (fun r => wpY_viewed (fun r' => r' = r ∧ i_Rel (k + 5) u v) v v1 v2) u v1 v2) I ?_
  intro m D P G C T Z dc pr vl mr gn lh cb lf kn kc hb lc ll ct st cp vs vw iv vv qa qb J
  have R : i_Rel (k + 5) (nI m, dc, pr, vl, mr, gn, lh, cb, lf, kn, kc, hb, lc, ll, ct, st, cp, vs, vw, iv, vv, qa, qb) (nI m, dc, pr, vl, mr, kn, hb, ct, st) := ds_rel J (by omega)
  obtain ⟨⟨i1, i2, i3, i4⟩, ⟨i5, i6, i7⟩, ⟨i8, i9, i10⟩, _⟩ := J
  unfold wpX_viewed wpY_viewed
  dsimp only
  rcases ds_arg 3 (by omega) v1 with ⟨n, hn, rfl⟩ | h1
  · obtain ⟨c, L, e1, e2, hSE⟩ := i9 n hn
    have hc : c ≤ 8 := ds_se_le hSE ds_vlt_irr (fun x hx => hx.1)
    have rank : ∀ j, j < c → ds_cn (fun e => iv (8 * n + e) ≠ 0 ∧ ds_vlt vv n e (L j)) 8 = j := by
      intro j hj
      rw [← ds_se_rank hSE ds_vlt_irr (fun a b _ _ w => ds_vlt_as w) (fun x hx => hx.1) hj (N := 8)]
      rw [ds_se_rank hSE ds_vlt_irr (fun a b _ _ w => ds_vlt_as w) (fun x hx => hx.1) hj (N := 8)]
      have := ds_se_rank hSE ds_vlt_irr (fun a b _ _ w => ds_vlt_as w) (fun x hx => hx.1) hj (N := 8)
      refine Eq.trans (ds_cn_c (fun e he => ⟨fun w => ⟨⟨he, w.1⟩, w.2⟩, fun w => ⟨w.1.2, w.2⟩⟩)) this
    rw [ds_cl (n := n) (by omega), e1]
    have i3 : vp_in (nI n) 3 := ds_in hn (by omega)
    have miss : (v2 < 0 ∨ nI c ≤ v2) → ∃ f, wY_viewed_13 (fun r' => r' = -1000000003 ∧ i_Rel (k + 5) (nI m, dc, pr, vl, mr, gn, lh, cb, lf, kn, kc, hb, lc, ll, ct, st, cp, vs, vw, iv, vv, qa, qb) (nI m, dc, pr, vl, mr, kn, hb, ct, st)) (nI n) v2 (nI m) dc pr vl mr kn hb ct st f 0 := by
      intro h2
      refine ds_y_viewed i1 i2 i5.1 i8 i10 hn (fun d hd h3 h4 => ?_) (fun _ => ⟨rfl, R⟩)
      obtain ⟨j, hj, rfl⟩ := hSE.2.1 d ⟨hd, h3⟩
      rw [rank j hj] at h4
      exfalso
      rcases h2 with h2 | h2
      · rw [← h4] at h2; exact nI_pos (by omega) h2
      · rw [← h4] at h2; exact nI_ge hj (by omega) h2
    refine ds_x_bs hn (br_t rfl ?_)
    rcases ds_arg c (by omega) v2 with ⟨i, hi, rfl⟩ | h2
    · rw [ds_8, ds_cl (n := 8 * n + i) (by omega), e2 i hi]
      refine br_f (nI_pos (by omega)) ⟨i3, br_t (nI_lt hi (by omega)) ⟨ds_in (by omega) (by omega), ds_y_is hn (br_f ds_10 (ds_y_viewed i1 i2 i5.1 i8 i10 hn (fun d hd h3 h4 => ?_) (fun h => ?_)))⟩⟩
      · obtain ⟨j, hj, rfl⟩ := hSE.2.1 d ⟨hd, h3⟩
        rw [rank j hj, nI_eq (by omega) (by omega)] at h4
        rw [h4]; exact ⟨rfl, R⟩
      · have s := hSE.1 i hi
        exact absurd (by rw [rank i hi]) (h (L i) s.1 s.2)
    · exact br_c (fun z => ds_y_is hn (br_f ds_10 (miss h2))) (fun z => ⟨i3, br_f (h2.elim (fun y => absurd y z) Int32.not_lt.mpr) (ds_y_is hn (br_f ds_10 (miss h2)))⟩)
  · exact ds_x_bsn h1 (br_f ds_10 (ds_y_isn h1 (br_t rfl ⟨rfl, R⟩)))
theorem i_vc_below {k : Nat} {u : SX} {v : SY} (I : i_Rel k u v) (hk : k + 5 ≤ 2560) (v1 : Int32) (v2 : Int32) : wpX_below (fun r => wpY_below (fun r' => r' = r ∧ i_Rel (k + 5) u v) v v1 v2) u v1 v2 := by
  refine ds_el (Q := fun u v => wpX_below (fun r => wpY_below (fun r' => r' = r ∧ i_Rel (k + 5) u v) v v1 v2) u v1 v2) I ?_
  intro m D P G C T Z dc pr vl mr gn lh cb lf kn kc hb lc ll ct st cp vs vw iv vv qa qb J
  have R : i_Rel (k + 5) (nI m, dc, pr, vl, mr, gn, lh, cb, lf, kn, kc, hb, lc, ll, ct, st, cp, vs, vw, iv, vv, qa, qb) (nI m, dc, pr, vl, mr, kn, hb, ct, st) := ds_rel J (by omega)
  obtain ⟨⟨i1, i2, i3, i4⟩, ⟨i5, i6, i7⟩, ⟨i8, i9, i10⟩, _⟩ := J
  unfold wpX_below wpY_below
  dsimp only
  rcases ds_arg 3 (by omega) v1 with ⟨n, hn, rfl⟩ | h1
  · obtain ⟨c, L, e1, e2, hSE⟩ := i9 n hn
    have hc : c ≤ 8 := ds_se_le hSE ds_vlt_irr (fun x hx => hx.1)
    have Lm : ∀ i, i < c → L i < 8 := fun i hi => (hSE.1 i hi).1
    have mono : ∀ i j, i < j → j < c → vv (8 * n + L i) ≤ vv (8 * n + L j) := by
      intro i j hij hj
      rcases hSE.2.2 i j hij hj with w | w
      · exact Int32.le_of_lt w
      · rw [w.1]; exact Int32.le_refl _
    rw [ds_cl (n := n) (by omega), e1]
    -- the search by halves
    have main : ∀ (f lo hi i : Nat), lo ≤ hi → hi ≤ c → 4 ≤ f + i → f ≤ 4 → i ≤ 4 → f + i = 4 → hi - lo ≤ (if f = 4 then 8 else if f = 3 then 4 else if f = 2 then 2 else if f = 1 then 1 else 0) → (∀ t, t < lo → vv (8 * n + L t) < v2) → (∀ t, hi ≤ t → t < c → ¬ vv (8 * n + L t) < v2) → wX_below_24 (fun r => wpY_isStore (fun r_1 => (r_1 = 0 → (fun r' => r' = r ∧ i_Rel (k + 5) (nI m, dc, pr, vl, mr, gn, lh, cb, lf, kn, kc, hb, lc, ll, ct, st, cp, vs, vw, iv, vv, qa, qb) (nI m, dc, pr, vl, mr, kn, hb, ct, st)) (-1000000001)) ∧ (¬ r_1 = 0 → ∃ n16, wY_below_16 (fun r' => r' = r ∧ i_Rel (k + 5) (nI m, dc, pr, vl, mr, gn, lh, cb, lf, kn, kc, hb, lc, ll, ct, st, cp, vs, vw, iv, vv, qa, qb) (nI m, dc, pr, vl, mr, kn, hb, ct, st)) (nI n) v2 (nI m) dc pr vl mr kn hb ct st n16 0 0)) (nI m, dc, pr, vl, mr, kn, hb, ct, st) (nI n)) (nI n) v2 (nI m) dc pr vl mr gn lh cb lf kn kc hb lc ll ct st cp vs vw iv vv qa qb (f + 1) (nI lo) (nI hi) (nI i) := by
      have fin : ∀ lo, lo ≤ c → (∀ t, t < lo → vv (8 * n + L t) < v2) → (∀ t, lo ≤ t → t < c → ¬ vv (8 * n + L t) < v2) → wpY_isStore (fun r_1 => (r_1 = 0 → (fun r' => r' = nI lo ∧ i_Rel (k + 5) (nI m, dc, pr, vl, mr, gn, lh, cb, lf, kn, kc, hb, lc, ll, ct, st, cp, vs, vw, iv, vv, qa, qb) (nI m, dc, pr, vl, mr, kn, hb, ct, st)) (-1000000001)) ∧ (¬ r_1 = 0 → ∃ n16, wY_below_16 (fun r' => r' = nI lo ∧ i_Rel (k + 5) (nI m, dc, pr, vl, mr, gn, lh, cb, lf, kn, kc, hb, lc, ll, ct, st, cp, vs, vw, iv, vv, qa, qb) (nI m, dc, pr, vl, mr, kn, hb, ct, st)) (nI n) v2 (nI m) dc pr vl mr kn hb ct st n16 0 0)) (nI m, dc, pr, vl, mr, kn, hb, ct, st) (nI n) := by
        intro lo hlo h3 h4
        refine ds_y_is hn (br_f ds_10 (ds_y_below i1 i2 i5.1 i8 i10 hn ⟨congrArg nI ?_, R⟩))
        have k1 := ds_se_cn (Q := fun d => vv (8 * n + d) < v2) (N := 8) hSE ds_vlt_irr (fun x hx => hx.1)
        have k2 := ds_cn_lt (Q := fun i => vv (8 * n + L i) < v2) (k := lo) c hlo (fun t ht => ⟨fun w => by
          by_cases y : t < lo
          · exact y
          · exact absurd w (h4 t (by omega) ht), fun w => h3 t w⟩)
        rw [k2] at k1
        exact Eq.trans (ds_cn_c (fun e he => ⟨fun w => ⟨⟨he, w.1⟩, w.2⟩, fun w => ⟨w.1.2, w.2⟩⟩)) k1
      intro f
      induction f with
      | zero =>
        intro lo hi i g1 g2 g3 g4 g5 g6 g7 g8 g9
        have e : lo = hi := by
          simp at g7
          omega
        rw [wX_below_24]; dsimp only
        exact br_f (nI_ge (b := 5) (by omega) (by omega)) (br_t (nI_le (by omega) (by omega)) (fin lo (by omega) g8 (fun t h5 h6 => g9 t (by omega) h6)))
      | succ f ih =>
        intro lo hi i g1 g2 g3 g4 g5 g6 g7 g8 g9
        rw [wX_below_24]; dsimp only
        refine br_f (nI_ge (b := 5) (by omega) (by omega)) ?_
        by_cases z : hi ≤ lo
        · exact br_t (nI_le z (by omega)) (fin lo (by omega) g8 (fun t h5 h6 => g9 t (by omega) h6))
        · have mid : nI lo + nI hi >>> ((1 : Int32) &&& 31) = nI lo + nI hi >>> ((1 : Int32) &&& 31) := rfl
          have e : (nI lo + nI hi) >>> ((1 : Int32) &&& 31) = nI ((lo + hi) / 2) := by
            rw [nI_add, pk_shrN (by omega) _ 1 (by decide)]
          have lm := Lm ((lo + hi) / 2) (by omega)
          refine br_f (nI_ge (by omega) (by omega)) (nm_r e ?_)
          rw [ds_8, ds_cl (n := 8 * n + (lo + hi) / 2) (by omega), e2 ((lo + hi) / 2) (by omega), ds_8, ds_cl (n := 8 * n + L ((lo + hi) / 2)) (by omega)]
          refine ⟨ds_in (by omega) (by omega), ds_in (by omega) (by omega), br_c (fun q => nm_r (nI_1 i) (ih lo ((lo + hi) / 2) (i + 1) (by omega) (by omega) (by omega) (by omega) (by omega) (by omega) ?_ g8 (fun t h5 h6 w => ?_))) (fun q => nm_r (nI_1 _) (nm_r (nI_1 i) (ih ((lo + hi) / 2 + 1) hi (i + 1) (by omega) (by omega) (by omega) (by omega) (by omega) (by omega) ?_ (fun t h5 => ?_) g9)))⟩
          · have : f = 0 ∨ f = 1 ∨ f = 2 ∨ f = 3 := by omega
            rcases this with rfl | rfl | rfl | rfl <;> simp at g7 ⊢ <;> omega
          · by_cases y : t = (lo + hi) / 2
            · rw [y] at w; exact Int32.not_lt.mpr q w
            · exact Int32.not_lt.mpr (Int32.le_trans q (mono _ t (by omega) h6)) w
          · have : f = 0 ∨ f = 1 ∨ f = 2 ∨ f = 3 := by omega
            rcases this with rfl | rfl | rfl | rfl <;> simp at g7 ⊢ <;> omega
          · by_cases y : t = (lo + hi) / 2
            · rw [y]; exact Int32.not_le.mp q
            · exact Int32.lt_of_le_of_lt (mono t _ (by omega) (by omega)) (Int32.not_le.mp q)
    exact ds_x_bs hn (br_t rfl ⟨ds_in hn (by omega), nm_e ⟨5, main 4 0 c 0 (by omega) (Nat.le_refl _) (by omega) (by omega) (by omega) (by omega) (by simp; omega) (fun t ht => by omega) (fun t h5 h6 => by omega)⟩⟩)
  · exact ds_x_bsn h1 (br_f ds_10 (ds_y_isn h1 (br_t rfl ⟨rfl, R⟩)))
end
section
/-! total, conflicts, agree -/
theorem i_vc_total {k : Nat} {u : SX} {v : SY} (I : i_Rel k u v) (hk : k + 5 ≤ 2560) (v1 : Int32) : wpX_total (fun r => wpY_total (fun r' => r' = r ∧ i_Rel (k + 5) u v) v v1) u v1 := by
  refine ds_el (Q := fun u v => wpX_total (fun r => wpY_total (fun r' => r' = r ∧ i_Rel (k + 5) u v) v v1) u v1) I ?_
  intro m D P G C T Z dc pr vl mr gn lh cb lf kn kc hb lc ll ct st cp vs vw iv vv qa qb J
  have R : i_Rel (k + 5) (nI m, dc, pr, vl, mr, gn, lh, cb, lf, kn, kc, hb, lc, ll, ct, st, cp, vs, vw, iv, vv, qa, qb) (nI m, dc, pr, vl, mr, kn, hb, ct, st) := ds_rel J (by omega)
  obtain ⟨⟨i1, i2, i3, i4⟩, ⟨i5, i6, i7⟩, ⟨i8, i9, i10⟩, _⟩ := J
  unfold wpX_total wpY_total
  dsimp only
  rcases ds_arg 3 (by omega) v1 with ⟨n, hn, rfl⟩ | h1
  · obtain ⟨c, L, e1, e2, hSE⟩ := i9 n hn
    have hc : c ≤ 8 := ds_se_le hSE ds_vlt_irr (fun x hx => hx.1)
    have Lm : ∀ i, i < c → L i < 8 := fun i hi => (hSE.1 i hi).1
    have sum : ds_fo ds_ad 0 (ds_g iv vv n) 8 = ds_fo ds_ad 0 (fun i => vv (8 * n + L i)) c := by
      have q := ds_se_fo (op := ds_ad) (e := 0) (fun a => Int32.add_zero a) (fun a b c => Int32.add_assoc a b c) (fun a b => Int32.add_comm a b) (N := 8) hSE ds_vlt_irr (fun x hx => hx.1) (f := fun d => vv (8 * n + d)) (g := fun d => if d < 8 then ds_g iv vv n d else 0) (fun r hr => ?_) (fun r hr => ?_)
      · rw [← q]
        exact ds_fo_c (fun r hr => by rw [if_pos hr])
      · show (if r < 8 then ds_g iv vv n r else 0) = _
        rw [if_pos hr.1]
        exact if_neg hr.2
      · show (if r < 8 then ds_g iv vv n r else 0) = _
        by_cases y : r < 8
        · rw [if_pos y]
          refine if_pos ?_
          by_cases w : iv (8 * n + r) = 0
          · exact w
          · exact absurd ⟨y, w⟩ hr
        · rw [if_neg y]
    have main : ∀ (f i : Nat), i ≤ c → c - i < f → ∀ post : Int32 → Prop, post (ds_fo ds_ad 0 (fun i => vv (8 * n + L i)) c) → wX_total_15 post (nI n) (nI m) dc pr vl mr gn lh cb lf kn kc hb lc ll ct st cp vs vw iv vv qa qb f (ds_fo ds_ad 0 (fun i => vv (8 * n + L i)) i) (nI i) := by
      intro f
      induction f with
      | zero => intro i h1 h2; omega
      | succ f ih =>
        intro i h1 h2 post hp
        rw [wX_total_15]; dsimp only; rw [ds_cl (n := n) (by omega), e1]
        refine ⟨ds_in hn (by omega), ?_⟩
        by_cases z : c ≤ i
        · have e : i = c := by omega
          rw [e]
          exact br_t (Int32.le_refl _) hp
        · have k := ih (i + 1) (by omega) (by omega) post hp
          have lm := Lm i (by omega)
          refine br_f (nI_ge (by omega) (by omega)) ?_
          rw [ds_8, ds_cl (n := 8 * n + i) (by omega), e2 i (by omega), ds_8, ds_cl (n := 8 * n + L i) (by omega)]
          exact ⟨ds_in (by omega) (by omega), ds_in (by omega) (by omega), nm_e (nm_r (nI_1 i) k)⟩
    refine ds_x_bs hn (br_t rfl ⟨c + 1, main (c + 1) 0 (by omega) (by omega) _ (ds_y_is hn (br_f ds_10 (ds_y_total i1 i2 i5.1 i8 i10 hn ⟨sum, R⟩)))⟩)
  · exact ds_x_bsn h1 (br_f ds_10 (ds_y_isn h1 (br_t rfl ⟨rfl, R⟩)))
theorem i_vc_conflicts {k : Nat} {u : SX} {v : SY} (I : i_Rel k u v) (hk : k + 5 ≤ 2560) (v1 : Int32) : wpX_conflicts (fun r => wpY_conflicts (fun r' => r' = r ∧ i_Rel (k + 5) u v) v v1) u v1 := by
  refine ds_el (Q := fun u v => wpX_conflicts (fun r => wpY_conflicts (fun r' => r' = r ∧ i_Rel (k + 5) u v) v v1) u v1) I ?_
  intro m D P G C T Z dc pr vl mr gn lh cb lf kn kc hb lc ll ct st cp vs vw iv vv qa qb J
  have R : i_Rel (k + 5) (nI m, dc, pr, vl, mr, gn, lh, cb, lf, kn, kc, hb, lc, ll, ct, st, cp, vs, vw, iv, vv, qa, qb) (nI m, dc, pr, vl, mr, kn, hb, ct, st) := ds_rel J (by omega)
  obtain ⟨⟨i1, i2, i3, i4⟩, ⟨i5, i6, i7⟩, ⟨i8, i9, i10⟩, _⟩ := J
  have hm : m ≤ 80 := i1.1
  unfold wpX_conflicts wpY_conflicts
  dsimp only
  rcases ds_arg 3 (by omega) v1 with ⟨n, hn, rfl⟩ | h1
  · have opX : ∀ d, d < 8 → ∀ post : Int32 → Prop, post (nI (ds_cn (fun r => ds_lf m D P kn n d r ∧ ¬ ((1 : Int32) ≠ 0 ∧ mr r ≠ 0)) m)) → wpX_openLeaves post (nI m, dc, pr, vl, mr, gn, lh, cb, lf, kn, kc, hb, lc, ll, ct, st, cp, vs, vw, iv, vv, qa, qb) (nI n) (nI d) := by
      intro d hd post hp
      obtain ⟨c, L, e1, e2, hSE⟩ := i7 n d hn hd
      have hc : c ≤ m := ds_se_le hSE ds_bh_irr (fun x hx => hx.1)
      have Lm : ∀ i, i < c → L i < m := fun i hi => (hSE.1 i hi).1
      rw [ds_se_cn (Q := fun r => ¬ ((1 : Int32) ≠ 0 ∧ mr r ≠ 0)) hSE ds_bh_irr (fun x hx => hx.1)] at hp
      have main : ∀ (f i : Nat), i ≤ c → c - i < f → wX_openLeaves_5 post (nI n) (nI d) (nI m) dc pr vl mr gn lh cb lf kn kc hb lc ll ct st cp vs vw iv vv qa qb f (nI (ds_cn (fun i => ¬ ((1 : Int32) ≠ 0 ∧ mr (L i) ≠ 0)) i)) (nI i) := by
        intro f
        induction f with
        | zero => intro i h1 h2; omega
        | succ f ih =>
          intro i h1 h2
          rw [wX_openLeaves_5]; dsimp only; rw [ds_8, ds_cl (n := 8 * n + d) (by omega), e1]
          refine ⟨ds_in (by omega) (by omega), ?_⟩
          by_cases z : c ≤ i
          · have e : i = c := by omega
            rw [e]
            exact br_t (Int32.le_refl _) hp
          · have q := ih (i + 1) (by omega) (by omega)
            have lm := Lm i (by omega)
            refine br_f (nI_ge (by omega) (by omega)) (ds_x_la hn hd (by omega) ?_)
            rw [e2 i (by omega), ds_cl (n := L i) (by omega)]
            refine ⟨ds_in (by omega) (by omega), br_c (fun y => ?_) (fun y => ?_)⟩
            · rw [ds_cn_t (fun w => w.2 y)] at q
              exact nm_r (nI_1 _) (nm_r (nI_1 i) q)
            · rw [ds_cn_f (fun w => w ⟨ds_10, y⟩)] at q
              exact nm_r (nI_1 i) q
      exact ⟨c + 1, main (c + 1) 0 (by omega) (by omega)⟩
    have cb2 : ∀ d, ds_cn (fun r => ds_lf m D P kn n d r ∧ ¬ ((1 : Int32) ≠ 0 ∧ mr r ≠ 0)) m ≤ 80 := fun d => Nat.le_trans (ds_cn_le _ _) hm
    have mainX : ∀ (f s : Nat), s ≤ 8 → 8 - s < f → ∀ post : Int32 → Prop, post (nI (ds_cn (fun d => 1 < ds_cn (fun r => ds_lf m D P kn n d r ∧ ¬ ((1 : Int32) ≠ 0 ∧ mr r ≠ 0)) m) 8)) → wX_conflicts_15 post (nI n) (nI m) dc pr vl mr gn lh cb lf kn kc hb lc ll ct st cp vs vw iv vv qa qb f (nI (ds_cn (fun d => 1 < ds_cn (fun r => ds_lf m D P kn n d r ∧ ¬ ((1 : Int32) ≠ 0 ∧ mr r ≠ 0)) m) s)) (nI s) := by
      intro f
      induction f with
      | zero => intro s h1 h2; omega
      | succ f ih =>
        intro s h1 h2 post hp
        rw [wX_conflicts_15]; dsimp only
        by_cases z : 8 ≤ s
        · have e : s = 8 := by omega
          rw [e]
          exact br_t (Int32.le_refl _) hp
        · have q := ih (s + 1) (by omega) (by omega) post hp
          have cs := cb2 s
          refine br_f (nI_ge (b := 8) (by omega) (by omega)) (opX s (by omega) _ ?_)
          by_cases y : 1 < ds_cn (fun r => ds_lf m D P kn n s r ∧ ¬ ((1 : Int32) ≠ 0 ∧ mr r ≠ 0)) m
          · rw [ds_cn_t (p := fun d => 1 < ds_cn (fun r => ds_lf m D P kn n d r ∧ ¬ ((1 : Int32) ≠ 0 ∧ mr r ≠ 0)) m) (n := s) y] at q
            exact br_f (nI_ge (a := 1) y (by omega)) (nm_r (nI_1 _) (nm_r (nI_1 s) q))
          · rw [ds_cn_f (p := fun d => 1 < ds_cn (fun r => ds_lf m D P kn n d r ∧ ¬ ((1 : Int32) ≠ 0 ∧ mr r ≠ 0)) m) (n := s) y] at q
            exact br_t (nI_le (b := 1) (by omega) (by omega)) (nm_r (nI_1 s) q)
    have mainY : ∀ (f s : Nat), s ≤ 8 → 8 - s < f → ∀ post : Int32 → Prop, post (nI (ds_cn (fun d => 1 < ds_cn (fun r => ds_lf m D P kn n d r ∧ ¬ ((1 : Int32) ≠ 0 ∧ mr r ≠ 0)) m) 8)) → wY_conflicts_15 post (nI n) (nI m) dc pr vl mr kn hb ct st f (nI (ds_cn (fun d => 1 < ds_cn (fun r => ds_lf m D P kn n d r ∧ ¬ ((1 : Int32) ≠ 0 ∧ mr r ≠ 0)) m) s)) (nI s) := by
      intro f
      induction f with
      | zero => intro s h1 h2; omega
      | succ f ih =>
        intro s h1 h2 post hp
        rw [wY_conflicts_15]; dsimp only
        by_cases z : 8 ≤ s
        · have e : s = 8 := by omega
          rw [e]
          exact br_t (Int32.le_refl _) hp
        · have q := ih (s + 1) (by omega) (by omega) post hp
          have cs := cb2 s
          refine br_f (nI_ge (b := 8) (by omega) (by omega)) (ds_y_cl i1 i2 i5.1 hn (by omega) ?_)
          by_cases y : 1 < ds_cn (fun r => ds_lf m D P kn n s r ∧ ¬ ((1 : Int32) ≠ 0 ∧ mr r ≠ 0)) m
          · rw [ds_cn_t (p := fun d => 1 < ds_cn (fun r => ds_lf m D P kn n d r ∧ ¬ ((1 : Int32) ≠ 0 ∧ mr r ≠ 0)) m) (n := s) y] at q
            exact br_f (nI_ge (a := 1) y (by omega)) (nm_r (nI_1 _) (nm_r (nI_1 s) q))
          · rw [ds_cn_f (p := fun d => 1 < ds_cn (fun r => ds_lf m D P kn n d r ∧ ¬ ((1 : Int32) ≠ 0 ∧ mr r ≠ 0)) m) (n := s) y] at q
            exact br_t (nI_le (b := 1) (by omega) (by omega)) (nm_r (nI_1 s) q)
    exact ds_x_bs hn (br_t rfl ⟨9, mainX 9 0 (by omega) (by omega) _ (ds_y_is hn (br_f ds_10 ⟨9, mainY 9 0 (by omega) (by omega) _ ⟨rfl, R⟩⟩))⟩)
  · exact ds_x_bsn h1 (br_f ds_10 (ds_y_isn h1 (br_t rfl ⟨rfl, R⟩)))
theorem i_vc_agree {k : Nat} {u : SX} {v : SY} (I : i_Rel k u v) (hk : k + 5 ≤ 2560) (v1 : Int32) (v2 : Int32) : wpX_agree (fun r => wpY_agree (fun r' => r' = r ∧ i_Rel (k + 5) u v) v v1 v2) u v1 v2 := by
  refine ds_el (Q := fun u v => wpX_agree (fun r => wpY_agree (fun r' => r' = r ∧ i_Rel (k + 5) u v) v v1 v2) u v1 v2) I ?_
  intro m D P G C T Z dc pr vl mr gn lh cb lf kn kc hb lc ll ct st cp vs vw iv vv qa qb J
  have R : i_Rel (k + 5) (nI m, dc, pr, vl, mr, gn, lh, cb, lf, kn, kc, hb, lc, ll, ct, st, cp, vs, vw, iv, vv, qa, qb) (nI m, dc, pr, vl, mr, kn, hb, ct, st) := ds_rel J (by omega)
  obtain ⟨⟨i1, i2, i3, i4⟩, ⟨i5, i6, i7⟩, ⟨i8, i9, i10⟩, _⟩ := J
  have hm : m ≤ 80 := i1.1
  unfold wpX_agree wpY_agree
  dsimp only
  rcases ds_arg 3 (by omega) v1 with ⟨n, hn, rfl⟩ | h1
  · rcases ds_arg 3 (by omega) v2 with ⟨t, ht, rfl⟩ | h2
    · have mainX : ∀ (f s : Nat), s ≤ m → m - s < f → ∀ post : Int32 → Prop, post (nI (ds_b (∀ r, r < m → kn (80 * n + r) = kn (80 * t + r)))) → wX_agree_23 post (nI n) (nI t) (nI m) dc pr vl mr gn lh cb lf kn kc hb lc ll ct st cp vs vw iv vv qa qb f (nI (ds_b (∀ r, r < s → kn (80 * n + r) = kn (80 * t + r)))) (nI s) := by
        intro f
        induction f with
        | zero => intro s h1 h2; omega
        | succ f ih =>
          intro s h1 h2 post hp
          rw [wX_agree_23]; dsimp only
          by_cases z : m ≤ s
          · have e : s = m := by omega
            rw [e]
            refine br_t (Int32.le_refl _) ⟨ds_nar ?_, hp⟩
            rcases ds_b01 (∀ r, r < m → kn (80 * n + r) = kn (80 * t + r)) with w | w
            · exact Or.inl (by rw [w]; rfl)
            · exact Or.inr (by rw [w]; rfl)
          · have q := ih (s + 1) (by omega) (by omega) post hp
            refine br_f (nI_ge (by omega) (by omega)) (ds_brb (fun y => ?_) (fun y => ?_))
            · rw [ds_80, ds_80, ds_cl (n := 80 * n + s) (by omega), ds_cl (n := 80 * t + s) (by omega)]
              refine ⟨ds_in (by omega) (by omega), ds_in (by omega) (by omega), br_c (fun w => ?_) (fun w => ?_)⟩
              · rw [ds_bt (fun r hr => by
                  by_cases e : r = s
                  · rw [e]; exact w
                  · exact y r (by omega))] at q
                exact nm_r (nI_1 s) q
              · rw [ds_bf (fun h => w (h s (by omega)))] at q
                exact nm_r (nI_1 s) q
            · rw [ds_bf (fun h => y (fun r hr => h r (by omega)))] at q
              exact nm_r (nI_1 s) q
      have mainY : ∀ (f s : Nat), s ≤ m → m - s < f → ∀ post : Int32 → Prop, post (nI (ds_b (∀ r, r < m → kn (80 * n + r) = kn (80 * t + r)))) → (∀ r, r < s → kn (80 * n + r) = kn (80 * t + r)) → wY_agree_20 post (nI n) (nI t) (nI m) dc pr vl mr kn hb ct st f (nI s) := by
        intro f
        induction f with
        | zero => intro s h1 h2; omega
        | succ f ih =>
          intro s h1 h2 post hp h3
          rw [wY_agree_20]; dsimp only
          by_cases z : m ≤ s
          · exact br_t (nI_le z (by omega)) (ds_post_t (fun r hr => h3 r (by omega)) hp)
          · refine br_f (nI_ge (by omega) (by omega)) (ds_y_kn i5.1 hn (by omega) (ds_y_kn i5.1 ht (by omega) (br_c (fun w => nm_r (nI_1 s) (ih (s + 1) (by omega) (by omega) post hp (fun r hr => ?_))) (fun w => ds_post_f (fun h => w (h s (by omega))) hp))))
            by_cases e : r = s
            · rw [e]; exact w
            · exact h3 r (by omega)
      have q0 : ∀ post : Int32 → Prop, post (nI (ds_b (∀ r, r < m → kn (80 * n + r) = kn (80 * t + r)))) → wX_agree_23 post (nI n) (nI t) (nI m) dc pr vl mr gn lh cb lf kn kc hb lc ll ct st cp vs vw iv vv qa qb (m + 1) 1 0 := by
        intro post hp
        have q := mainX (m + 1) 0 (by omega) (by omega) post hp
        rw [ds_bt (p := ∀ r, r < 0 → kn (80 * n + r) = kn (80 * t + r)) (fun r hr => by omega)] at q
        exact q
      refine ds_x_bs hn (br_t rfl (ds_x_bs ht (br_t rfl ⟨m + 1, q0 _ ?_⟩)))
      exact ds_y_is hn (br_f ds_10 (ds_y_is ht (br_f ds_10 ⟨m + 1, mainY (m + 1) 0 (by omega) (by omega) _ ⟨rfl, R⟩ (fun r hr => by omega)⟩)))
    · exact ds_x_bs hn (br_t rfl (ds_x_bsn h2 (br_f ds_10 (ds_y_is hn (br_f ds_10 (ds_y_isn h2 (br_t rfl ⟨rfl, R⟩)))))))
  · exact ds_x_bsn h1 (br_f ds_10 (ds_y_isn h1 (br_t rfl ⟨rfl, R⟩)))
end
section
/-! cells chosen by a property; compact and purge -/
noncomputable def ds_sel {A : Type} (Q : Nat → Prop) (x : A) (f : Nat → A) : Nat → A := fun j => @ite A (Q j) (Classical.propDecidable (Q j)) x (f j)
theorem ds_sel_t {A : Type} {Q : Nat → Prop} {x : A} {f : Nat → A} {j : Nat} (h : Q j) : ds_sel Q x f j = x := by unfold ds_sel; rw [if_pos h]
theorem ds_sel_f {A : Type} {Q : Nat → Prop} {x : A} {f : Nat → A} {j : Nat} (h : ¬ Q j) : ds_sel Q x f j = f j := by unfold ds_sel; rw [if_neg h]
theorem ds_sel_c {A : Type} {Q Q' : Nat → Prop} {x : A} {f : Nat → A} (h : ∀ j, Q j ↔ Q' j) : ds_sel Q x f = ds_sel Q' x f := by
  have e : Q = Q' := funext (fun j => propext (h j))
  rw [e]
theorem ds_sel_0 {A : Type} {Q : Nat → Prop} {x : A} {f : Nat → A} (h : ∀ j, Q j → f j = x) : ds_sel Q x f = f := by
  funext j
  by_cases e : Q j
  · rw [ds_sel_t e, h j e]
  · exact ds_sel_f e
theorem ds_sel_u {Q Q' : Nat → Prop} {x : Int32} {f : Nat → Int32} {k : Nat} (h : ∀ j, Q' j ↔ (Q j ∨ j = k)) : upd (ds_sel Q x f) k x = ds_sel Q' x f := by
  funext j
  by_cases e : j = k
  · rw [e, pk_us, ds_sel_t ((h k).mpr (Or.inr rfl))]
  · rw [pk_un e]
    by_cases y : Q j
    · rw [ds_sel_t y, ds_sel_t ((h j).mpr (Or.inl y))]
    · rw [ds_sel_f y, ds_sel_f (fun w => ((h j).mp w).elim y e)]
theorem ds_sel_bo {Q : Nat → Prop} {x : Int32} {f : Nat → Int32} (h : ds_bo f) (hx : x = 0 ∨ x = 1) : ds_bo (ds_sel Q x f) := by
  intro j
  by_cases e : Q j
  · rw [ds_sel_t e]; exact hx
  · rw [ds_sel_f e]; exact h j
/-- the first s revisions of store n with a property, as cells -/
def ds_at (n s : Nat) (Q : Nat → Prop) (j : Nat) : Prop := ∃ r, r < s ∧ j = 80 * n + r ∧ Q r
theorem ds_at_s {n s : Nat} {Q : Nat → Prop} (h : Q s) (j : Nat) : ds_at n (s + 1) Q j ↔ (ds_at n s Q j ∨ j = 80 * n + s) := by
  constructor
  · intro ⟨r, h1, h2, h3⟩
    by_cases e : r = s
    · exact Or.inr (by rw [h2, e])
    · exact Or.inl ⟨r, by omega, h2, h3⟩
  · intro w
    rcases w with ⟨r, h1, h2, h3⟩ | w
    · exact ⟨r, by omega, h2, h3⟩
    · exact ⟨s, by omega, w, h⟩
theorem ds_at_n {n s : Nat} {Q : Nat → Prop} (h : ¬ Q s) (j : Nat) : ds_at n (s + 1) Q j ↔ ds_at n s Q j := by
  constructor
  · intro ⟨r, h1, h2, h3⟩
    by_cases e : r = s
    · rw [e] at h3; exact absurd h3 h
    · exact ⟨r, by omega, h2, h3⟩
  · intro ⟨r, h1, h2, h3⟩
    exact ⟨r, by omega, h2, h3⟩
theorem ds_at_no {n s r : Nat} {Q : Nat → Prop} (h : s ≤ r) : ¬ ds_at n s Q (80 * n + r) := by
  intro ⟨t, h1, h2, _⟩
  omega
theorem ds_at_ne {n n' s r : Nat} {Q : Nat → Prop} (h : n' ≠ n) (hs : s ≤ 80) (hr : r < 80) : ¬ ds_at n s Q (80 * n' + r) := by
  intro ⟨t, h1, h2, _⟩
  omega
theorem ds_at_in {n s r : Nat} {Q : Nat → Prop} (hr : r < s) : ds_at n s Q (80 * n + r) ↔ Q r := by
  constructor
  · intro ⟨t, h1, h2, h3⟩
    have e : t = r := by omega
    rw [e] at h3; exact h3
  · intro h; exact ⟨r, hr, rfl, h⟩
section
variable {m : Nat} {D P G : Nat → Nat} {V M kn kn' : Nat → Int32}
theorem ds_lf_fr (hT : ds_TI m D P G V M) {n d n' d' : Nat} (hn' : n' < 3) (h1 : ∀ n' r, n' < 3 → r < m → (n' ≠ n ∨ D r ≠ d) → kn' (80 * n' + r) = kn (80 * n' + r)) (hne : n' ≠ n ∨ d' ≠ d) (x : Nat) : ds_lf m D P kn n' d' x ↔ ds_lf m D P kn' n' d' x := by
  have kid : ∀ s, s < m → P s = x + 1 → D x = d' → (n' ≠ n ∨ D s ≠ d) := by
    intro s hs hp hd
    have := ((hT.2.1 s hs).2.2.2.2 x hp).1
    rcases hne with h | h
    · exact Or.inl h
    · exact Or.inr (by rw [← this, hd]; exact h)
  constructor
  · intro h
    refine ⟨h.1, h.2.1, ?_, fun s hs hp => ?_⟩
    · rw [h1 n' x hn' h.1 (hne.imp (fun w => w) (fun w => by rw [h.2.1]; exact w))]; exact h.2.2.1
    · rw [h1 n' s hn' hs (kid s hs hp h.2.1)]; exact h.2.2.2 s hs hp
  · intro h
    refine ⟨h.1, h.2.1, ?_, fun s hs hp => ?_⟩
    · have k := h.2.2.1
      rw [h1 n' x hn' h.1 (hne.imp (fun w => w) (fun w => by rw [h.2.1]; exact w))] at k; exact k
    · have k := h.2.2.2 s hs hp
      rw [h1 n' s hn' hs (kid s hs hp h.2.1)] at k; exact k
end
/-! compact -/
def ds_dr (m : Nat) (P : Nat → Nat) (kn hb : Nat → Int32) (n r : Nat) : Prop := hb (80 * n + r) ≠ 0 ∧ ∃ s, s < m ∧ P s = r + 1 ∧ kn (80 * n + s) ≠ 0
section
variable {B m : Nat} {D P G C T Z : Nat → Nat} {dc pr vl mr gn lh cb lf kn kc hb lc ll ct st cp vs vw iv vv qa qb : Nat → Int32}
theorem ds_x_c65 {mk : Int32} {post : Int32 → SX → Prop} {J : Int32 → Int32 → (Nat → Int32) → (Nat → Int32) → (Nat → Int32) → (Nat → Int32) → (Nat → Int32) → (Nat → Int32) → (Nat → Int32) → (Nat → Int32) → (Nat → Int32) → (Nat → Int32) → (Nat → Int32) → (Nat → Int32) → (Nat → Int32) → (Nat → Int32) → (Nat → Int32) → (Nat → Int32) → (Nat → Int32) → (Nat → Int32) → (Nat → Int32) → (Nat → Int32) → (Nat → Int32) → (Nat → Int32) → Prop} {x1 x2 : Int32} {s a : Nat} (ha : a < 240) (hb2 : hb a = 0 ∨ hb a = 1) (h : J x2 (nI (s + 1)) dc pr vl mr gn lh cb lf kn kc hb lc ll ct st cp vs vw iv vv qa qb) : wX_compact_65 post J x1 x2 (nI s) (nI a) mk dc pr vl mr gn lh cb lf kn kc hb lc ll ct st cp vs vw iv vv qa qb := by
  have i : vp_in (nI a) 240 := ds_in ha (by omega)
  unfold wX_compact_65 wX_compact_66
  refine br_t rfl ?_
  unfold wX_compact_80
  rw [ds_cl (n := a) (by omega), ds_vn0, ds_vn1]
  refine ⟨i, br_c (fun z => ⟨i, nm_r (ds_us hb a z) (nm_r (nI_1 s) h)⟩) (fun z => br_t rfl ⟨i, nm_r (ds_us hb a (hb2.resolve_left z)) (nm_r (nI_1 s) h)⟩)⟩
theorem ds_x_c66 {mk : Int32} {post : Int32 → SX → Prop} {J : Int32 → Int32 → (Nat → Int32) → (Nat → Int32) → (Nat → Int32) → (Nat → Int32) → (Nat → Int32) → (Nat → Int32) → (Nat → Int32) → (Nat → Int32) → (Nat → Int32) → (Nat → Int32) → (Nat → Int32) → (Nat → Int32) → (Nat → Int32) → (Nat → Int32) → (Nat → Int32) → (Nat → Int32) → (Nat → Int32) → (Nat → Int32) → (Nat → Int32) → (Nat → Int32) → (Nat → Int32) → (Nat → Int32) → Prop} {x1 : Int32} {c s a : Nat} (ha : a < 240) (hb2 : hb a ≠ 0) (h : J (nI (c + 1)) (nI (s + 1)) dc pr vl mr gn lh cb lf kn kc (upd hb a 0) lc ll ct st cp vs vw iv vv qa qb) : wX_compact_66 post J x1 (nI c) (nI s) (nI a) 1 mk dc pr vl mr gn lh cb lf kn kc hb lc ll ct st cp vs vw iv vv qa qb := by
  have i : vp_in (nI a) 240 := ds_in ha (by omega)
  unfold wX_compact_66
  refine br_f ds_10 ?_
  unfold wX_compact_80
  rw [ds_cl (n := a) (by omega), ds_vn0, ds_vn1, nI_1 c]
  exact ⟨i, br_f hb2 (br_f ds_10 ⟨i, nm_e (nm_r (nI_1 s) h)⟩)⟩
theorem ds_x_compact (I : ds_INV B m D P G C T Z dc pr vl mr gn lh cb lf kn kc hb lc ll ct st cp vs vw iv vv) {n : Nat} (hn : n < 3) {post : Int32 → SX → Prop} (hp : post (nI (ds_cn (ds_dr m P kn hb n) m)) (nI m, dc, pr, vl, mr, gn, lh, cb, lf, kn, kc, ds_sel (ds_at n m (ds_dr m P kn hb n)) 0 hb, lc, ll, ct, st, cp, vs, vw, iv, vv, qa, qb)) : ∃ f, wX_compact_15 post (nI n) (nI m) f 0 0 dc pr vl mr gn lh cb lf kn kc hb lc ll ct st cp vs vw iv vv qa qb := by
  obtain ⟨⟨i1, i2, i3, i4⟩, ⟨i5, i6, i7⟩, ⟨i8, i9, i10⟩, ⟨i11, i12⟩⟩ := I
  have hm : m ≤ 80 := i1.1
  have main : ∀ (f s : Nat), s ≤ m → m - s < f → wX_compact_15 post (nI n) (nI m) f (nI (ds_cn (ds_dr m P kn hb n) s)) (nI s) dc pr vl mr gn lh cb lf kn kc (ds_sel (ds_at n s (ds_dr m P kn hb n)) 0 hb) lc ll ct st cp vs vw iv vv qa qb := by
    intro f
    induction f with
    | zero => intro s h1 h2; omega
    | succ f ih =>
      intro s h1 h2
      rw [wX_compact_15]; dsimp only
      by_cases z : m ≤ s
      · have e : s = m := by omega
        rw [e]
        exact br_t (Int32.le_refl _) hp
      · have k := ih (s + 1) (by omega) (by omega)
        have i : vp_in (nI (80 * n + s)) 240 := ds_in (by omega) (by omega)
        have e0 : ds_sel (ds_at n s (ds_dr m P kn hb n)) 0 hb (80 * n + s) = hb (80 * n + s) := ds_sel_f (ds_at_no (Nat.le_refl _))
        have no : ¬ ds_dr m P kn hb n s → wX_compact_65 post (wX_compact_15 post (nI n) (nI m) f) (nI n) (nI (ds_cn (ds_dr m P kn hb n) s)) (nI s) (nI (80 * n + s)) (nI m) dc pr vl mr gn lh cb lf kn kc (ds_sel (ds_at n s (ds_dr m P kn hb n)) 0 hb) lc ll ct st cp vs vw iv vv qa qb := by
          intro w
          rw [ds_cn_f w, ds_sel_c (ds_at_n w)] at k
          exact ds_x_c65 (by omega) (by rw [e0]; exact i5.2.1 _) k
        refine br_f (nI_ge (by omega) (by omega)) (nm_r (ds_80 n s) ?_)
        rw [ds_cl (n := 80 * n + s) (by omega), e0]
        refine ⟨i, br_c (fun y => no (fun w => w.1 (i5.2.2.2.1 n s hn (by omega) y))) (fun y => ⟨i, br_c (fun q => no (fun w => w.1 q)) (fun q => ⟨i, ?_⟩)⟩)⟩
        have cs := ds_cn_le (fun t => P t = s + 1 ∧ kn (80 * n + t) ≠ 0) m
        rw [i6 n s hn (by omega) y]
        by_cases w : ds_cn (fun t => P t = s + 1 ∧ kn (80 * n + t) ≠ 0) m = 0
        · refine br_t (by rw [w]; exact Int32.le_refl _) (no (fun u => ?_))
          obtain ⟨t, t1, t2⟩ := u.2
          exact ds_cn_z.mp w t t1 t2
        · have u : ds_dr m P kn hb n s := by
            refine ⟨q, Classical.not_not.mp (fun nt => w (ds_cn_z.mpr (fun t t1 t2 => nt ⟨t, t1, t2⟩)))⟩
          refine br_f (nI_nle (by omega) (by omega)) (ds_x_c66 (by omega) (by rw [e0]; exact q) ?_)
          rw [ds_cn_t u, ← ds_sel_u (ds_at_s u)] at k
          exact k
  have k := main (m + 1) 0 (by omega) (by omega)
  rw [ds_sel_0 (fun j h => by obtain ⟨r, h1, _⟩ := h; omega)] at k
  exact ⟨m + 1, k⟩
theorem ds_y_compact (I : ds_INV B m D P G C T Z dc pr vl mr gn lh cb lf kn kc hb lc ll ct st cp vs vw iv vv) {n : Nat} (hn : n < 3) {post : Int32 → SY → Prop} (hp : post (nI (ds_cn (ds_dr m P kn hb n) m)) (nI m, dc, pr, vl, mr, kn, ds_sel (ds_at n m (ds_dr m P kn hb n)) 0 hb, ct, st)) : ∃ f, wY_compact_15 post (nI n) (nI m) f 0 0 dc pr vl mr kn hb ct st := by
  obtain ⟨⟨i1, i2, i3, i4⟩, ⟨i5, i6, i7⟩, ⟨i8, i9, i10⟩, ⟨i11, i12⟩⟩ := I
  have hm : m ≤ 80 := i1.1
  have main : ∀ (f s : Nat), s ≤ m → m - s < f → wY_compact_15 post (nI n) (nI m) f (nI (ds_cn (ds_dr m P kn hb n) s)) (nI s) dc pr vl mr kn (ds_sel (ds_at n s (ds_dr m P kn hb n)) 0 hb) ct st := by
    intro f
    induction f with
    | zero => intro s h1 h2; omega
    | succ f ih =>
      intro s h1 h2
      rw [wY_compact_15]; dsimp only
      by_cases z : m ≤ s
      · have e : s = m := by omega
        rw [e]
        exact br_t (Int32.le_refl _) hp
      · have k := ih (s + 1) (by omega) (by omega)
        have i : vp_in (nI (80 * n + s)) 240 := ds_in (by omega) (by omega)
        have e0 : ds_sel (ds_at n s (ds_dr m P kn hb n)) 0 hb (80 * n + s) = hb (80 * n + s) := ds_sel_f (ds_at_no (Nat.le_refl _))
        have hd := (i1.2.1 s (by omega)).1
        rw [ds_80, ds_cl (n := 80 * n + s) (by omega), ds_cl (n := s) (by omega), e0, ds_vn0, (i2 s (by omega)).1]
        refine br_f (nI_ge (by omega) (by omega)) ⟨i, br_c (fun y => ?_) (fun y => ⟨ds_in (by omega) (by omega), ds_y_lf i1 i2 i5.1 hn hd (by omega) (ds_brb (fun w => ?_) (fun w => ⟨i, ?_⟩))⟩)⟩
        · have u : ¬ ds_dr m P kn hb n s := fun u => u.1 y
          rw [ds_cn_f u, ds_sel_c (ds_at_n u)] at k
          exact nm_r (nI_1 s) k
        · have u : ¬ ds_dr m P kn hb n s := fun u => by
            obtain ⟨t, t1, t2, t3⟩ := u.2
            exact t3 (w.2.2.2 t t1 t2)
          rw [ds_cn_f u, ds_sel_c (ds_at_n u)] at k
          exact nm_r (nI_1 s) k
        · have kk : kn (80 * n + s) ≠ 0 := fun q => y (i5.2.2.2.1 n s hn (by omega) q)
          have u : ds_dr m P kn hb n s := by
            refine ⟨y, Classical.not_not.mp (fun nt => w ⟨by omega, rfl, kk, fun t t1 t2 => Classical.not_not.mp (fun q => nt ⟨t, t1, t2, q⟩)⟩)⟩
          rw [ds_cn_t u, ← ds_sel_u (ds_at_s u)] at k
          exact nm_e (nm_r (nI_1 _) (nm_r (nI_1 s) k))
  have k := main (m + 1) 0 (by omega) (by omega)
  rw [ds_sel_0 (fun j h => by obtain ⟨r, h1, _⟩ := h; omega)] at k
  exact ⟨m + 1, k⟩
theorem ds_INV_compact (I : ds_INV B m D P G C T Z dc pr vl mr gn lh cb lf kn kc hb lc ll ct st cp vs vw iv vv) {n : Nat} : ds_INV B m D P G C T Z dc pr vl mr gn lh cb lf kn kc (ds_sel (ds_at n m (ds_dr m P kn hb n)) 0 hb) lc ll ct st cp vs vw iv vv := by
  obtain ⟨i, ⟨i5, i6, i7⟩, j, k⟩ := I
  obtain ⟨h1, h2, h3, h4, h5⟩ := i5
  refine ⟨i, ⟨⟨h1, ds_sel_bo h2 (Or.inl rfl), h3, fun n' r hn' hr hz => ?_, h5⟩, i6, i7⟩, j, k⟩
  by_cases e : ds_at n m (ds_dr m P kn hb n) (80 * n' + r)
  · exact ds_sel_t e
  · rw [ds_sel_f e]; exact h4 n' r hn' hr hz
end
theorem i_vc_compact {k : Nat} {u : SX} {v : SY} (I : i_Rel k u v) (hk : k + 5 ≤ 2560) (v1 : Int32) : wpX_compact (fun r u' => wpY_compact (fun r' v' => r' = r ∧ i_Rel (k + 5) u' v') v v1) u v1 := by
  refine ds_el (Q := fun u v => wpX_compact (fun r u' => wpY_compact (fun r' v' => r' = r ∧ i_Rel (k + 5) u' v') v v1) u v1) I ?_
  intro m D P G C T Z dc pr vl mr gn lh cb lf kn kc hb lc ll ct st cp vs vw iv vv qa qb J
  unfold wpX_compact wpY_compact
  dsimp only
  rcases ds_arg 3 (by omega) v1 with ⟨n, hn, rfl⟩ | h1
  · exact ds_x_bs hn (br_t rfl (ds_x_compact J hn (ds_y_is hn (br_f ds_10 (ds_y_compact J hn ⟨rfl, ds_rel (ds_INV_compact J) (by omega)⟩)))))
  · exact ds_x_bsn h1 (br_f ds_10 (ds_y_isn h1 (br_t rfl ⟨rfl, ds_rel J (by omega)⟩)))
end
section
/-! purge -/
def ds_pg (D : Nat → Nat) (kn : Nat → Int32) (n d r : Nat) : Prop := D r = d ∧ kn (80 * n + r) ≠ 0
section
variable {B m : Nat} {D P G C T Z : Nat → Nat} {dc pr vl mr gn lh cb lf kn kc hb lc ll ct st cp vs vw iv vv qa qb : Nat → Int32}
theorem ds_y_pg (I : ds_INV B m D P G C T Z dc pr vl mr gn lh cb lf kn kc hb lc ll ct st cp vs vw iv vv) {n d : Nat} (hn : n < 3) (hd : d < 8) {post : Int32 → SY → Prop} (h0 : ds_cn (ds_pg D kn n d) m = 0 → post (-1000000003) (nI m, dc, pr, vl, mr, kn, hb, ct, st)) (h1 : ds_cn (ds_pg D kn n d) m ≠ 0 → post (nI (ds_cn (ds_pg D kn n d) m)) (nI m, dc, pr, vl, mr, ds_sel (ds_at n m (ds_pg D kn n d)) 0 kn, ds_sel (ds_at n m (ds_pg D kn n d)) 0 hb, ct, upd st (8 * n + d) 0)) : ∃ f, wY_purge_17 post (nI n) (nI d) (nI m) f 0 0 dc pr vl mr kn hb ct st := by
  obtain ⟨⟨i1, i2, i3, i4⟩, ⟨i5, i6, i7⟩, ⟨i8, i9, i10⟩, ⟨i11, i12⟩⟩ := I
  have hm : m ≤ 80 := i1.1
  have main : ∀ (f s : Nat), s ≤ m → m - s < f → wY_purge_17 post (nI n) (nI d) (nI m) f (nI (ds_cn (ds_pg D kn n d) s)) (nI s) dc pr vl mr (ds_sel (ds_at n s (ds_pg D kn n d)) 0 kn) (ds_sel (ds_at n s (ds_pg D kn n d)) 0 hb) ct st := by
    intro f
    induction f with
    | zero => intro s h1 h2; omega
    | succ f ih =>
      intro s g1 g2
      rw [wY_purge_17]; dsimp only
      by_cases z : m ≤ s
      · have e : s = m := by omega
        have cm := ds_cn_le (ds_pg D kn n d) m
        rw [e, ds_8, ds_cl (n := 8 * n + d) (by omega)]
        refine br_t (Int32.le_refl _) ⟨ds_in (by omega) (by omega), nm_e ?_⟩
        by_cases y : ds_cn (ds_pg D kn n d) m = 0
        · have k := h0 y
          have nn := ds_cn_z.mp y
          have t0 : T (8 * n + d) = 0 := ((i12.2.1 n d hn hd).2).mpr (fun r hr hr2 => Classical.not_not.mp (fun w => nn r hr ⟨hr2, w⟩))
          have s0 : st (8 * n + d) = 0 := by rw [i11.2.1 (8 * n + d) (by omega), t0]; rfl
          refine br_t (by rw [y]; rfl) ?_
          rw [ds_us st _ s0, ds_sel_0 (f := kn) (fun j h => by obtain ⟨r, r1, _, r2⟩ := h; exact absurd r2 (nn r r1)), ds_sel_0 (f := hb) (fun j h => by obtain ⟨r, r1, _, r2⟩ := h; exact absurd r2 (nn r r1))]
          exact k
        · exact br_f (nI_ne0 (by omega) (by omega)) (h1 y)
      · have k := ih (s + 1) (by omega) (by omega)
        have i : vp_in (nI (80 * n + s)) 240 := ds_in (by omega) (by omega)
        have e0 : ds_sel (ds_at n s (ds_pg D kn n d)) 0 kn (80 * n + s) = kn (80 * n + s) := ds_sel_f (ds_at_no (Nat.le_refl _))
        have hds := (i1.2.1 s (by omega)).1
        rw [ds_80, ds_cl (n := 80 * n + s) (by omega), ds_cl (n := s) (by omega), ds_vn0, (i2 s (by omega)).1]
        refine br_f (nI_ge (by omega) (by omega)) ⟨ds_in (by omega) (by omega), ?_⟩
        by_cases e1 : D s = d
        · refine br_t (by rw [e1]) (ds_y_kn (ds_sel_bo i5.1 (Or.inl rfl)) hn (by omega) ?_)
          rw [e0]
          refine br_c (fun y => ?_) (fun y => ?_)
          · have u : ¬ ds_pg D kn n d s := fun u => u.2 y
            rw [ds_cn_f u, ds_sel_c (ds_at_n u), ds_sel_c (ds_at_n u)] at k
            exact nm_r (nI_1 s) k
          · have u : ds_pg D kn n d s := ⟨e1, y⟩
            rw [ds_cn_t u, ← ds_sel_u (ds_at_s u), ← ds_sel_u (ds_at_s u)] at k
            exact ⟨i, nm_e ⟨i, nm_e (nm_r (nI_1 _) (nm_r (nI_1 s) k))⟩⟩
        · have u : ¬ ds_pg D kn n d s := fun u => e1 u.1
          rw [ds_cn_f u, ds_sel_c (ds_at_n u), ds_sel_c (ds_at_n u)] at k
          exact br_f (ds_neN (by omega) (by omega) e1) (nm_r (nI_1 s) k)
  have k := main (m + 1) 0 (by omega) (by omega)
  rw [ds_sel_0 (f := kn) (fun j h => by obtain ⟨r, h1, _⟩ := h; omega), ds_sel_0 (f := hb) (fun j h => by obtain ⟨r, h1, _⟩ := h; omega)] at k
  exact ⟨m + 1, k⟩
/-- what is left when a document is forgotten -/
theorem ds_pg_fr (hm : m ≤ 80) {n d : Nat} : ∀ n' r, n' < 3 → r < m → (n' ≠ n ∨ D r ≠ d) → ds_sel (ds_at n m (ds_pg D kn n d)) 0 kn (80 * n' + r) = kn (80 * n' + r) := by
  intro n' r hn' hr h
  refine ds_sel_f (fun w => ?_)
  by_cases e : n' = n
  · rw [e, ds_at_in hr] at w
    rcases h with h | h
    · exact h e
    · exact h w.1
  · exact ds_at_ne e hm (by omega) w
theorem ds_pg_0 {n d r : Nat} (hr : r < m) (hd : D r = d) : ds_sel (ds_at n m (ds_pg D kn n d)) 0 kn (80 * n + r) = 0 := by
  by_cases e : kn (80 * n + r) = 0
  · rw [ds_sel_f (fun w => ((ds_at_in hr).mp w).2 e)]; exact e
  · exact ds_sel_t ((ds_at_in hr).mpr ⟨hd, e⟩)
theorem ds_pg_le {n d j : Nat} (h : ds_sel (ds_at n m (ds_pg D kn n d)) 0 kn j ≠ 0) : kn j ≠ 0 := by
  by_cases e : ds_at n m (ds_pg D kn n d) j
  · rw [ds_sel_t e] at h; exact absurd rfl h
  · rw [ds_sel_f e] at h; exact h
theorem ds_INV_purge (I : ds_INV B m D P G C T Z dc pr vl mr gn lh cb lf kn kc hb lc ll ct st cp vs vw iv vv) {n d : Nat} (hn : n < 3) (hd : d < 8) {vs' vw' iv' vv' cp' : Nat → Int32} (v1 : ds_bo iv') (v2 : ds_VL vs' vw' iv' vv') (v3 : ∀ j, j ≠ 8 * n + d → iv' j = iv j ∧ vv' j = vv j) (v4 : ds_VW (ds_lf m D P (ds_sel (ds_at n m (ds_pg D kn n d)) 0 kn) n d) mr (ds_bh P G vl mr) vl (iv' (8 * n + d)) (vv' (8 * n + d))) (hc1 : ∀ a, a < 3 → cp' (3 * a + n) = 0) (hc2 : ∀ a t, a < 3 → t < 3 → t ≠ n → cp' (3 * a + t) = cp (3 * a + t)) : ds_INV B m D P G C (ds_un T (8 * n + d) 0) (ds_sel (fun j => ∃ a, a < 3 ∧ j = 3 * a + n) 0 Z) dc pr vl mr gn lh cb lf (ds_sel (ds_at n m (ds_pg D kn n d)) 0 kn) kc (ds_sel (ds_at n m (ds_pg D kn n d)) 0 hb) (upd lc (8 * n + d) 0) ll ct (upd st (8 * n + d) 0) cp' vs' vw' iv' vv' := by
  obtain ⟨⟨i1, i2, i3, i4⟩, ⟨i5, i6, i7⟩, ⟨i8, i9, i10⟩, ⟨i11, i12⟩⟩ := I
  have hm : m ≤ 80 := i1.1
  have fr := ds_pg_fr (D := D) (kn := kn) hm (n := n) (d := d)
  have Z0 : ∀ a t, a < 3 → t < 3 → t ≠ n → ds_sel (fun j => ∃ a, a < 3 ∧ j = 3 * a + n) 0 Z (3 * a + t) = Z (3 * a + t) := fun a t ha ht hne => ds_sel_f (fun w => by obtain ⟨b, b1, b2⟩ := w; omega)
  have Z1 : ∀ a, a < 3 → ds_sel (fun j => ∃ a, a < 3 ∧ j = 3 * a + n) 0 Z (3 * a + n) = 0 := fun a ha => ds_sel_t ⟨a, ha, rfl⟩
  refine ⟨⟨i1, i2, i3, i4⟩, ⟨⟨ds_sel_bo i5.1 (Or.inl rfl), ds_sel_bo i5.2.1 (Or.inl rfl), fun n' r hn' h1 h2 => ?_, fun n' r hn' hr hz => ?_, fun n' r p hn' hr hp hz => ?_⟩, fun n' r hn' hr hz => ?_, fun n' d' hn' hd' => ?_⟩, ⟨v1, v2, fun n' d' hn' hd' => ?_⟩, ⟨⟨i11.1, fun j hj => ?_, fun j hj => ?_⟩, i12.1, fun n' d' hn' hd' => ?_, fun n' d' e' hn' hd' he' => ?_, fun a t ha ht hne => ⟨?_, fun r hr h1 h2 => ?_⟩⟩⟩
  · refine (ds_sel_f (fun w => ?_)).trans (i5.2.2.1 n' r hn' h1 h2)
    obtain ⟨t, t1, t2, _⟩ := w
    omega
  · by_cases e : ds_at n m (ds_pg D kn n d) (80 * n' + r)
    · exact ds_sel_t e
    · rw [ds_sel_f e] at hz ⊢
      exact i5.2.2.2.1 n' r hn' hr hz
  · have hk := ds_pg_le hz
    have hq := i5.2.2.2.2 n' r p hn' hr hp hk
    have dp := ((i1.2.1 r hr).2.2.2.2 p hp).1
    have pr2 := (i1.2.1 r hr).2.1
    by_cases e : n' = n ∧ D r = d
    · rw [e.1, ds_pg_0 hr e.2] at hz; exact absurd rfl hz
    · rw [fr n' p hn' (by omega) (by rw [dp]; omega)]; exact hq
  · have hk := ds_pg_le hz
    have e : ¬ (n' = n ∧ D r = d) := fun e => by rw [e.1, ds_pg_0 hr e.2] at hz; exact absurd rfl hz
    rw [i6 n' r hn' hr hk]
    refine congrArg nI (ds_cn_c (fun s hs => ?_))
    by_cases y : P s = r + 1
    · have ds := ((i1.2.1 s hs).2.2.2.2 r y).1
      rw [fr n' s hn' hs (by rw [← ds]; omega)]
    · exact ⟨fun w => absurd w.1 y, fun w => absurd w.1 y⟩
  · by_cases e : n' = n ∧ d' = d
    · rw [e.1, e.2]
      refine ⟨0, fun _ => 0, pk_us, fun i hi => by omega, fun i hi => by omega, fun r hr => ?_, fun i j _ hj => by omega⟩
      exact absurd (ds_pg_0 hr.1 hr.2.1) hr.2.2.1
    · exact ds_LL_c (ds_LL_fr (N := 80) (i7 n' d' hn' hd') ds_bh_irr (fun x hx => by have := hx.1; omega) (pk_un (by omega)) (fun _ _ => rfl)) (fun x => ds_lf_fr i1 hn' fr (by omega) x) (fun _ _ _ _ w => w)
  · by_cases e : n' = n ∧ d' = d
    · rw [e.1, e.2]; exact v4
    · have hv := v3 (8 * n' + d') (by omega)
      rw [hv.1, hv.2]
      exact ds_VW_c (i10 n' d' hn' hd') (fun x => ds_lf_fr i1 hn' fr (by omega) x) (fun _ _ => rfl) (fun _ _ _ _ => Iff.rfl) (fun _ _ => rfl)
  · by_cases e : j = 8 * n + d
    · rw [e, pk_us, ds_uns]; rfl
    · rw [pk_un e, ds_unn e]; exact i11.2.1 j hj
  · obtain ⟨a, t, ha, ht, rfl⟩ : ∃ a t, a < 3 ∧ t < 3 ∧ j = 3 * a + t := ⟨j / 3, j % 3, by omega, by omega, by omega⟩
    by_cases e : t = n
    · rw [e, hc1 a ha, Z1 a ha]; rfl
    · rw [hc2 a t ha ht e, Z0 a t ha ht e]; exact i11.2.2 _ hj
  · obtain ⟨j1, j2⟩ := i12.2.1 n' d' hn' hd'
    by_cases e : n' = n ∧ d' = d
    · rw [e.1, e.2, ds_uns]
      exact ⟨by omega, fun _ r hr hr2 => ds_pg_0 hr hr2, fun _ => rfl⟩
    · rw [ds_unn (by omega)]
      refine ⟨j1, ?_⟩
      rw [j2]
      constructor
      · intro w r hr hr2
        rw [fr n' r hn' hr (by omega)]; exact w r hr hr2
      · intro w r hr hr2
        rw [← fr n' r hn' hr (by omega)]; exact w r hr hr2
  · by_cases e : n' = n ∧ d' = d
    · rw [e.1, e.2, ds_uns]; intro _; exact Or.inl rfl
    · rw [ds_unn (k := 8 * n + d) (j := 8 * n' + d') (by omega)]
      by_cases y : n' = n ∧ e' = d
      · rw [y.1, y.2, ds_uns]; intro w; exact Or.inl w
      · rw [ds_unn (by omega)]; exact i12.2.2.1 n' d' e' hn' hd' he'
  · by_cases e : t = n
    · rw [e, Z1 a ha]; omega
    · rw [Z0 a t ha ht e]; exact (i12.2.2.2 a t ha ht hne).1
  · have dr := (i1.2.1 r hr).1
    have hk := ds_pg_le h2
    have e : ¬ (a = n ∧ D r = d) := fun e => by rw [e.1, ds_pg_0 hr e.2] at h2; exact absurd rfl h2
    rw [ds_unn (by omega)] at h1
    by_cases y : t = n
    · rw [y, Z1 a ha] at h1
      have t0 : T (8 * a + D r) = 0 := by omega
      exact absurd ((i12.2.1 a (D r) ha dr).2.mp t0 r hr rfl) hk
    · rw [Z0 a t ha ht y] at h1
      rw [fr t r ht hr (Or.inl y)]
      exact (i12.2.2.2 a t ha ht hne).2 r hr h1 hk
theorem ds_x_pg (I : ds_INV B m D P G C T Z dc pr vl mr gn lh cb lf kn kc hb lc ll ct st cp vs vw iv vv) {n d : Nat} (hn : n < 3) (hd : d < 8) {post : Int32 → SX → Prop} (h0 : ds_cn (ds_pg D kn n d) m = 0 → post (-1000000003) (nI m, dc, pr, vl, mr, gn, lh, cb, lf, kn, kc, hb, lc, ll, ct, st, cp, vs, vw, iv, vv, qa, qb)) (h1 : ds_cn (ds_pg D kn n d) m ≠ 0 → ∀ vs' vw' iv' vv' cp' : Nat → Int32, ds_INV B m D P G C (ds_un T (8 * n + d) 0) (ds_sel (fun j => ∃ a, a < 3 ∧ j = 3 * a + n) 0 Z) dc pr vl mr gn lh cb lf (ds_sel (ds_at n m (ds_pg D kn n d)) 0 kn) kc (ds_sel (ds_at n m (ds_pg D kn n d)) 0 hb) (upd lc (8 * n + d) 0) ll ct (upd st (8 * n + d) 0) cp' vs' vw' iv' vv' → post (nI (ds_cn (ds_pg D kn n d) m)) (nI m, dc, pr, vl, mr, gn, lh, cb, lf, ds_sel (ds_at n m (ds_pg D kn n d)) 0 kn, kc, ds_sel (ds_at n m (ds_pg D kn n d)) 0 hb, upd lc (8 * n + d) 0, ll, ct, upd st (8 * n + d) 0, cp', vs', vw', iv', vv', qa, qb)) : ∃ f, wX_purge_24 post (nI n) (nI d) (nI m) f 0 0 dc pr vl mr gn lh cb lf kn kc hb lc ll ct st cp vs vw iv vv qa qb := by
  have I0 := I
  obtain ⟨⟨i1, i2, i3, i4⟩, ⟨i5, i6, i7⟩, ⟨i8, i9, i10⟩, ⟨i11, i12⟩⟩ := I
  have hm : m ≤ 80 := i1.1
  have main : ∀ (f s : Nat), s ≤ m → m - s < f → wX_purge_24 post (nI n) (nI d) (nI m) f (nI (ds_cn (ds_pg D kn n d) s)) (nI s) dc pr vl mr gn lh cb lf (ds_sel (ds_at n s (ds_pg D kn n d)) 0 kn) kc (ds_sel (ds_at n s (ds_pg D kn n d)) 0 hb) lc ll ct st cp vs vw iv vv qa qb := by
    intro f
    induction f with
    | zero => intro s h1 h2; omega
    | succ f ih =>
      intro s g1 g2
      rw [wX_purge_24]; dsimp only
      by_cases z : m ≤ s
      · have e : s = m := by omega
        have cm := ds_cn_le (ds_pg D kn n d) m
        rw [e]
        refine br_t (Int32.le_refl _) ?_
        by_cases y : ds_cn (ds_pg D kn n d) m = 0
        · have k := h0 y
          have nn := ds_cn_z.mp y
          refine br_t (by rw [y]; rfl) ?_
          rw [ds_sel_0 (f := kn) (fun j h => by obtain ⟨r, r1, _, r2⟩ := h; exact absurd r2 (nn r r1)), ds_sel_0 (f := hb) (fun j h => by obtain ⟨r, r1, _, r2⟩ := h; exact absurd r2 (nn r r1))]
          exact k
        · have i8' : vp_in (nI (8 * n + d)) 24 := ds_in (by omega) (by omega)
          rw [ds_8, ds_cl (n := 8 * n + d) (by omega)]
          have hL : ds_LL (ds_lf m D P (ds_sel (ds_at n m (ds_pg D kn n d)) 0 kn) n d) (ds_bh P G vl mr) (upd lc (8 * n + d) 0) ll (8 * n + d) (640 * n + 80 * d) := ⟨0, fun _ => 0, pk_us, fun i hi => by omega, fun i hi => by omega, fun r hr => absurd (ds_pg_0 hr.1 hr.2.1) hr.2.2.1, fun i j _ hj => by omega⟩
          refine br_f (nI_ne0 (by omega) (by omega)) ⟨i8', nm_e ⟨i8', nm_e (ds_x_renew i1 hn hd (fun x hx => hx.1) hL i8 i9 (fun vs' vw' iv' vv' v1 v2 v3 v4 => ?_))⟩⟩
          have loop : ∀ (f s : Nat) (cp' : Nat → Int32), s ≤ 3 → 3 - s < f → (∀ a, a < s → cp' (3 * a + n) = 0) → (∀ a t, a < 3 → t < 3 → t ≠ n → cp' (3 * a + t) = cp (3 * a + t)) → wX_purge_128 post (nI n) (nI (ds_cn (ds_pg D kn n d) m)) (nI m) f (nI s) dc pr vl mr gn lh cb lf (ds_sel (ds_at n m (ds_pg D kn n d)) 0 kn) kc (ds_sel (ds_at n m (ds_pg D kn n d)) 0 hb) (upd lc (8 * n + d) 0) ll ct (upd st (8 * n + d) 0) cp' vs' vw' iv' vv' qa qb := by
            intro f
            induction f with
            | zero => intro s cp' q1 q2; omega
            | succ f ih2 =>
              intro s cp' q1 q2 q3 q4
              rw [wX_purge_128]; dsimp only
              by_cases x : 3 ≤ s
              · exact br_t (nI_le (a := 3) x (by omega)) (h1 y _ _ _ _ _ (ds_INV_purge I0 hn hd v1 v2 v3 v4 (fun a ha => q3 a (by omega)) q4))
              · rw [ds_3, ds_cl (n := 3 * s + n) (by omega)]
                refine br_f (nI_ge (b := 3) (by omega) (by omega)) ⟨ds_in (by omega) (by omega), nm_e (nm_r (nI_1 s) (ih2 (s + 1) _ (by omega) (by omega) (fun a ha => ?_) (fun a t ha ht hne => ?_)))⟩
                · by_cases e : a = s
                  · rw [e, pk_us]
                  · rw [pk_un (by omega)]; exact q3 a (by omega)
                · rw [pk_un (by omega)]; exact q4 a t ha ht hne
          exact ⟨4, loop 4 0 cp (by omega) (by omega) (fun a ha => by omega) (fun _ _ _ _ _ => rfl)⟩
      · have k := ih (s + 1) (by omega) (by omega)
        have i : vp_in (nI (80 * n + s)) 240 := ds_in (by omega) (by omega)
        have e0 : ds_sel (ds_at n s (ds_pg D kn n d)) 0 kn (80 * n + s) = kn (80 * n + s) := ds_sel_f (ds_at_no (Nat.le_refl _))
        have hds := (i1.2.1 s (by omega)).1
        rw [ds_cl (n := s) (by omega), (i2 s (by omega)).1]
        refine br_f (nI_ge (by omega) (by omega)) (nm_r (ds_80 n s) ⟨ds_in (by omega) (by omega), ?_⟩)
        rw [ds_cl (n := 80 * n + s) (by omega), ds_vn0, e0]
        by_cases e1 : D s = d
        · refine br_t (by rw [e1]) ⟨i, br_c (fun y => ?_) (fun y => ?_)⟩
          · have u : ¬ ds_pg D kn n d s := fun u => u.2 y
            rw [ds_cn_f u, ds_sel_c (ds_at_n u), ds_sel_c (ds_at_n u)] at k
            exact nm_r (nI_1 s) k
          · have u : ds_pg D kn n d s := ⟨e1, y⟩
            rw [ds_cn_t u, ← ds_sel_u (ds_at_s u), ← ds_sel_u (ds_at_s u)] at k
            exact ⟨i, nm_e ⟨i, nm_e (nm_r (nI_1 _) (nm_r (nI_1 s) k))⟩⟩
        · have u : ¬ ds_pg D kn n d s := fun u => e1 u.1
          rw [ds_cn_f u, ds_sel_c (ds_at_n u), ds_sel_c (ds_at_n u)] at k
          exact br_f (ds_neN (by omega) (by omega) e1) (nm_r (nI_1 s) k)
  have k := main (m + 1) 0 (by omega) (by omega)
  rw [ds_sel_0 (f := kn) (fun j h => by obtain ⟨r, h1, _⟩ := h; omega), ds_sel_0 (f := hb) (fun j h => by obtain ⟨r, h1, _⟩ := h; omega)] at k
  exact ⟨m + 1, k⟩
end
theorem i_vc_purge {k : Nat} {u : SX} {v : SY} (I : i_Rel k u v) (hk : k + 5 ≤ 2560) (v1 : Int32) (v2 : Int32) : wpX_purge (fun r u' => wpY_purge (fun r' v' => r' = r ∧ i_Rel (k + 5) u' v') v v1 v2) u v1 v2 := by
  refine ds_el (Q := fun u v => wpX_purge (fun r u' => wpY_purge (fun r' v' => r' = r ∧ i_Rel (k + 5) u' v') v v1 v2) u v1 v2) I ?_
  intro m D P G C T Z dc pr vl mr gn lh cb lf kn kc hb lc ll ct st cp vs vw iv vv qa qb J
  unfold wpX_purge wpY_purge
  dsimp only
  rcases ds_arg 3 (by omega) v1 with ⟨n, hn, rfl⟩ | h1
  · rcases ds_arg 8 (by omega) v2 with ⟨d, hd, rfl⟩ | h2
    · refine ds_x_bs hn (br_t rfl (ds_x_bd hd (br_t rfl (ds_x_pg J hn hd (fun h0 => ?_) (fun h0 vs' vw' iv' vv' cp' J2 => ?_)))))
      · exact ds_y_id hn hd (br_f ds_10 (ds_y_pg J hn hd (fun _ => ⟨rfl, ds_rel J (by omega)⟩) (fun h => absurd h0 h)))
      · exact ds_y_id hn hd (br_f ds_10 (ds_y_pg J hn hd (fun h => absurd h h0) (fun _ => ⟨rfl, ds_rel J2 (by omega)⟩)))
    · exact ds_x_bs hn (br_t rfl (ds_x_bdn h2 (br_f ds_10 (ds_y_idd hn h2 (br_t rfl ⟨rfl, ds_rel J (by omega)⟩)))))
  · exact ds_x_bsn h1 (br_f ds_10 (ds_y_idn h1 (br_t rfl ⟨rfl, ds_rel J (by omega)⟩)))
end
section
/-! one document copied from store n to store t -/
def ds_cq (D : Nat → Nat) (kn : Nat → Int32) (n d r : Nat) : Prop := D r = d ∧ kn (80 * n + r) ≠ 0
def ds_cb (m : Nat) (D P : Nat → Nat) (kn hb : Nat → Int32) (n d r : Nat) : Prop := ds_lf m D P kn n d r ∧ hb (80 * n + r) ≠ 0
def ds_ah (D : Nat → Nat) (kn : Nat → Int32) (n t d s : Nat) : Prop := ∃ r, r < s ∧ D r = d ∧ kn (80 * n + r) ≠ 0 ∧ kn (80 * t + r) = 0
section
variable {m : Nat} {D P G : Nat → Nat} {V M kn hb : Nat → Int32}
theorem ds_cq_n (hm : m ≤ 80) {n t d s : Nat} (hne : n ≠ t) (hs : s ≤ m) {r : Nat} (hr : r < 80) {Q : Nat → Prop} {f : Nat → Int32} : ds_sel (ds_at t s Q) 1 f (80 * n + r) = f (80 * n + r) := ds_sel_f (ds_at_ne hne (by omega) hr)
theorem ds_cq_fr (hm : m ≤ 80) {n t d : Nat} : ∀ n' r, n' < 3 → r < m → (n' ≠ t ∨ D r ≠ d) → ds_sel (ds_at t m (ds_cq D kn n d)) 1 kn (80 * n' + r) = kn (80 * n' + r) := by
  intro n' r hn' hr h
  refine ds_sel_f (fun w => ?_)
  by_cases e : n' = t
  · rw [e, ds_at_in hr] at w
    rcases h with h | h
    · exact h e
    · exact h w.1
  · exact ds_at_ne e hm (by omega) w
theorem ds_cq_lf (hm : m ≤ 80) {n t d s : Nat} (hne : n ≠ t) (hs : s ≤ m) {Q : Nat → Prop} (x : Nat) : ds_lf m D P kn n d x ↔ ds_lf m D P (ds_sel (ds_at t s Q) 1 kn) n d x := by
  have key : ∀ r, r < m → ds_sel (ds_at t s Q) 1 kn (80 * n + r) = kn (80 * n + r) := fun r hr => ds_cq_n (d := d) hm hne hs (by omega)
  constructor
  · intro h
    refine ⟨h.1, h.2.1, by rw [key x h.1]; exact h.2.2.1, fun y hy hp => ?_⟩
    rw [key y hy]; exact h.2.2.2 y hy hp
  · intro h
    refine ⟨h.1, h.2.1, by have k := h.2.2.1; rw [key x h.1] at k; exact k, fun y hy hp => ?_⟩
    have k := h.2.2.2 y hy hp
    rw [key y hy] at k; exact k
end
section
variable {B m : Nat} {D P G C T Z : Nat → Nat} {dc pr vl mr gn lh cb lf kn kc hb lc ll ct st cp vs vw iv vv qa qb : Nat → Int32}
theorem ds_y_ahead (hT : ds_TI m D P G vl mr) (hR : ds_rp m D P dc pr) (hk : ds_bo kn) {n t d : Nat} (hn : n < 3) (ht : t < 3) (hd : d < 8) {post : Int32 → Prop} (hp : post (nI (ds_b (ds_ah D kn n t d m)))) : wpY_isAhead post (nI m, dc, pr, vl, mr, kn, hb, ct, st) (nI n) (nI t) (nI d) := by
  have hm : m ≤ 80 := hT.1
  have main : ∀ (f s : Nat), s ≤ m → m - s < f → ¬ ds_ah D kn n t d s → wY_isAhead_3 post (nI n) (nI t) (nI d) (nI m) dc pr vl mr kn hb ct st f (nI s) := by
    intro f
    induction f with
    | zero => intro s h1 h2; omega
    | succ f ih =>
      intro s h1 h2 h3
      rw [wY_isAhead_3]; dsimp only
      by_cases z : m ≤ s
      · have e : s = m := by omega
        rw [e] at h3
        exact br_t (nI_le z (by omega)) (ds_post_f h3 hp)
      · have hds := (hT.2.1 s (by omega)).1
        have nx : ¬ (D s = d ∧ kn (80 * n + s) ≠ 0 ∧ kn (80 * t + s) = 0) → wY_isAhead_3 post (nI n) (nI t) (nI d) (nI m) dc pr vl mr kn hb ct st f (nI (s + 1)) := by
          intro w
          refine ih (s + 1) (by omega) (by omega) (fun u => ?_)
          obtain ⟨r, r1, r2⟩ := u
          by_cases e : r = s
          · rw [e] at r2; exact w r2
          · exact h3 ⟨r, by omega, r2⟩
        rw [ds_cl (n := s) (by omega), (hR s (by omega)).1, nI_1 s]
        refine br_f (nI_ge (by omega) (by omega)) ⟨ds_in (by omega) (by omega), ?_⟩
        by_cases e : D s = d
        · refine br_t (by rw [e]) (ds_y_kn hk hn (by omega) (br_c (fun y => nm_e (nx (fun w => w.2.1 y))) (fun y => ds_y_kn hk ht (by omega) (br_c (fun q => ds_post_t ⟨s, by omega, e, y, q⟩ hp) (fun q => nm_e (nx (fun w => q w.2.2)))))))
        · exact br_f (ds_neN (by omega) (by omega) e) (nm_e (nx (fun w => e w.1)))
  exact ⟨m + 1, main (m + 1) 0 (by omega) (by omega) (fun u => by obtain ⟨r, r1, _⟩ := u; omega)⟩
theorem ds_y_cd (hT : ds_TI m D P G vl mr) (hR : ds_rp m D P dc pr) (hK : ds_KI m P kn hb) (hZ : ds_ZR C T Z ct st cp) {n t d : Nat} (hn : n < 3) (ht : t < 3) (hne : n ≠ t) (hd : d < 8) {post : SY → Prop} (hp : post (nI m, dc, pr, vl, mr, ds_sel (ds_at t m (ds_cq D kn n d)) 1 kn, ds_sel (ds_at t m (ds_cb m D P kn hb n d)) 1 hb, upd ct t (nI (C t + 1)), upd st (8 * t + d) (nI (C t + 1)))) : wpY_copyDocument post (nI m, dc, pr, vl, mr, kn, hb, ct, st) (nI n) (nI t) (nI d) := by
  have hm : m ≤ 80 := hT.1
  have main : ∀ (f s : Nat), s ≤ m → m - s < f → wY_copyDocument_3 post (nI n) (nI t) (nI d) (nI m) f (nI s) dc pr vl mr (ds_sel (ds_at t s (ds_cq D kn n d)) 1 kn) (ds_sel (ds_at t s (ds_cb m D P kn hb n d)) 1 hb) ct st := by
    intro f
    induction f with
    | zero => intro s h1 h2; omega
    | succ f ih =>
      intro s h1 h2
      rw [wY_copyDocument_3]; dsimp only
      by_cases z : m ≤ s
      · have e : s = m := by omega
        rw [e]
        exact br_t (Int32.le_refl _) (ds_y_learn hZ ht hd hp)
      · have k := ih (s + 1) (by omega) (by omega)
        have i : vp_in (nI (80 * t + s)) 240 := ds_in (by omega) (by omega)
        have i2 : vp_in (nI (80 * n + s)) 240 := ds_in (by omega) (by omega)
        have hds := (hT.2.1 s (by omega)).1
        have kb : ds_bo (ds_sel (ds_at t s (ds_cq D kn n d)) 1 kn) := ds_sel_bo hK.1 (Or.inr rfl)
        have kb1 : ds_bo (ds_sel (ds_at t (s + 1) (ds_cq D kn n d)) 1 kn) := ds_sel_bo hK.1 (Or.inr rfl)
        have e0 : ds_sel (ds_at t s (ds_cq D kn n d)) 1 kn (80 * n + s) = kn (80 * n + s) := ds_cq_n (d := d) hm hne (by omega) (by omega)
        have e1 : ds_sel (ds_at t s (ds_cb m D P kn hb n d)) 1 hb (80 * t + s) = hb (80 * t + s) := ds_sel_f (ds_at_no (Nat.le_refl _))
        have e2 : ds_sel (ds_at t s (ds_cb m D P kn hb n d)) 1 hb (80 * n + s) = hb (80 * n + s) := ds_cq_n (d := d) hm hne (by omega) (by omega)
        have skip : ¬ ds_cq D kn n d s → wY_copyDocument_3 post (nI n) (nI t) (nI d) (nI m) f (nI (s + 1)) dc pr vl mr (ds_sel (ds_at t s (ds_cq D kn n d)) 1 kn) (ds_sel (ds_at t s (ds_cb m D P kn hb n d)) 1 hb) ct st := by
          intro w
          rw [ds_sel_c (ds_at_n w), ds_sel_c (ds_at_n (fun u => w ⟨u.1.2.1, u.1.2.2.1⟩))] at k
          exact k
        rw [ds_80, ds_cl (n := s) (by omega), (hR s (by omega)).1, nI_1 s, ds_vn0, ds_vn1]
        refine br_f (nI_ge (by omega) (by omega)) ⟨ds_in (by omega) (by omega), ?_⟩
        by_cases e : D s = d
        · refine br_t (by rw [e]) (ds_y_kn kb hn (by omega) ?_)
          rw [e0]
          refine br_c (fun y => nm_e (skip (fun w => w.2 y))) (fun y => ⟨i, nm_r (e' := ds_sel (ds_at t (s + 1) (ds_cq D kn n d)) 1 kn) ?_ ⟨i, ?_⟩⟩)
          · rw [ds_cl (n := 80 * t + s) (by omega)]
            exact ds_sel_u (ds_at_s ⟨e, y⟩)
          · rw [ds_cl (n := 80 * t + s) (by omega), e1]
            refine br_c (fun q => ds_y_lf hT hR kb1 hn hd (by omega) (ds_brb (fun w => ?_) (fun w => ?_))) (fun q => ?_)
            · rw [ds_80, ds_cl (n := 80 * n + s) (by omega), e2]
              refine ⟨i2, br_c (fun u => ⟨i, ?_⟩) (fun u => ⟨i, ?_⟩)⟩
              · rw [ds_sel_c (Q := ds_at t (s + 1) (ds_cb m D P kn hb n d)) (ds_at_n (fun v => v.2 u))] at k
                exact nm_r (ds_us _ _ (e1.trans q)) (nm_e k)
              · have v : ds_cb m D P kn hb n d s := ⟨(ds_cq_lf hm hne (by omega) s).mpr w, u⟩
                rw [← ds_sel_u (ds_at_s v)] at k
                exact nm_e (nm_e k)
            · have v : ¬ ds_cb m D P kn hb n d s := fun v => w ((ds_cq_lf hm hne (by omega) s).mp v.1)
              rw [ds_sel_c (Q := ds_at t (s + 1) (ds_cb m D P kn hb n d)) (ds_at_n v)] at k
              exact ⟨i, nm_r (ds_us _ _ (e1.trans q)) (nm_e k)⟩
            · have q1 : hb (80 * t + s) = 1 := ds_bo1 hK.2.1 q
              refine ⟨i, ?_⟩
              by_cases v : ds_cb m D P kn hb n d s
              · rw [← ds_sel_u (ds_at_s v)] at k
                exact nm_e (nm_e k)
              · rw [ds_sel_c (Q := ds_at t (s + 1) (ds_cb m D P kn hb n d)) (ds_at_n v)] at k
                exact nm_r (ds_us _ _ (e1.trans q1)) (nm_e k)
        · exact br_f (ds_neN (by omega) (by omega) e) (nm_e (skip (fun w => e w.1)))
  have k := main (m + 1) 0 (by omega) (by omega)
  rw [ds_sel_0 (f := kn) (fun j h => by obtain ⟨r, h1, _⟩ := h; omega), ds_sel_0 (f := hb) (fun j h => by obtain ⟨r, h1, _⟩ := h; omega)] at k
  exact ⟨m + 1, k⟩
theorem ds_x_cbod (hT : ds_TI m D P G vl mr) (hb2 : ds_bo hb) {n t d : Nat} (hn : n < 3) (ht : t < 3) (hne : n ≠ t) (hd : d < 8) {S : Nat → Prop} (hS : ∀ x, S x → x < m) (hL : ds_LL S (ds_bh P G vl mr) lc ll (8 * n + d) (640 * n + 80 * d)) {post : SX → Prop} (hp : post (nI m, dc, pr, vl, mr, gn, lh, cb, lf, kn, kc, ds_sel (ds_at t m (fun r => S r ∧ hb (80 * n + r) ≠ 0)) 1 hb, lc, ll, ct, st, cp, vs, vw, iv, vv, qa, qb)) : wpX_copyBodies post (nI m, dc, pr, vl, mr, gn, lh, cb, lf, kn, kc, hb, lc, ll, ct, st, cp, vs, vw, iv, vv, qa, qb) (nI n) (nI t) (nI d) := by
  have hm : m ≤ 80 := hT.1
  obtain ⟨c, L, e1, e2, hSE⟩ := hL
  have hc : c ≤ m := ds_se_le hSE ds_bh_irr hS
  have Lm : ∀ i, i < c → L i < m := fun i hi => hS _ (hSE.1 i hi)
  have main : ∀ (f s : Nat), s ≤ c → c - s < f → wX_copyBodies_16 post (nI n) (nI t) (nI d) (nI c) (nI m) f (nI s) dc pr vl mr gn lh cb lf kn kc (ds_sel (fun j => ∃ i, i < s ∧ j = 80 * t + L i ∧ hb (80 * n + L i) ≠ 0) 1 hb) lc ll ct st cp vs vw iv vv qa qb := by
    intro f
    induction f with
    | zero => intro s h1 h2; omega
    | succ f ih =>
      intro s h1 h2
      rw [wX_copyBodies_16]; dsimp only
      by_cases z : c ≤ s
      · refine br_t (nI_le z (by omega)) ?_
        have e : ds_sel (fun j => ∃ i, i < s ∧ j = 80 * t + L i ∧ hb (80 * n + L i) ≠ 0) 1 hb = ds_sel (ds_at t m (fun r => S r ∧ hb (80 * n + r) ≠ 0)) 1 hb := by
          refine ds_sel_c (fun j => ?_)
          constructor
          · intro ⟨i, i1, i2, i3⟩
            exact ⟨L i, Lm i (by omega), i2, hSE.1 i (by omega), i3⟩
          · intro ⟨r, r1, r2, r3, r4⟩
            obtain ⟨i, i1, rfl⟩ := hSE.2.1 r r3
            exact ⟨i, by omega, r2, r4⟩
        rw [e]
        exact hp
      · have k := ih (s + 1) (by omega) (by omega)
        have lm := Lm s (by omega)
        have i : vp_in (nI (80 * t + L s)) 240 := ds_in (by omega) (by omega)
        have i2 : vp_in (nI (80 * n + L s)) 240 := ds_in (by omega) (by omega)
        have f1 : ds_sel (fun j => ∃ i, i < s ∧ j = 80 * t + L i ∧ hb (80 * n + L i) ≠ 0) 1 hb (80 * t + L s) = hb (80 * t + L s) := by
          refine ds_sel_f (fun w => ?_)
          obtain ⟨j, j1, j2, _⟩ := w
          have := ds_se_inj hSE ds_bh_irr (i := s) (j := j) (by omega) (by omega) (by omega)
          omega
        have f2 : ds_sel (fun j => ∃ i, i < s ∧ j = 80 * t + L i ∧ hb (80 * n + L i) ≠ 0) 1 hb (80 * n + L s) = hb (80 * n + L s) := by
          refine ds_sel_f (fun w => ?_)
          obtain ⟨j, j1, j2, _⟩ := w
          have := Lm j (by omega)
          omega
        refine br_f (nI_ge (by omega) (by omega)) (ds_x_la hn hd (by omega) ?_)
        rw [e2 s (by omega), ds_80, ds_80, ds_cl (n := 80 * n + L s) (by omega), ds_cl (n := 80 * t + L s) (by omega), f1, f2, ds_vn0, ds_vn1, nI_1 s]
        have same : hb (80 * n + L s) = 0 → ds_sel (fun j => ∃ i, i < s + 1 ∧ j = 80 * t + L i ∧ hb (80 * n + L i) ≠ 0) 1 hb = ds_sel (fun j => ∃ i, i < s ∧ j = 80 * t + L i ∧ hb (80 * n + L i) ≠ 0) 1 hb := by
          intro w
          refine ds_sel_c (fun j => ?_)
          constructor
          · intro ⟨i, i1, i2, i3⟩
            by_cases e : i = s
            · rw [e] at i3; exact absurd w i3
            · exact ⟨i, by omega, i2, i3⟩
          · intro ⟨i, i1, i2, i3⟩
            exact ⟨i, by omega, i2, i3⟩
        have more : hb (80 * n + L s) ≠ 0 → upd (ds_sel (fun j => ∃ i, i < s ∧ j = 80 * t + L i ∧ hb (80 * n + L i) ≠ 0) 1 hb) (80 * t + L s) 1 = ds_sel (fun j => ∃ i, i < s + 1 ∧ j = 80 * t + L i ∧ hb (80 * n + L i) ≠ 0) 1 hb := by
          intro w
          refine ds_sel_u (fun j => ?_)
          constructor
          · intro ⟨i, i1, i2, i3⟩
            by_cases e : i = s
            · exact Or.inr (by rw [i2, e])
            · exact Or.inl ⟨i, by omega, i2, i3⟩
          · intro u
            rcases u with ⟨i, i1, i2, i3⟩ | u
            · exact ⟨i, by omega, i2, i3⟩
            · exact ⟨s, by omega, u, w⟩
        refine ⟨i2, nm_e ⟨i, br_c (fun y => br_c (fun q => ⟨i, ?_⟩) (fun q => ⟨i, ?_⟩)) (fun y => ⟨i, ?_⟩)⟩⟩
        · rw [same q] at k
          exact nm_r (ds_us _ _ (f1.trans y)) (nm_e k)
        · exact nm_r (more q) (nm_e k)
        · by_cases q : hb (80 * n + L s) = 0
          · rw [same q] at k
            exact nm_r (ds_us _ _ (f1.trans (ds_bo1 hb2 y))) (nm_e k)
          · exact nm_r (more q) (nm_e k)
  have k := main (c + 1) 0 (by omega) (by omega)
  rw [ds_sel_0 (f := hb) (fun j h => by obtain ⟨r, h1, _⟩ := h; omega)] at k
  unfold wpX_copyBodies
  dsimp only
  rw [ds_8, ds_cl (n := 8 * n + d) (by omega)]
  exact ⟨ds_in (by omega) (by omega), nm_r e1 ⟨c + 1, k⟩⟩
theorem ds_x_cd (I : ds_INV B m D P G C T Z dc pr vl mr gn lh cb lf kn kc hb lc ll ct st cp vs vw iv vv) {n t d : Nat} (hn : n < 3) (ht : t < 3) (hne : n ≠ t) (hd : d < 8) {post : Int32 → SX → Prop} (h0 : ¬ ds_ah D kn n t d m → ∀ kc' lc' ll' qa' qb' : Nat → Int32, ds_INV B m D P G C T Z dc pr vl mr gn lh cb lf kn kc' hb lc' ll' ct st cp vs vw iv vv → post 0 (nI m, dc, pr, vl, mr, gn, lh, cb, lf, kn, kc', hb, lc', ll', ct, st, cp, vs, vw, iv, vv, qa', qb'))
    (h1 : ds_ah D kn n t d m → ∀ kc' lc' ll' vs' vw' iv' vv' qa' qb' : Nat → Int32, ds_INV (B + 1) m D P G (ds_un C t (C t + 1)) (ds_un T (8 * t + d) (C t + 1)) Z dc pr vl mr gn lh cb lf (ds_sel (ds_at t m (ds_cq D kn n d)) 1 kn) kc' (ds_sel (ds_at t m (ds_cb m D P kn hb n d)) 1 hb) lc' ll' (upd ct t (nI (C t + 1))) (upd st (8 * t + d) (nI (C t + 1))) cp vs' vw' iv' vv' → post 1 (nI m, dc, pr, vl, mr, gn, lh, cb, lf, ds_sel (ds_at t m (ds_cq D kn n d)) 1 kn, kc', ds_sel (ds_at t m (ds_cb m D P kn hb n d)) 1 hb, lc', ll', upd ct t (nI (C t + 1)), upd st (8 * t + d) (nI (C t + 1)), cp, vs', vw', iv', vv', qa', qb')) : wpX_copyDocument post (nI m, dc, pr, vl, mr, gn, lh, cb, lf, kn, kc, hb, lc, ll, ct, st, cp, vs, vw, iv, vv, qa, qb) (nI n) (nI t) (nI d) := by
  obtain ⟨⟨i1, i2, i3, i4⟩, ⟨i5, i6, i7⟩, ⟨i8, i9, i10⟩, ⟨i11, i12⟩⟩ := I
  have hm : m ≤ 80 := i1.1
  have main : ∀ (f s : Nat) (kc' lc' ll' qa' qb' : Nat → Int32), s ≤ m → m - s < f → ds_KI m P (ds_sel (ds_at t s (ds_cq D kn n d)) 1 kn) hb → ds_CI m P (ds_sel (ds_at t s (ds_cq D kn n d)) 1 kn) kc' → ds_LI m D P (ds_bh P G vl mr) (ds_sel (ds_at t s (ds_cq D kn n d)) 1 kn) lc' ll' → wX_copyDocument_6 post (nI n) (nI t) (nI d) f (nI (ds_b (ds_ah D kn n t d s))) (nI s) (nI m) dc pr vl mr gn lh cb lf (ds_sel (ds_at t s (ds_cq D kn n d)) 1 kn) kc' hb lc' ll' ct st cp vs vw iv vv qa' qb' := by
    intro f
    induction f with
    | zero => intro s kc' lc' ll' qa' qb' g1 g2; omega
    | succ f ih =>
      intro s kc' lc' ll' qa' qb' g1 g2 g3 g4 g5
      rw [wX_copyDocument_6]; dsimp only
      by_cases z : m ≤ s
      · have e : s = m := by omega
        rw [e] at g3 g4 g5 ⊢
        refine br_t (Int32.le_refl _) (ds_brb (fun a => ?_) (fun a => ?_))
        · rw [ds_bt a]
          refine ds_x_cbod i1 i5.2.1 hn ht hne hd (S := ds_lf m D P kn n d) (fun x hx => hx.1) (ds_LL_c (g5 n d hn hd) (fun x => (ds_cq_lf hm hne (Nat.le_refl _) x).symm) (fun _ _ _ _ w => w)) ?_
          refine ds_x_stamp i11 ht hd (ds_x_renew i1 ht hd (fun x hx => hx.1) (g5 t d ht hd) i8 i9 (fun vs' vw' iv' vv' v1 v2 v3 v4 => ⟨ds_nar (Or.inr rfl), ?_⟩))
          have fr := ds_cq_fr (D := D) (kn := kn) hm (n := n) (t := t) (d := d)
          refine h1 a kc' lc' ll' vs' vw' iv' vv' qa' qb' ⟨⟨i1, i2, i3, i4⟩, ⟨⟨g3.1, ds_sel_bo i5.2.1 (Or.inr rfl), g3.2.2.1, fun n' r hn' hr hz => ?_, g3.2.2.2.2⟩, g4, g5⟩, ⟨v1, v2, fun n' d' hn' hd' => ?_⟩, ⟨ds_ZR_st i11 ht hd, ds_ZI_st (fun s hs => (i1.2.1 s hs).1) i12 ht hd fr (fun r hr h => ?_) ?_⟩⟩
          · refine (ds_sel_f (fun w => ?_)).trans (g3.2.2.2.1 n' r hn' hr hz)
            obtain ⟨x, x1, x2, x3⟩ := w
            have y : ds_at t m (ds_cq D kn n d) (80 * n' + r) := ⟨x, x1, x2, x3.1.2.1, x3.1.2.2.1⟩
            rw [ds_sel_t y] at hz
            exact absurd hz ds_10
          · by_cases e : n' = t ∧ d' = d
            · rw [e.1, e.2]; exact v4
            · have hv := v3 (8 * n' + d') (by omega)
              rw [hv.1, hv.2]
              exact ds_VW_c (i10 n' d' hn' hd') (fun x => ds_lf_fr i1 hn' fr (by omega) x) (fun _ _ => rfl) (fun _ _ _ _ => Iff.rfl) (fun _ _ => rfl)
          · by_cases e : ds_at t m (ds_cq D kn n d) (80 * t + r)
            · rw [ds_sel_t e]; exact ds_10
            · rw [ds_sel_f e]; exact h
          · obtain ⟨r, r1, r2, r3, _⟩ := a
            exact ⟨r, r1, r2, by rw [ds_sel_t ⟨r, r1, rfl, r2, r3⟩]; exact ds_10⟩
        · have same : ds_sel (ds_at t m (ds_cq D kn n d)) 1 kn = kn := by
            refine ds_sel_0 (fun j h => ?_)
            obtain ⟨r, r1, r2, r3⟩ := h
            rw [r2]
            refine ds_bo1 i5.1 (fun w => a ⟨r, r1, r3.1, r3.2, w⟩)
          rw [same] at g3 g4 g5 ⊢
          rw [ds_bf a]
          exact ⟨ds_nar (Or.inl rfl), h0 a kc' lc' ll' qa' qb' ⟨⟨i1, i2, i3, i4⟩, ⟨i5, g4, g5⟩, ⟨i8, i9, i10⟩, ⟨i11, i12⟩⟩⟩
      · have hds := (i1.2.1 s (by omega)).1
        have e0 : ds_sel (ds_at t s (ds_cq D kn n d)) 1 kn (80 * n + s) = kn (80 * n + s) := ds_cq_n (d := d) hm hne (by omega) (by omega)
        have e1 : ds_sel (ds_at t s (ds_cq D kn n d)) 1 kn (80 * t + s) = kn (80 * t + s) := ds_sel_f (ds_at_no (Nat.le_refl _))
        have skip : ¬ (D s = d ∧ kn (80 * n + s) ≠ 0 ∧ kn (80 * t + s) = 0) → wX_copyDocument_6 post (nI n) (nI t) (nI d) f (nI (ds_b (ds_ah D kn n t d s))) (nI (s + 1)) (nI m) dc pr vl mr gn lh cb lf (ds_sel (ds_at t s (ds_cq D kn n d)) 1 kn) kc' hb lc' ll' ct st cp vs vw iv vv qa' qb' := by
          intro w
          have same : ds_sel (ds_at t (s + 1) (ds_cq D kn n d)) 1 kn = ds_sel (ds_at t s (ds_cq D kn n d)) 1 kn := by
            by_cases q : ds_cq D kn n d s
            · rw [← ds_sel_u (ds_at_s q)]
              refine ds_us _ _ (e1.trans (ds_bo1 i5.1 (fun u => w ⟨q.1, q.2, u⟩)))
            · exact ds_sel_c (ds_at_n q)
          have ae : ds_ah D kn n t d (s + 1) ↔ ds_ah D kn n t d s := by
            constructor
            · intro ⟨r, r1, r2⟩
              by_cases e : r = s
              · rw [e] at r2; exact absurd r2 w
              · exact ⟨r, by omega, r2⟩
            · intro ⟨r, r1, r2⟩
              exact ⟨r, by omega, r2⟩
          have k := ih (s + 1) kc' lc' ll' qa' qb' (by omega) (by omega) (by rw [same]; exact g3) (by rw [same]; exact g4) (by rw [same]; exact g5)
          rw [same, ds_bc ae] at k
          exact k
        rw [ds_cl (n := s) (by omega), (i2 s (by omega)).1, nI_1 s, ds_80, ds_80, ds_cl (n := 80 * n + s) (by omega), ds_cl (n := 80 * t + s) (by omega), e0, e1]
        refine br_f (nI_ge (by omega) (by omega)) ⟨ds_in (by omega) (by omega), ?_⟩
        by_cases e : D s = d
        · refine br_t (by rw [e]) ⟨ds_in (by omega) (by omega), br_c (fun y => nm_e (skip (fun w => w.2.1 y))) (fun y => ⟨ds_in (by omega) (by omega), br_c (fun q => ?_) (fun q => nm_e (skip (fun w => q w.2.2)))⟩)⟩
          have par : ∀ p, P s = p + 1 → ds_sel (ds_at t s (ds_cq D kn n d)) 1 kn (80 * t + p) ≠ 0 := by
            intro p hp
            have pp := (i1.2.1 s (by omega)).2.1
            have dp := ((i1.2.1 s (by omega)).2.2.2.2 p hp).1
            have kp := i5.2.2.2.2 n s p hn (by omega) hp y
            rw [ds_sel_t ⟨p, by omega, rfl, dp.trans e, kp⟩]
            exact ds_10
          refine ds_x_learn i1 i2 i3 g3 g4 g5 ht (by omega) (e1.trans q) par (fun kc2 lc2 ll2 qa2 qb2 c1 c2 => nm_e ?_)
          have kin := ds_KI_in i1 g3 ht (r := s) (by omega) par
          rw [ds_sel_u (ds_at_s (Q := ds_cq D kn n d) ⟨e, y⟩)] at c1 c2 kin ⊢
          have k := ih (s + 1) kc2 lc2 ll2 qa2 qb2 (by omega) (by omega) kin c1 c2
          rw [ds_bt (p := ds_ah D kn n t d (s + 1)) ⟨s, by omega, e, y, q⟩] at k
          exact k
        · exact br_f (ds_neN (by omega) (by omega) e) (nm_e (skip (fun w => e w.1)))
  have z0 : ds_sel (ds_at t 0 (ds_cq D kn n d)) 1 kn = kn := ds_sel_0 (fun j h => by obtain ⟨r, h1, _⟩ := h; omega)
  have k := main (m + 1) 0 kc lc ll qa qb (by omega) (by omega) (by rw [z0]; exact i5) (by rw [z0]; exact i6) (by rw [z0]; exact i7)
  rw [z0, ds_bf (p := ds_ah D kn n t d 0) (fun u => by obtain ⟨r, r1, _⟩ := u; omega)] at k
  exact ⟨m + 1, k⟩
end
end
section
/-! copy: X's loop, Y's loop carried along -/
def ds_nx (τ : Nat → Nat) (s : Nat) (x : Int32) : Prop := (∃ d, d < 8 ∧ x = nI d ∧ s < τ d ∧ ∀ e, e < 8 → s < τ e → τ d ≤ τ e) ∨ (x = -1 ∧ ∀ e, e < 8 → τ e ≤ s)
noncomputable def ds_mu (τ : Nat → Nat) (s : Nat) : Nat := ds_cn (fun e => s < τ e) 8
theorem ds_mu_lt {τ : Nat → Nat} {s d : Nat} (hd : d < 8) (h : s < τ d) : ds_mu τ (τ d) < ds_mu τ s := by
  have k1 := ds_cn_u (p := fun e => τ d < τ e) (q := fun e => τ d < τ e ∨ e = d) (x := d) (N := 8) (fun w => by omega) (Or.inr rfl) (fun e he => ⟨fun w => w.elim (fun y => y) (fun y => absurd y he), Or.inl⟩) hd
  have k2 := ds_cn_sub (p := fun e => τ d < τ e ∨ e = d) (q := fun e => s < τ e) (N := 8) (fun e _ w => w.elim (fun y => by omega) (fun y => by rw [y]; exact h))
  unfold ds_mu
  omega
theorem ds_mu_le {τ : Nat → Nat} {s z : Nat} (h : s ≤ z) : ds_mu τ z ≤ ds_mu τ s := ds_cn_sub (fun e _ w => by omega)
theorem ds_nx_u {τ : Nat → Nat} (hdi : ∀ d e, d < 8 → e < 8 → τ d = τ e → τ d = 0 ∨ d = e) {s d : Nat} {x : Int32} (hd : d < 8) (h1 : s < τ d) (h2 : ∀ e, e < 8 → s < τ e → τ d ≤ τ e) (hx : ds_nx τ s x) : x = nI d := by
  rcases hx with ⟨e, e1, rfl, e2, e3⟩ | ⟨_, h⟩
  · have a := h2 e e1 e2
    have b := e3 d hd h1
    rcases hdi d e hd e1 (by omega) with w | w
    · omega
    · rw [w]
  · have := h d hd
    omega
section
variable {m : Nat} {mk : Int32} {D P G C T Z τ : Nat → Nat} {dc pr vl mr gn lh cb lf kn kc hb lc ll ct st cp vs vw iv vv qa qb : Nat → Int32}
theorem ds_x_nc {n s : Nat} (hn : n < 3) (hst : ∀ e, e < 8 → st (8 * n + e) = nI (τ e)) (hτ : ∀ e, e < 8 → τ e < 2000000000) (hs : s < 2000000000) {post : Int32 → Prop} (hp : ∀ x, ds_nx τ s x → post x) : wpX_nextChanged post (mk, dc, pr, vl, mr, gn, lh, cb, lf, kn, kc, hb, lc, ll, ct, st, cp, vs, vw, iv, vv, qa, qb) (nI n) (nI s) := by
  have main : ∀ (f e : Nat) (x : Int32), e ≤ 8 → 8 - e < f → ((x = -1 ∧ ∀ a, a < e → τ a ≤ s) ∨ (∃ d, d < e ∧ x = nI d ∧ s < τ d ∧ ∀ a, a < e → s < τ a → τ d ≤ τ a)) → wX_nextChanged_5 post (nI n) (nI s) mk dc pr vl mr gn lh cb lf kn kc hb lc ll ct st cp vs vw iv vv qa qb f x (nI e) := by
    intro f
    induction f with
    | zero => intro e x h1 h2; omega
    | succ f ih =>
      intro e x h1 h2 h3
      rw [wX_nextChanged_5]; dsimp only
      by_cases z : 8 ≤ e
      · refine br_t (nI_le (a := 8) z (by omega)) (hp x ?_)
        rcases h3 with ⟨h3, h4⟩ | ⟨d, d1, d2, d3, d4⟩
        · exact Or.inr ⟨h3, fun a ha => h4 a (by omega)⟩
        · exact Or.inl ⟨d, by omega, d2, d3, fun a ha => d4 a (by omega)⟩
      · have te := hτ e (by omega)
        rw [ds_8 n e, ds_cl (n := 8 * n + e) (by omega), hst e (by omega), nI_1 e]
        refine br_f (nI_ge (b := 8) (by omega) (by omega)) ⟨ds_in (by omega) (by omega), nm_e ?_⟩
        by_cases y : τ e ≤ s
        · refine br_t (nI_le y (by omega)) (nm_e (ih (e + 1) x (by omega) (by omega) ?_))
          rcases h3 with ⟨h3, h4⟩ | ⟨d, d1, d2, d3, d4⟩
          · refine Or.inl ⟨h3, fun a ha => ?_⟩
            by_cases q : a = e
            · rw [q]; exact y
            · exact h4 a (by omega)
          · refine Or.inr ⟨d, by omega, d2, d3, fun a ha w => ?_⟩
            by_cases q : a = e
            · rw [q] at w; omega
            · exact d4 a (by omega) w
        · refine br_f (nI_ge (by omega) (by omega)) ?_
          rcases h3 with ⟨h3, h4⟩ | ⟨d, d1, rfl, d3, d4⟩
          · refine br_t h3 (nm_e (ih (e + 1) (nI e) (by omega) (by omega) (Or.inr ⟨e, by omega, rfl, by omega, fun a ha w => ?_⟩)))
            by_cases q : a = e
            · rw [q]; exact Nat.le_refl _
            · have := h4 a (by omega); omega
          · have td := hτ d (by omega)
            rw [ds_8 n d, ds_cl (n := 8 * n + d) (by omega), hst d (by omega)]
            refine br_f (ds_nIn1 (by omega)) ⟨ds_in (by omega) (by omega), ?_⟩
            by_cases q : τ d ≤ τ e
            · refine br_t (nI_le q (by omega)) (nm_e (ih (e + 1) (nI d) (by omega) (by omega) (Or.inr ⟨d, by omega, rfl, d3, fun a ha w => ?_⟩)))
              by_cases u : a = e
              · rw [u]; exact q
              · exact d4 a (by omega) w
            · refine br_f (nI_ge (by omega) (by omega)) (nm_e (ih (e + 1) (nI e) (by omega) (by omega) (Or.inr ⟨e, by omega, rfl, by omega, fun a ha w => ?_⟩)))
              by_cases u : a = e
              · rw [u]; exact Nat.le_refl _
              · have := d4 a (by omega) w; omega
  exact ⟨9, main 9 0 (-1) (by omega) (by omega) (Or.inl ⟨rfl, fun a ha => by omega⟩)⟩
theorem ds_n1lt : (-1 : Int32) < 0 := by decide
theorem ds_y_ns {n s : Nat} (hn : n < 3) (hst : ∀ e, e < 8 → st (8 * n + e) = nI (τ e)) (hτ : ∀ e, e < 8 → τ e < 2000000000) (hs : s < 2000000000) {post : Int32 → Prop} (hp : ∀ x, ds_nx τ s x → post x) : wpY_nextStamped post (mk, dc, pr, vl, mr, kn, hb, ct, st) (nI n) (nI s) := by
  have main : ∀ (f e : Nat) (x : Int32), e ≤ 8 → 8 - e < f → ((x = -1 ∧ ∀ a, a < e → τ a ≤ s) ∨ (∃ d, d < e ∧ x = nI d ∧ s < τ d ∧ ∀ a, a < e → s < τ a → τ d ≤ τ a)) → wY_nextStamped_5 post (nI n) (nI s) mk dc pr vl mr kn hb ct st f x (nI e) := by
    intro f
    induction f with
    | zero => intro e x h1 h2; omega
    | succ f ih =>
      intro e x h1 h2 h3
      rw [wY_nextStamped_5]; dsimp only
      by_cases z : 8 ≤ e
      · refine br_t (nI_le (a := 8) z (by omega)) (hp x ?_)
        rcases h3 with ⟨h3, h4⟩ | ⟨d, d1, d2, d3, d4⟩
        · exact Or.inr ⟨h3, fun a ha => h4 a (by omega)⟩
        · exact Or.inl ⟨d, by omega, d2, d3, fun a ha => d4 a (by omega)⟩
      · have te := hτ e (by omega)
        rw [ds_8 n e, ds_cl (n := 8 * n + e) (by omega), hst e (by omega), nI_1 e]
        refine br_f (nI_ge (b := 8) (by omega) (by omega)) ⟨ds_in (by omega) (by omega), nm_e ?_⟩
        by_cases y : τ e ≤ s
        · refine br_t (nI_le y (by omega)) (nm_e (ih (e + 1) x (by omega) (by omega) ?_))
          rcases h3 with ⟨h3, h4⟩ | ⟨d, d1, d2, d3, d4⟩
          · refine Or.inl ⟨h3, fun a ha => ?_⟩
            by_cases q : a = e
            · rw [q]; exact y
            · exact h4 a (by omega)
          · refine Or.inr ⟨d, by omega, d2, d3, fun a ha w => ?_⟩
            by_cases q : a = e
            · rw [q] at w; omega
            · exact d4 a (by omega) w
        · refine br_f (nI_ge (by omega) (by omega)) ?_
          rcases h3 with ⟨h3, h4⟩ | ⟨d, d1, rfl, d3, d4⟩
          · refine br_t (by rw [h3]; exact ds_n1lt) (nm_e (ih (e + 1) (nI e) (by omega) (by omega) (Or.inr ⟨e, by omega, rfl, by omega, fun a ha w => ?_⟩)))
            by_cases q : a = e
            · rw [q]; exact Nat.le_refl _
            · have := h4 a (by omega); omega
          · have td := hτ d (by omega)
            rw [ds_8 n d, ds_cl (n := 8 * n + d) (by omega), hst d (by omega)]
            refine br_f (nI_pos (by omega)) ⟨ds_in (by omega) (by omega), ?_⟩
            by_cases q : τ d ≤ τ e
            · refine br_t (nI_le q (by omega)) (nm_e (ih (e + 1) (nI d) (by omega) (by omega) (Or.inr ⟨d, by omega, rfl, d3, fun a ha w => ?_⟩)))
              by_cases u : a = e
              · rw [u]; exact q
              · exact d4 a (by omega) w
            · refine br_f (nI_ge (by omega) (by omega)) (nm_e (ih (e + 1) (nI e) (by omega) (by omega) (Or.inr ⟨e, by omega, rfl, by omega, fun a ha w => ?_⟩)))
              by_cases u : a = e
              · rw [u]; exact Nat.le_refl _
              · have := d4 a (by omega) w; omega
  exact ⟨9, main 9 0 (-1) (by omega) (by omega) (Or.inl ⟨rfl, fun a ha => by omega⟩)⟩
end
/-- Y's loop from stamp s on -/
def ds_YC (n t : Nat) (τ : Nat → Nat) (q : Int32 → SY → Prop) (c s : Nat) (mk : Int32) (dc pr vl mr kn hb ct st : Nat → Int32) : Prop := ∀ f, ds_mu τ s < f → ∀ x, ds_nx τ s x → wY_copy_34 q (nI n) (nI t) f (nI c) x mk dc pr vl mr kn hb ct st
section
variable {m : Nat} {D P G C T Z τ : Nat → Nat} {dc pr vl mr kn hb ct st cp : Nat → Int32}
theorem ds_yc_end {mk : Int32} {n t c s : Nat} {q : Int32 → SY → Prop} (h : ∀ e, e < 8 → τ e ≤ s) (hq : q (nI c) (mk, dc, pr, vl, mr, kn, hb, ct, st)) : ds_YC n t τ q c s mk dc pr vl mr kn hb ct st := by
  intro f hf x hx
  obtain ⟨f, rfl⟩ : ∃ z, f = z + 1 := ⟨f - 1, by omega⟩
  rcases hx with ⟨d, d1, _, d2, _⟩ | ⟨rfl, _⟩
  · have := h d d1; omega
  · rw [wY_copy_34]; dsimp only
    exact br_t ds_n1lt hq
theorem ds_yc_step (hT : ds_TI m D P G vl mr) (hR : ds_rp m D P dc pr) (hK : ds_KI m P kn hb) (hZ : ds_ZR C T Z ct st cp) {n t d c s : Nat} (hn : n < 3) (ht : t < 3) (hne : n ≠ t) (hd : d < 8) (hst : ∀ e, e < 8 → st (8 * n + e) = nI (τ e)) (hτ : ∀ e, e < 8 → τ e < 2000000000) (hdi : ∀ d e, d < 8 → e < 8 → τ d = τ e → τ d = 0 ∨ d = e) (h1 : s < τ d) (h2 : ∀ e, e < 8 → s < τ e → τ d ≤ τ e) {q : Int32 → SY → Prop} (k0 : ¬ ds_ah D kn n t d m → ds_YC n t τ q c (τ d) (nI m) dc pr vl mr kn hb ct st) (k1 : ds_ah D kn n t d m → ds_YC n t τ q (c + 1) (τ d) (nI m) dc pr vl mr (ds_sel (ds_at t m (ds_cq D kn n d)) 1 kn) (ds_sel (ds_at t m (ds_cb m D P kn hb n d)) 1 hb) (upd ct t (nI (C t + 1))) (upd st (8 * t + d) (nI (C t + 1)))) : ds_YC n t τ q c s (nI m) dc pr vl mr kn hb ct st := by
  intro f hf x hx
  have hm : m ≤ 80 := hT.1
  have e := ds_nx_u hdi hd h1 h2 hx
  have mu := ds_mu_lt hd h1
  obtain ⟨f, rfl⟩ : ∃ z, f = z + 1 := ⟨f - 1, by omega⟩
  have i : vp_in (nI (8 * n + d)) 24 := ds_in (by omega) (by omega)
  rw [e, wY_copy_34]; dsimp only
  refine br_f (nI_pos (by omega)) (ds_y_ahead hT hR hK.1 hn ht hd (ds_brb (fun a => ds_y_cd hT hR hK hZ hn ht hne hd (nm_r (nI_1 c) ?_)) (fun a => ?_)))
  · dsimp only
    unfold wY_copy_61
    rw [ds_8, ds_cl (n := 8 * n + d) (by omega), pk_un (by omega), hst d hd]
    refine ⟨i, ds_y_ns hn (fun e he => ?_) hτ (hτ d hd) (fun y hy => k1 a f (by omega) y hy)⟩
    rw [pk_un (by omega)]; exact hst e he
  · unfold wY_copy_61
    rw [ds_8, ds_cl (n := 8 * n + d) (by omega), hst d hd]
    exact ⟨i, ds_y_ns hn hst hτ (hτ d hd) (fun y hy => k0 a f (by omega) y hy)⟩
theorem ds_yc_skip (hT : ds_TI m D P G vl mr) (hR : ds_rp m D P dc pr) (hK : ds_KI m P kn hb) (hZ : ds_ZR C T Z ct st cp) {n t c z : Nat} (hn : n < 3) (ht : t < 3) (hne : n ≠ t) (hst : ∀ e, e < 8 → st (8 * n + e) = nI (τ e)) (hτ : ∀ e, e < 8 → τ e < 2000000000) (hdi : ∀ d e, d < 8 → e < 8 → τ d = τ e → τ d = 0 ∨ d = e) (hsub : ∀ r, r < m → τ (D r) ≤ z → kn (80 * n + r) ≠ 0 → kn (80 * t + r) ≠ 0) {q : Int32 → SY → Prop} (hz : ds_YC n t τ q c z (nI m) dc pr vl mr kn hb ct st) : ∀ (w s : Nat), ds_mu τ s ≤ w → s ≤ z → ds_YC n t τ q c s (nI m) dc pr vl mr kn hb ct st := by
  intro w
  induction w with
  | zero =>
    intro s h1 h2 f hf x hx
    rcases hx with ⟨d, d1, rfl, d2, d3⟩ | ⟨rfl, h⟩
    · have := ds_mu_lt d1 d2; omega
    · exact hz f (by have := ds_mu_le (τ := τ) h2; omega) _ (Or.inr ⟨rfl, fun e he => by have := h e he; omega⟩)
  | succ w ih =>
    intro s h1 h2 f hf x hx
    have hx0 := hx
    rcases hx with ⟨d, d1, rfl, d2, d3⟩ | ⟨rfl, h⟩
    · by_cases y : τ d ≤ z
      · have mu := ds_mu_lt d1 d2
        refine ds_yc_step hT hR hK hZ hn ht hne d1 hst hτ hdi d2 d3 (fun _ => ih (τ d) (by omega) y) (fun a => ?_) f hf _ hx0
        obtain ⟨r, r1, r2, r3, r4⟩ := a
        exact absurd r4 (hsub r r1 (by rw [r2]; exact y) r3)
      · exact hz f (by have := ds_mu_le (τ := τ) h2; omega) _ (Or.inl ⟨d, d1, rfl, by omega, fun e he q => d3 e he (by omega)⟩)
    · exact hz f (by have := ds_mu_le (τ := τ) h2; omega) _ (Or.inr ⟨rfl, fun e he => by have := h e he; omega⟩)
end
section
variable {m : Nat} {D P G Z τ : Nat → Nat} {dc pr vl mr gn lh cb lf cp : Nat → Int32}
theorem ds_cp_main {n t k B0 : Nat} (hn : n < 3) (ht : t < 3) (hne : n ≠ t) (hτ : ∀ e, e < 8 → τ e < 2000000000) (hdi : ∀ d e, d < 8 → e < 8 → τ d = τ e → τ d = 0 ∨ d = e) (hB : B0 ≤ 2 * k) {Y : (Int32 → SY → Prop) → Prop} {post : Int32 → SX → Prop} (hp : ∀ r mk dc pr vl mr gn lh cb lf kn kc hb lc ll ct st cp vs vw iv vv qa qb, Y (fun r' v' => r' = r ∧ i_Rel k (mk, dc, pr, vl, mr, gn, lh, cb, lf, kn, kc, hb, lc, ll, ct, st, cp, vs, vw, iv, vv, qa, qb) v') → post r (mk, dc, pr, vl, mr, gn, lh, cb, lf, kn, kc, hb, lc, ll, ct, st, cp, vs, vw, iv, vv, qa, qb)) : ∀ (w s c i B : Nat) (C T : Nat → Nat) (kn kc hb lc ll ct st vs vw iv vv qa qb : Nat → Int32), ds_mu τ s ≤ w → w + i ≤ 8 → ds_INV B m D P G C T Z dc pr vl mr gn lh cb lf kn kc hb lc ll ct st cp vs vw iv vv → B + w ≤ B0 → (∀ e, e < 8 → T (8 * n + e) = τ e) → (∀ r, r < m → τ (D r) ≤ s → kn (80 * n + r) ≠ 0 → kn (80 * t + r) ≠ 0) → (∀ q : Int32 → SY → Prop, ds_YC n t τ q c s (nI m) dc pr vl mr kn hb ct st → Y q) → ∀ f, w < f → ∀ x, ds_nx τ s x → wX_copy_50 post (nI n) (nI t) f (nI c) x (nI i) (nI m) dc pr vl mr gn lh cb lf kn kc hb lc ll ct st cp vs vw iv vv qa qb := by
  have fin : ∀ (s c i B : Nat) (C T : Nat → Nat) (kn kc hb lc ll ct st vs vw iv vv qa qb : Nat → Int32), ds_INV B m D P G C T Z dc pr vl mr gn lh cb lf kn kc hb lc ll ct st cp vs vw iv vv → B ≤ B0 → (∀ e, e < 8 → T (8 * n + e) = τ e) → (∀ r, r < m → τ (D r) ≤ s → kn (80 * n + r) ≠ 0 → kn (80 * t + r) ≠ 0) → (∀ q : Int32 → SY → Prop, ds_YC n t τ q c s (nI m) dc pr vl mr kn hb ct st → Y q) → (∀ e, e < 8 → τ e ≤ s) → wX_copy_115 post (nI n) (nI t) (nI c) (nI m) dc pr vl mr gn lh cb lf kn kc hb lc ll ct st cp vs vw iv vv qa qb := by
    intro s c i B C T kn kc hb lc ll ct st vs vw iv vv qa qb I hB2 hT hsub HY hall
    obtain ⟨⟨i1, i2, i3, i4⟩, ⟨i5, i6, i7⟩, ⟨i8, i9, i10⟩, ⟨i11, i12⟩⟩ := I
    have J : ds_INV B m D P G C T (ds_un Z (3 * n + t) (C n)) dc pr vl mr gn lh cb lf kn kc hb lc ll ct st (upd cp (3 * n + t) (nI (C n))) vs vw iv vv := by
      refine ⟨⟨i1, i2, i3, i4⟩, ⟨i5, i6, i7⟩, ⟨i8, i9, i10⟩, ⟨⟨i11.1, i11.2.1, fun j hj => ?_⟩, i12.1, i12.2.1, i12.2.2.1, fun a b ha hb2 hab => ?_⟩⟩
      · by_cases e : j = 3 * n + t
        · rw [e, pk_us, ds_uns]
        · rw [pk_un e, ds_unn e]; exact i11.2.2 j hj
      · by_cases e : 3 * a + b = 3 * n + t
        · have e1 : a = n := by omega
          have e2 : b = t := by omega
          rw [e1, e2, ds_uns]
          exact ⟨Nat.le_refl _, fun r hr _ h => hsub r hr (hall _ (i1.2.1 r hr).1) h⟩
        · rw [ds_unn e]; exact i12.2.2.2 a b ha hb2 hab
    unfold wX_copy_115
    rw [ds_3, ds_cl (n := 3 * n + t) (by omega), ds_cl (n := n) (by omega), i11.1 n hn]
    exact ⟨ds_in hn (by omega), ds_in (by omega) (by omega), nm_e (hp _ _ _ _ _ _ _ _ _ _ _ _ _ _ _ _ _ _ _ _ _ _ _ _ (HY _ (ds_yc_end hall ⟨rfl, ds_rel J (by omega)⟩)))⟩
  intro w
  induction w with
  | zero =>
    intro s c i B C T kn kc hb lc ll ct st vs vw iv vv qa qb h1 h2 I hB2 hT hsub HY f hf x hx
    rcases hx with ⟨d, d1, rfl, d2, d3⟩ | ⟨rfl, h⟩
    · have := ds_mu_lt d1 d2; omega
    · obtain ⟨f, rfl⟩ : ∃ z, f = z + 1 := ⟨f - 1, by omega⟩
      have K := fin s c i B C T kn kc hb lc ll ct st vs vw iv vv qa qb I (by omega) hT hsub HY h
      rw [wX_copy_50]; dsimp only
      exact br_c (fun _ => K) (fun _ => br_t rfl K)
  | succ w ih =>
    intro s c i B C T kn kc hb lc ll ct st vs vw iv vv qa qb h1 h2 I hB2 hT hsub HY f hf x hx
    obtain ⟨f, rfl⟩ : ∃ z, f = z + 1 := ⟨f - 1, by omega⟩
    rcases hx with ⟨d, d1, rfl, d2, d3⟩ | ⟨rfl, h⟩
    · have I0 := I
      obtain ⟨⟨i1, i2, i3, i4⟩, ⟨i5, i6, i7⟩, ⟨i8, i9, i10⟩, ⟨i11, i12⟩⟩ := I
      have hm : m ≤ 80 := i1.1
      have mu := ds_mu_lt d1 d2
      have i8n : vp_in (nI (8 * n + d)) 24 := ds_in (by omega) (by omega)
      have hst : ∀ e, e < 8 → st (8 * n + e) = nI (τ e) := fun e he => by rw [i11.2.1 (8 * n + e) (by omega), hT e he]
      have near : ∀ e, e < 8 → τ e ≤ τ d → τ e ≤ s ∨ e = d := by
        intro e he h
        by_cases y : τ e ≤ s
        · exact Or.inl y
        · have := d3 e he (by omega)
          rcases hdi e d he d1 (by omega) with q | q
          · omega
          · exact Or.inr q
      rw [wX_copy_50]; dsimp only
      refine br_f (nI_ge (b := 8) (by omega) (by omega)) (br_f (ds_nIn1 (by omega)) (ds_x_cd I0 hn ht hne d1 (fun a kc' lc' ll' qa' qb' J => br_t rfl ?_) (fun a kc' lc' ll' vs' vw' iv' vv' qa' qb' J => br_f ds_10 ?_)))
      · dsimp only
        unfold wX_copy_85
        rw [ds_8, ds_cl (n := 8 * n + d) (by omega), hst d d1]
        refine ⟨i8n, nm_e (ds_x_nc hn hst hτ (hτ d d1) (fun y hy => nm_r (nI_1 i) (ih (τ d) c (i + 1) B C T kn kc' hb lc' ll' ct st vs vw iv vv qa' qb' (by omega) (by omega) J (by omega) hT (fun r hr h1 h2 => ?_) (fun q hq => HY q (ds_yc_step i1 i2 i5 i11 hn ht hne d1 hst hτ hdi d2 d3 (fun _ => hq) (fun b => absurd b a))) f (by omega) y hy)))⟩
        rcases near (D r) (i1.2.1 r hr).1 h1 with h | h
        · exact hsub r hr h h2
        · exact fun w => a ⟨r, hr, h, h2, w⟩
      · dsimp only
        unfold wX_copy_85
        have hst2 : ∀ e, e < 8 → upd st (8 * t + d) (nI (C t + 1)) (8 * n + e) = nI (τ e) := fun e he => by rw [pk_un (by omega)]; exact hst e he
        rw [ds_8, ds_cl (n := 8 * n + d) (by omega), hst2 d d1, nI_1 c]
        refine ⟨i8n, nm_e (ds_x_nc hn hst2 hτ (hτ d d1) (fun y hy => nm_r (nI_1 i) (ih (τ d) (c + 1) (i + 1) (B + 1) _ _ _ kc' _ lc' ll' _ _ vs' vw' iv' vv' qa' qb' (by omega) (by omega) J (by omega) (fun e he => ?_) (fun r hr h1 h2 => ?_) (fun q hq => HY q (ds_yc_step i1 i2 i5 i11 hn ht hne d1 hst hτ hdi d2 d3 (fun b => absurd a b) (fun _ => hq))) f (by omega) y hy)))⟩
        · rw [ds_unn (by omega)]; exact hT e he
        · rw [ds_cq_n (d := d) hm hne (Nat.le_refl _) (by omega)] at h2
          rcases near (D r) (i1.2.1 r hr).1 h1 with h | h
          · by_cases e : ds_at t m (ds_cq D kn n d) (80 * t + r)
            · rw [ds_sel_t e]; exact ds_10
            · rw [ds_sel_f e]; exact hsub r hr h h2
          · rw [ds_sel_t ⟨r, hr, rfl, h, h2⟩]; exact ds_10
    · have K := fin s c i B C T kn kc hb lc ll ct st vs vw iv vv qa qb I (by omega) hT hsub HY h
      rw [wX_copy_50]; dsimp only
      exact br_c (fun _ => K) (fun _ => br_t rfl K)
end
theorem i_vc_copy {k : Nat} {u : SX} {v : SY} (I : i_Rel k u v) (hk : k + 5 ≤ 2560) (v1 : Int32) (v2 : Int32) : wpX_copy (fun r u' => wpY_copy (fun r' v' => r' = r ∧ i_Rel (k + 5) u' v') v v1 v2) u v1 v2 := by
  refine ds_el (Q := fun u v => wpX_copy (fun r u' => wpY_copy (fun r' v' => r' = r ∧ i_Rel (k + 5) u' v') v v1 v2) u v1 v2) I ?_
  intro m D P G C T Z dc pr vl mr gn lh cb lf kn kc hb lc ll ct st cp vs vw iv vv qa qb J
  have J0 := J
  have R : i_Rel (k + 5) (nI m, dc, pr, vl, mr, gn, lh, cb, lf, kn, kc, hb, lc, ll, ct, st, cp, vs, vw, iv, vv, qa, qb) (nI m, dc, pr, vl, mr, kn, hb, ct, st) := ds_rel J (by omega)
  obtain ⟨⟨i1, i2, i3, i4⟩, ⟨i5, i6, i7⟩, ⟨i8, i9, i10⟩, ⟨i11, i12⟩⟩ := J
  unfold wpX_copy
  dsimp only
  rcases ds_arg 3 (by omega) v1 with ⟨n, hn, rfl⟩ | h1
  · rcases ds_arg 3 (by omega) v2 with ⟨t, ht, rfl⟩ | h2
    · refine ds_x_bs hn (br_t rfl (ds_x_bs ht (br_t rfl ?_)))
      by_cases e : n = t
      · refine br_t (by rw [e]) ?_
        unfold wpY_copy
        dsimp only
        exact ds_y_is hn (br_f ds_10 (ds_y_is ht (br_f ds_10 (br_t (by rw [e]) ⟨rfl, R⟩))))
      · have cn := i12.1 n hn
        have hb3 : ∀ e, e < 8 → T (8 * n + e) < 2000000000 := fun d hd => by have := (i12.2.1 n d hn hd).1; omega
        have hz := (i12.2.2.2 n t hn ht e).1
        have hst : ∀ e, e < 8 → st (8 * n + e) = nI (T (8 * n + e)) := fun d hd => i11.2.1 (8 * n + d) (by omega)
        have hdi : ∀ d e, d < 8 → e < 8 → T (8 * n + d) = T (8 * n + e) → T (8 * n + d) = 0 ∨ d = e := fun d e hd he h => i12.2.2.1 n d e hn hd he h
        have hsub := (i12.2.2.2 n t hn ht e).2
        have mu8 : ds_mu (fun e => T (8 * n + e)) (Z (3 * n + t)) ≤ 8 := ds_cn_le _ _
        rw [ds_3, ds_cl (n := 3 * n + t) (by omega), i11.2.2 (3 * n + t) (by omega)]
        refine br_f (ds_neN (by omega) (by omega) e) ⟨ds_in (by omega) (by omega), nm_e (ds_x_nc (τ := fun e => T (8 * n + e)) hn hst hb3 (by omega) (fun x hx => ⟨ds_mu (fun e => T (8 * n + e)) (Z (3 * n + t)) + 1, ?_⟩))⟩
        refine ds_cp_main (B0 := 2 * k + 8) (k := k + 5) hn ht e hb3 hdi (by omega) (Y := fun q => wpY_copy q (nI m, dc, pr, vl, mr, kn, hb, ct, st) (nI n) (nI t)) (fun _ _ _ _ _ _ _ _ _ _ _ _ _ _ _ _ _ _ _ _ _ _ _ _ z => z) (ds_mu (fun e => T (8 * n + e)) (Z (3 * n + t))) (Z (3 * n + t)) 0 0 (2 * k) C T kn kc hb lc ll ct st vs vw iv vv qa qb (Nat.le_refl _) (by omega) J0 (by omega) (fun _ _ => rfl) hsub (fun q hq => ?_) _ (Nat.lt_succ_self _) x hx
        unfold wpY_copy
        dsimp only
        refine ds_y_is hn (br_f ds_10 (ds_y_is ht (br_f ds_10 (br_f (ds_neN (by omega) (by omega) e) (ds_y_ns (s := 0) (τ := fun e => T (8 * n + e)) hn hst hb3 (by omega) (fun y hy => ⟨ds_mu (fun e => T (8 * n + e)) 0 + 1, ?_⟩))))))
        exact ds_yc_skip i1 i2 i5 i11 hn ht e hst hb3 hdi hsub hq (ds_mu (fun e => T (8 * n + e)) 0) 0 (Nat.le_refl _) (Nat.zero_le _) _ (Nat.lt_succ_self _) y hy
    · refine ds_x_bs hn (br_t rfl (ds_x_bsn h2 (br_f ds_10 ?_)))
      unfold wpY_copy
      dsimp only
      exact ds_y_is hn (br_f ds_10 (ds_y_isn h2 (br_t rfl ⟨rfl, R⟩)))
  · refine ds_x_bsn h1 (br_f ds_10 ?_)
    unfold wpY_copy
    dsimp only
    exact ds_y_isn h1 (br_t rfl ⟨rfl, R⟩)
end
