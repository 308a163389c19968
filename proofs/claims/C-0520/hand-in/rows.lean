section
/-! rows of kit/rows: pk_, ts_, wb_ -/
theorem pk_us {f : Nat → Int32} {k : Nat} {x : Int32} : upd f k x k = x := if_pos rfl
theorem pk_un {f : Nat → Int32} {k j : Nat} {x : Int32} (h : j ≠ k) : upd f k x j = f j := if_neg h
theorem pk_uLs {f : Nat → Int64} {k : Nat} {x : Int64} : vp_updL f k x k = x := if_pos rfl
theorem pk_uLn {f : Nat → Int64} {k j : Nat} {x : Int64} (h : j ≠ k) : vp_updL f k x j = f j := if_neg h
theorem pk_sub {a b : Nat} (h : b ≤ a) : nI a - nI b = nI (a - b) := by
  obtain ⟨c, rfl⟩ : ∃ c, a = c + b := ⟨a - b, by omega⟩
  rw [← nI_add, Int32.add_sub_cancel, Nat.add_sub_cancel]
theorem pk_mul (a b : Nat) : nI a * nI b = nI (a * b) := (Int32.ofNat_mul a b).symm
theorem pk_le {x y : Int32} {A B : Prop} (a b : Nat) (f : a ≤ b → A) (g : b < a → B) (hx : x = nI a := by rfl) (hy : y = nI b := by rfl) (ha : a < 2 ^ 31 := by omega) (hb : b < 2 ^ 31 := by omega) : (x ≤ y → A) ∧ (¬ x ≤ y → B) := by
  subst hx hy
  rw [nI_leI ha hb]
  exact ⟨f, fun z => g (by omega)⟩
theorem pk_lt {x y : Int32} {A B : Prop} (a b : Nat) (f : a < b → A) (g : b ≤ a → B) (hx : x = nI a := by rfl) (hy : y = nI b := by rfl) (ha : a < 2 ^ 31 := by omega) (hb : b < 2 ^ 31 := by omega) : (x < y → A) ∧ (¬ x < y → B) := by
  subst hx hy
  rw [nI_ltI ha hb]
  exact ⟨f, fun z => g (by omega)⟩
theorem pk_eq {x y : Int32} {A B : Prop} (a b : Nat) (f : a = b → A) (g : a ≠ b → B) (hx : x = nI a := by rfl) (hy : y = nI b := by rfl) (ha : a < 2 ^ 31 := by omega) (hb : b < 2 ^ 31 := by omega) : (x = y → A) ∧ (¬ x = y → B) := by
  subst hx hy
  rw [nI_eq ha hb]
  exact ⟨f, g⟩
theorem pk_in {x : Int32} (n N : Nat) (h : n < N) (hx : x = nI n := by rfl) (hN : N < 2 ^ 31 := by omega) : vp_in x N := by
  subst hx
  exact vp_in_nI h hN
theorem pk_cl {x : Int32} (n : Nat) (hx : x = nI n := by rfl) (h : n < 2 ^ 31 := by omega) : x.toNatClampNeg = n := by
  subst hx
  exact nI_clamp h
theorem pk_and (x : Int32) {m : Int32} (k : Nat) (hm : m.toBitVec.toNat = 2 ^ k - 1) : x &&& m = nI (x.toBitVec.toNat % 2 ^ k) := by
  apply Int32.toBitVec_inj.mp
  apply BitVec.eq_of_toNat_eq
  rw [Int32.toBitVec_and, BitVec.toNat_and, hm, Nat.and_two_pow_sub_one_eq_mod]
  show _ = (BitVec.ofNat 32 _).toNat
  rw [BitVec.toNat_ofNat]
  exact (Nat.mod_eq_of_lt (Nat.lt_of_le_of_lt (Nat.mod_le _ _) x.toBitVec.isLt)).symm
theorem pk_andE (x : Int32) {m : Int32} (k : Nat) (hm : m.toBitVec.toNat = 2 ^ k - 1) : ∃ j : Nat, j < 2 ^ k ∧ x &&& m = nI j := ⟨_, Nat.mod_lt _ (Nat.two_pow_pos k), pk_and x k hm⟩
theorem ts_nf {x : Bool} (h : ¬ x = false) : x = true := by cases x <;> first | rfl | exact absurd rfl h
theorem ts_nt {x : Bool} (h : ¬ x = true) : x = false := by cases x <;> first | rfl | exact absurd rfl h
theorem wb_tb (n : Nat) : (lN n).toBitVec = BitVec.ofNat 64 n := rfl
theorem wb_inj {a b : Int64} (h : a.toBitVec = b.toBitVec) : a = b := Int64.toBitVec_inj.mp h
theorem wb_c : ∀ k, k < 64 → ((nI k).toInt64 &&& 63) = lN k := by decide +kernel
theorem wb_sm : ∀ k, k < 64 → (BitVec.ofNat 64 k).smod 64 = BitVec.ofNat 64 k := by decide +kernel
/-! ===== numbers ===== -/
theorem cz_i24 (r e i : Nat) : ((24 * nI r) + (3 * nI e)) + nI i = nI (24 * r + 3 * e + i) := by
  show ((nI 24 * nI r) + (nI 3 * nI e)) + nI i = _
  rw [pk_mul, pk_mul, nI_add, nI_add]
theorem cz_i24b (r e : Nat) : (24 * nI r) + (3 * nI e) = nI (24 * r + 3 * e) := by
  show (nI 24 * nI r) + (nI 3 * nI e) = _
  rw [pk_mul, pk_mul, nI_add]
theorem cz_i3 (r i : Nat) : (3 * nI r) + nI i = nI (3 * r + i) := by
  show (nI 3 * nI r) + nI i = _
  rw [pk_mul, nI_add]
theorem cz_i49 (o n : Nat) : (49 * nI o) + nI n = nI (49 * o + n) := by
  show (nI 49 * nI o) + nI n = _
  rw [pk_mul, nI_add]
theorem cz_le3 {i : Nat} (h : 3 ≤ i) (hi : i < 2 ^ 31) : (3 : Int32) ≤ nI i := nI_le (a := 3) h hi
theorem cz_n3 {i : Nat} (h : i < 3) : ¬ (3 : Int32) ≤ nI i := nI_ge (b := 3) h (by decide)
theorem cz_le8 {i : Nat} (h : 8 ≤ i) (hi : i < 2 ^ 31) : (8 : Int32) ≤ nI i := nI_le (a := 8) h hi
theorem cz_n8 {i : Nat} (h : i < 8) : ¬ (8 : Int32) ≤ nI i := nI_ge (b := 8) h (by decide)
theorem cz_nm {α : Type} {e e' : α} {P : α → Prop} (he : e = e') (h : P e') : ∀ x, x = e → P x := nm_r he h
/-- a replica, or not -/
theorem cz_rep (x : Int32) : (∃ r : Nat, r < 3 ∧ x = nI r) ∨ (x < 0 ∨ (¬ x < 0 ∧ 2 < x)) := by
  by_cases h : x < 0
  · exact Or.inr (Or.inl h)
  · obtain ⟨j, hj, rfl⟩ := nI_of h
    by_cases h2 : j < 3
    · exact Or.inl ⟨j, h2, rfl⟩
    · exact Or.inr (Or.inr ⟨h, nI_lt (a := 2) (by omega) hj⟩)
theorem cz_rt {x : Int32} {post : Int32 → Prop} (r : Nat) (hr : r < 3) (hx : x = nI r) (h : post 1) : wpX_isReplica post x := by
  subst hx
  exact br_f (nI_pos (by omega)) (br_f (nI_nlt (a := 2) (b := r) (by omega) (by omega)) h)
theorem cz_rf {x : Int32} {post : Int32 → Prop} (hx : x < 0 ∨ (¬ x < 0 ∧ 2 < x)) (h : post 0) : wpX_isReplica post x := by
  rcases hx with hx | ⟨h1, h2⟩
  · exact br_t hx h
  · exact br_f h1 (br_t h2 h)
theorem cz_bf {x : Int32} {post : Int32 → Prop} (r : Nat) (hr : r < 3) (hx : x = nI r) (h : post 0) : wpY_bad post x := by
  subst hx
  exact br_f (nI_pos (by omega)) (br_t (nI_le (a := r) (b := 2) (by omega) (by decide)) h)
theorem cz_bt1 {x : Int32} {post : Int32 → Prop} (hx : x < 0 ∨ (¬ x < 0 ∧ 2 < x)) (h : post 1) : wpY_bad post x := by
  rcases hx with hx | ⟨h1, h2⟩
  · exact br_t hx h
  · exact br_f h1 (br_f (Int32.not_le.mpr h2) h)
theorem cz_10 : ¬ (1 : Int32) = 0 := by decide
/-! ===== bits of a long ===== -/
def cz_bt (w : Int64) (i : Nat) : Prop := w.toBitVec.getLsbD i = true
theorem cz_sh (w : Int64) {i : Nat} (hi : i < 64) : ((w >>> ((nI i).toInt64 &&& 63)) &&& 1).toBitVec = if w.toBitVec.getLsbD i = true then 1#64 else 0#64 := by
  rw [wb_c i hi, Int64.toBitVec_and, Int64.toBitVec_shiftRight, wb_tb, wb_sm i hi]
  show w.toBitVec.sshiftRight (BitVec.ofNat 64 i).toNat &&& 1#64 = _
  rw [BitVec.toNat_ofNat, Nat.mod_eq_of_lt (show i < 2 ^ 64 by omega)]
  apply BitVec.eq_of_getLsbD_eq
  intro j hj
  rw [BitVec.getLsbD_and, BitVec.getLsbD_sshiftRight]
  by_cases h0 : j = 0
  · subst h0
    by_cases hb : w.toBitVec.getLsbD i = true
    · rw [if_pos hb]; simp [hb, hi]
    · have hb' := ts_nt hb
      rw [if_neg hb, show i + 0 = i from rfl, hb']; simp [hi]
  · have h1 : (1#64).getLsbD j = false := by
      rw [BitVec.getLsbD_one]; simp [h0]
    rw [h1, Bool.and_false]
    by_cases hb : w.toBitVec.getLsbD i = true
    · rw [if_pos hb, h1]
    · rw [if_neg hb]; simp
theorem cz_t0 (w : Int64) {i : Nat} (hi : i < 64) : ((w >>> ((nI i).toInt64 &&& 63)) &&& 1) = 0 ↔ ¬ cz_bt w i := by
  rw [← Int64.toBitVec_inj, cz_sh w hi]
  unfold cz_bt
  by_cases hb : w.toBitVec.getLsbD i = true
  · rw [if_pos hb]; simp [hb]
  · rw [if_neg hb]; simp [hb]
theorem cz_t1 (w : Int64) {i : Nat} (hi : i < 64) : ((w >>> ((nI i).toInt64 &&& 63)) &&& 1) = 1 ↔ cz_bt w i := by
  rw [← Int64.toBitVec_inj, cz_sh w hi]
  unfold cz_bt
  by_cases hb : w.toBitVec.getLsbD i = true
  · rw [if_pos hb]; simp [hb]
  · rw [if_neg hb]; simp [hb]
theorem cz_bor (x y : Int64) (i : Nat) : cz_bt (x ||| y) i ↔ cz_bt x i ∨ cz_bt y i := by
  unfold cz_bt
  rw [Int64.toBitVec_or, BitVec.getLsbD_or, Bool.or_eq_true]
theorem cz_b0 (i : Nat) : ¬ cz_bt 0 i := by
  unfold cz_bt
  rw [show (0 : Int64).toBitVec = 0#64 from rfl]
  simp
theorem cz_one {c : Nat} (hc : c < 64) (i : Nat) : cz_bt ((1 : Int64) <<< ((nI c).toInt64 &&& 63)) i ↔ i = c := by
  unfold cz_bt
  rw [wb_c c hc, Int64.toBitVec_shiftLeft, wb_tb, wb_sm c hc]
  show (1#64 <<< (BitVec.ofNat 64 c).toNat).getLsbD i = true ↔ _
  rw [BitVec.toNat_ofNat, Nat.mod_eq_of_lt (show c < 2 ^ 64 by omega), BitVec.getLsbD_shiftLeft, BitVec.getLsbD_one]
  simp
  omega
theorem cz_sub (p k : Int64) : (p &&& (k ^^^ (-1))) = 0 ↔ ∀ i, cz_bt p i → cz_bt k i := by
  have ha : (-1 : Int64).toBitVec = BitVec.allOnes 64 := by decide
  rw [← Int64.toBitVec_inj, Int64.toBitVec_and, Int64.toBitVec_xor, ha]
  unfold cz_bt
  constructor
  · intro h i hp
    by_cases hi : i < 64
    · have t := congrArg (fun x => x.getLsbD i) h
      simp only [BitVec.getLsbD_and, BitVec.getLsbD_xor, BitVec.getLsbD_allOnes] at t
      simpa [hi, hp] using t
    · rw [BitVec.getLsbD_of_ge _ _ (by omega)] at hp
      exact absurd hp (by decide)
  · intro h
    apply BitVec.eq_of_getLsbD_eq
    intro i hi
    rw [BitVec.getLsbD_and, BitVec.getLsbD_xor, BitVec.getLsbD_allOnes]
    by_cases hp : p.toBitVec.getLsbD i = true
    · rw [hp, h i hp]; simp [hi]
    · simp [hp]
end
section
/-! ===== changes, their numbers; what a replica knows; what is alive ===== -/
/-- how many of the first c changes are of origin o -/
def cz_cn (og : Nat → Nat) (o : Nat) : Nat → Nat
  | 0 => 0
  | c + 1 => cz_cn og o c + (if og c = o then 1 else 0)
/-- the number of a change among those of its origin, from 1 -/
def cz_nu (og : Nat → Nat) (c : Nat) : Nat := cz_cn og (og c) c + 1
theorem cz_cn_s (og : Nat → Nat) (o c : Nat) : cz_cn og o (c + 1) = cz_cn og o c + (if og c = o then 1 else 0) := rfl
theorem cz_cn_t {og : Nat → Nat} {o c : Nat} (h : og c = o) : cz_cn og o (c + 1) = cz_cn og o c + 1 := by
  rw [cz_cn_s, if_pos h]
theorem cz_cn_f {og : Nat → Nat} {o c : Nat} (h : og c ≠ o) : cz_cn og o (c + 1) = cz_cn og o c := by
  rw [cz_cn_s, if_neg h]; rfl
theorem cz_nu_d (og : Nat → Nat) (c : Nat) : cz_nu og c = cz_cn og (og c) c + 1 := rfl
theorem cz_cn_le (og : Nat → Nat) (o : Nat) : ∀ c, cz_cn og o c ≤ c := by
  intro c
  induction c with
  | zero => exact Nat.le_refl _
  | succ c ih =>
    by_cases h : og c = o
    · rw [cz_cn_t h]; omega
    · rw [cz_cn_f h]; omega
theorem cz_cn_mono {og : Nat → Nat} {o c d : Nat} (h : c ≤ d) : cz_cn og o c ≤ cz_cn og o d := by
  induction d with
  | zero =>
    have : c = 0 := by omega
    subst this
    exact Nat.le_refl _
  | succ d ih =>
    by_cases e : c = d + 1
    · subst e; exact Nat.le_refl _
    · have i := ih (by omega)
      by_cases h : og d = o
      · rw [cz_cn_t h]; omega
      · rw [cz_cn_f h]; exact i
theorem cz_nu_le {og : Nat → Nat} {c m : Nat} (h : c < m) : cz_nu og c ≤ cz_cn og (og c) m := by
  have a := cz_cn_mono (og := og) (o := og c) (show c + 1 ≤ m from h)
  rw [cz_cn_t rfl] at a
  exact a
theorem cz_nu_pos (og : Nat → Nat) (c : Nat) : 1 ≤ cz_nu og c := by rw [cz_nu_d]; omega
theorem cz_nu_inj {og : Nat → Nat} {c d : Nat} (ho : og c = og d) (hn : cz_nu og c = cz_nu og d) : c = d := by
  rcases Nat.lt_trichotomy c d with h | h | h
  · have a := cz_nu_le (og := og) h
    rw [ho, hn, cz_nu_d] at a
    omega
  · exact h
  · have a := cz_nu_le (og := og) h
    rw [← ho, ← hn, cz_nu_d] at a
    omega
theorem cz_nu_ex {og : Nat → Nat} {o : Nat} : ∀ m n : Nat, 1 ≤ n → n ≤ cz_cn og o m → ∃ c, c < m ∧ og c = o ∧ cz_nu og c = n := by
  intro m
  induction m with
  | zero =>
    intro n h1 h2
    have : cz_cn og o 0 = 0 := rfl
    omega
  | succ m ih =>
    intro n h1 h2
    by_cases h : og m = o
    · rw [cz_cn_t h] at h2
      by_cases e : n ≤ cz_cn og o m
      · obtain ⟨c, hc, a, b⟩ := ih n h1 e
        exact ⟨c, by omega, a, b⟩
      · refine ⟨m, by omega, h, ?_⟩
        rw [cz_nu_d, h]
        omega
    · rw [cz_cn_f h] at h2
      obtain ⟨c, hc, a, b⟩ := ih n h1 h2
      exact ⟨c, by omega, a, b⟩
theorem cz_cn_cg {og og' : Nat → Nat} (o : Nat) : ∀ m : Nat, (∀ c, c < m → og' c = og c) → cz_cn og' o m = cz_cn og o m := by
  intro m
  induction m with
  | zero => intro _; rfl
  | succ m ih =>
    intro h
    rw [cz_cn_s, cz_cn_s, ih (fun c hc => h c (by omega)), h m (by omega)]
theorem cz_nu_cg {og og' : Nat → Nat} {m c : Nat} (h : ∀ c, c < m → og' c = og c) (hc : c < m) : cz_nu og' c = cz_nu og c := by
  rw [cz_nu_d, cz_nu_d, h c hc, cz_cn_cg _ c (fun d hd => h d (by omega))]
/-- no known change that ends (Q) covers the number n of origin o -/
def cz_al (m : Nat) (og : Nat → Nat) (S : Nat → Nat → Nat) (Q : Nat → Prop) (k : Nat → Nat) (o n : Nat) : Prop :=
  ∀ d, d < m → Q d → cz_nu og d ≤ k (og d) → S d o < n
/-- n is the number of the last known alive change of sort P of origin o, 0 if there is none -/
def cz_L (m : Nat) (og : Nat → Nat) (S : Nat → Nat → Nat) (P Q : Nat → Prop) (k : Nat → Nat) (o n : Nat) : Prop :=
  (n ≠ 0 → ∃ c, c < m ∧ og c = o ∧ cz_nu og c = n ∧ P c ∧ n ≤ k o ∧ cz_al m og S Q k o n) ∧
  (∀ c, c < m → og c = o → P c → cz_nu og c ≤ k o → cz_al m og S Q k o (cz_nu og c) → cz_nu og c ≤ n)
/-- n is the most that the known changes Q cover -/
def cz_Cv (m : Nat) (og : Nat → Nat) (S : Nat → Nat → Nat) (Q : Nat → Prop) (k : Nat → Nat) (o n : Nat) : Prop :=
  ∀ j, cz_al m og S Q k o (j + 1) ↔ n ≤ j
/-- what is known is closed -/
def cz_cl (m : Nat) (og : Nat → Nat) (S : Nat → Nat → Nat) (k : Nat → Nat) : Prop :=
  ∀ d, d < m → cz_nu og d ≤ k (og d) → ∀ o, o < 3 → S d o ≤ k o
section
variable {m : Nat} {og : Nat → Nat} {S : Nat → Nat → Nat} {P Q : Nat → Prop} {k k1 k2 : Nat → Nat} {o n n1 n2 x : Nat}
theorem cz_al_mono {n' : Nat} (h : cz_al m og S Q k o n) (hn : n ≤ n') : cz_al m og S Q k o n' :=
  fun d hd hq hk => Nat.lt_of_lt_of_le (h d hd hq hk) hn
theorem cz_al_big (hc : cz_cl m og S k) (ho : o < 3) (hn : k o < n) : cz_al m og S Q k o n :=
  fun d hd _ hk => Nat.lt_of_le_of_lt (hc d hd hk o ho) hn
theorem cz_L_le (h : cz_L m og S P Q k o n) : n ≤ k o := by
  by_cases e : n = 0
  · omega
  · obtain ⟨c, _, _, _, _, b, _⟩ := h.1 e
    exact b
theorem cz_Cv_le (hc : cz_cl m og S k) (ho : o < 3) (h : cz_Cv m og S Q k o n) : n ≤ k o :=
  (h (k o)).mp (cz_al_big hc ho (by omega))
/-! learning the change x, the next one of its origin -/
def cz_k1 (og : Nat → Nat) (k : Nat → Nat) (x : Nat) : Nat → Nat := fun o => if o = og x then cz_nu og x else k o
theorem cz_k1_t : cz_k1 og k x (og x) = cz_nu og x := if_pos rfl
theorem cz_k1_f (h : o ≠ og x) : cz_k1 og k x o = k o := if_neg h
theorem cz_k1_ge (hx : cz_nu og x = k (og x) + 1) (o : Nat) : k o ≤ cz_k1 og k x o := by
  by_cases h : o = og x
  · subst h; rw [cz_k1_t]; omega
  · rw [cz_k1_f h]; exact Nat.le_refl _
theorem cz_kn1 (hx : cz_nu og x = k (og x) + 1) (d : Nat) : cz_nu og d ≤ cz_k1 og k x (og d) ↔ cz_nu og d ≤ k (og d) ∨ d = x := by
  by_cases h : og d = og x
  · rw [h, cz_k1_t]
    constructor
    · intro hd
      by_cases e : cz_nu og d = cz_nu og x
      · exact Or.inr (cz_nu_inj h e)
      · exact Or.inl (by omega)
    · intro hd
      rcases hd with hd | hd
      · omega
      · subst hd; exact Nat.le_refl _
  · rw [cz_k1_f h]
    constructor
    · exact Or.inl
    · intro hd
      rcases hd with hd | hd
      · exact hd
      · subst hd; exact absurd rfl h
theorem cz_al1 (hx : cz_nu og x = k (og x) + 1) (hm : x < m) : cz_al m og S Q (cz_k1 og k x) o n ↔ cz_al m og S Q k o n ∧ (Q x → S x o < n) := by
  constructor
  · intro h
    exact ⟨fun d hd hq hk => h d hd hq ((cz_kn1 hx d).mpr (Or.inl hk)), fun hq => h x hm hq ((cz_kn1 hx x).mpr (Or.inr rfl))⟩
  · intro h d hd hq hk
    rcases (cz_kn1 hx d).mp hk with e | e
    · exact h.1 d hd hq e
    · subst e; exact h.2 hq
theorem cz_cl1 (hx : cz_nu og x = k (og x) + 1) (hc : cz_cl m og S k) (hs : ∀ o, o < 3 → S x o ≤ k o) : cz_cl m og S (cz_k1 og k x) := by
  intro d hd hk o ho
  have g := cz_k1_ge hx o
  rcases (cz_kn1 hx d).mp hk with e | e
  · have := hc d hd e o ho
    omega
  · subst e
    have := hs o ho
    omega
theorem cz_L1p (hx : cz_nu og x = k (og x) + 1) (hm : x < m) (h3 : og x < 3) (hc : cz_cl m og S k) (hs : ∀ o, o < 3 → S x o ≤ k o) (hP : P x) :
    cz_L m og S P Q (cz_k1 og k x) (og x) (cz_nu og x) := by
  have hc1 := cz_cl1 hx hc hs
  refine ⟨fun _ => ⟨x, hm, rfl, rfl, hP, by rw [cz_k1_t]; exact Nat.le_refl _, ?_⟩, ?_⟩
  · rw [cz_al1 hx hm]
    refine ⟨cz_al_big hc h3 (by omega), fun _ => ?_⟩
    have := hs (og x) h3
    omega
  · intro c _ _ _ hk _
    rw [cz_k1_t] at hk
    exact hk
theorem cz_L1q (hx : cz_nu og x = k (og x) + 1) (hm : x < m) (hn : ¬ (P x ∧ o = og x)) (hQ : Q x) (hle : n ≤ S x o)
    (h : cz_L m og S P Q k o n) : cz_L m og S P Q (cz_k1 og k x) o 0 := by
  refine ⟨fun z => absurd rfl z, ?_⟩
  intro c hc ho hP hk ha
  rw [cz_al1 hx hm] at ha
  rw [← ho] at hk
  rcases (cz_kn1 hx c).mp hk with e | e
  · rw [ho] at e
    have a := h.2 c hc ho hP e ha.1
    have b := ha.2 hQ
    omega
  · subst e
    exact absurd ⟨hP, ho.symm⟩ hn
theorem cz_L1n (hx : cz_nu og x = k (og x) + 1) (hm : x < m) (hn : ¬ (P x ∧ o = og x)) (hQ : n ≠ 0 → Q x → S x o < n)
    (h : cz_L m og S P Q k o n) : cz_L m og S P Q (cz_k1 og k x) o n := by
  refine ⟨?_, ?_⟩
  · intro hz
    obtain ⟨c, hc, ho, hu, hP, hk, ha⟩ := h.1 hz
    refine ⟨c, hc, ho, hu, hP, ?_, (cz_al1 hx hm).mpr ⟨ha, hQ hz⟩⟩
    have := cz_k1_ge hx o
    omega
  · intro c hc ho hP hk ha
    rw [cz_al1 hx hm] at ha
    rw [← ho] at hk
    rcases (cz_kn1 hx c).mp hk with e | e
    · rw [ho] at e
      exact h.2 c hc ho hP e ha.1
    · subst e
      exact absurd ⟨hP, ho.symm⟩ hn
theorem cz_C1q (hx : cz_nu og x = k (og x) + 1) (hm : x < m) (hQ : Q x) (h : cz_Cv m og S Q k o n) : cz_Cv m og S Q (cz_k1 og k x) o (max n (S x o)) := by
  intro j
  rw [cz_al1 hx hm, h j]
  constructor
  · intro a
    have := a.2 hQ
    omega
  · intro a
    exact ⟨by omega, fun _ => by omega⟩
theorem cz_C1n (hx : cz_nu og x = k (og x) + 1) (hm : x < m) (hQ : ¬ Q x) (h : cz_Cv m og S Q k o n) : cz_Cv m og S Q (cz_k1 og k x) o n := by
  intro j
  rw [cz_al1 hx hm, h j]
  exact ⟨fun a => a.1, fun a => ⟨a, fun z => absurd z hQ⟩⟩
/-! joining -/
def cz_kj (k1 k2 : Nat → Nat) : Nat → Nat := fun o => max (k1 o) (k2 o)
theorem cz_kj_d (o : Nat) : cz_kj k1 k2 o = max (k1 o) (k2 o) := rfl
theorem cz_kj_c : cz_kj k1 k2 = cz_kj k2 k1 := funext fun o => Nat.max_comm _ _
theorem cz_alj : cz_al m og S Q (cz_kj k1 k2) o n ↔ cz_al m og S Q k1 o n ∧ cz_al m og S Q k2 o n := by
  constructor
  · intro h
    exact ⟨fun d hd hq hk => h d hd hq (by rw [cz_kj_d]; omega), fun d hd hq hk => h d hd hq (by rw [cz_kj_d]; omega)⟩
  · intro h d hd hq hk
    rw [cz_kj_d] at hk
    by_cases e : cz_nu og d ≤ k1 (og d)
    · exact h.1 d hd hq e
    · exact h.2 d hd hq (by omega)
theorem cz_clj (h1 : cz_cl m og S k1) (h2 : cz_cl m og S k2) : cz_cl m og S (cz_kj k1 k2) := by
  intro d hd hk o ho
  rw [cz_kj_d] at hk
  rw [cz_kj_d]
  by_cases e : cz_nu og d ≤ k1 (og d)
  · have := h1 d hd e o ho
    omega
  · have := h2 d hd (by omega) o ho
    omega
theorem cz_Cj (h1 : cz_Cv m og S Q k1 o n1) (h2 : cz_Cv m og S Q k2 o n2) : cz_Cv m og S Q (cz_kj k1 k2) o (max n1 n2) := by
  intro j
  rw [cz_alj, h1 j, h2 j]
  omega
/-- which of two last numbers survives -/
def cz_sv (a ka b kb : Nat) : Nat := if a = b then a else max (if kb < a then a else 0) (if ka < b then b else 0)
theorem cz_sv_c (a ka b kb : Nat) : cz_sv a ka b kb = cz_sv b kb a ka := by
  unfold cz_sv
  by_cases h : a = b
  · rw [if_pos h, if_pos h.symm, h]
  · rw [if_neg h, if_neg (show ¬ b = a from fun z => h z.symm), Nat.max_comm]
theorem cz_Lj_le (ho : o < 3) (hle : k1 o ≤ k2 o) (c1 : cz_cl m og S k1) (h1 : cz_L m og S P Q k1 o n1) (h2 : cz_L m og S P Q k2 o n2) :
    cz_L m og S P Q (cz_kj k1 k2) o (cz_sv n1 (k1 o) n2 (k2 o)) := by
  have b1 := cz_L_le h1
  have b2 := cz_L_le h2
  have km : cz_kj k1 k2 o = k2 o := by rw [cz_kj_d]; omega
  by_cases e : n1 = n2
  · have ev : cz_sv n1 (k1 o) n2 (k2 o) = n2 := by unfold cz_sv; rw [if_pos e, e]
    rw [ev]
    refine ⟨?_, ?_⟩
    · intro hz
      obtain ⟨c, hc, hoc, hu, hP, hk, ha⟩ := h2.1 hz
      obtain ⟨c', hc', hoc', hu', hP', hk', ha'⟩ := h1.1 (by omega)
      rw [e] at ha'
      exact ⟨c, hc, hoc, hu, hP, by omega, cz_alj.mpr ⟨ha', ha⟩⟩
    · intro c hc hoc hP hk ha
      rw [km] at hk
      exact h2.2 c hc hoc hP hk (cz_alj.mp ha).2
  · by_cases g : k1 o < n2
    · have ev : cz_sv n1 (k1 o) n2 (k2 o) = n2 := by
        unfold cz_sv
        rw [if_neg e, if_pos g, if_neg (show ¬ k2 o < n1 by omega)]
        omega
      rw [ev]
      refine ⟨?_, ?_⟩
      · intro hz
        obtain ⟨c, hc, hoc, hu, hP, hk, ha⟩ := h2.1 hz
        exact ⟨c, hc, hoc, hu, hP, by omega, cz_alj.mpr ⟨cz_al_big c1 ho g, ha⟩⟩
      · intro c hc hoc hP hk ha
        rw [km] at hk
        exact h2.2 c hc hoc hP hk (cz_alj.mp ha).2
    · have ev : cz_sv n1 (k1 o) n2 (k2 o) = 0 := by
        unfold cz_sv
        rw [if_neg e, if_neg g, if_neg (show ¬ k2 o < n1 by omega)]
        rfl
      rw [ev]
      refine ⟨fun z => absurd rfl z, ?_⟩
      intro c hc hoc hP hk ha
      rw [km] at hk
      obtain ⟨a1, a2⟩ := cz_alj.mp ha
      have l2 := h2.2 c hc hoc hP hk a2
      have l1 := h1.2 c hc hoc hP (by omega) a1
      have p := cz_nu_pos og c
      obtain ⟨c2, hc2, ho2, hu2, hP2, hk2, ha2⟩ := h2.1 (by omega)
      have q1 := h1.2 c2 hc2 ho2 hP2 (by omega) (cz_al_mono a1 (by omega))
      obtain ⟨d1, hd1, hd2, hd3, hd4, hd5, hd6⟩ := h1.1 (by omega)
      have q2 := h2.2 d1 hd1 hd2 hd4 (by omega) (cz_al_mono ha2 (by omega))
      omega
theorem cz_Lj (ho : o < 3) (c1 : cz_cl m og S k1) (c2 : cz_cl m og S k2) (h1 : cz_L m og S P Q k1 o n1) (h2 : cz_L m og S P Q k2 o n2) :
    cz_L m og S P Q (cz_kj k1 k2) o (cz_sv n1 (k1 o) n2 (k2 o)) := by
  by_cases h : k1 o ≤ k2 o
  · exact cz_Lj_le ho h c1 h1 h2
  · rw [cz_kj_c, cz_sv_c]
    exact cz_Lj_le ho (by omega) c2 h2 h1
end
/-! one more change, unknown as yet -/
section
variable {m : Nat} {og og' : Nat → Nat} {S S' : Nat → Nat → Nat} {P P' Q Q' : Nat → Prop} {k : Nat → Nat} {o n : Nat}
theorem cz_al_x (hg : ∀ c, c < m → og' c = og c) (hS : ∀ c, c < m → S' c = S c) (hQ : ∀ c, c < m → (Q' c ↔ Q c)) (hk : k (og' m) < cz_nu og' m) :
    cz_al (m + 1) og' S' Q' k o n ↔ cz_al m og S Q k o n := by
  constructor
  · intro h d hd hq hk'
    have a := h d (by omega) ((hQ d hd).mpr hq) (by rw [hg d hd, cz_nu_cg hg hd]; exact hk')
    rw [hS d hd] at a
    exact a
  · intro h d hd hq hk'
    by_cases e : d = m
    · subst e
      omega
    · have hd' : d < m := by omega
      rw [hS d hd']
      rw [hg d hd', cz_nu_cg hg hd'] at hk'
      exact h d hd' ((hQ d hd').mp hq) hk'
theorem cz_cl_x (hg : ∀ c, c < m → og' c = og c) (hS : ∀ c, c < m → S' c = S c) (hk : k (og' m) < cz_nu og' m) (h : cz_cl m og S k) :
    cz_cl (m + 1) og' S' k := by
  intro d hd hk' o ho
  by_cases e : d = m
  · subst e
    omega
  · have hd' : d < m := by omega
    rw [hS d hd']
    rw [hg d hd', cz_nu_cg hg hd'] at hk'
    exact h d hd' hk' o ho
theorem cz_Cv_x (hg : ∀ c, c < m → og' c = og c) (hS : ∀ c, c < m → S' c = S c) (hQ : ∀ c, c < m → (Q' c ↔ Q c)) (hk : k (og' m) < cz_nu og' m)
    (h : cz_Cv m og S Q k o n) : cz_Cv (m + 1) og' S' Q' k o n := by
  intro j
  rw [cz_al_x hg hS hQ hk]
  exact h j
theorem cz_L_x (hg : ∀ c, c < m → og' c = og c) (hS : ∀ c, c < m → S' c = S c) (hP : ∀ c, c < m → (P' c ↔ P c)) (hQ : ∀ c, c < m → (Q' c ↔ Q c)) (hk : k (og' m) < cz_nu og' m)
    (h : cz_L m og S P Q k o n) : cz_L (m + 1) og' S' P' Q' k o n := by
  refine ⟨?_, ?_⟩
  · intro hz
    obtain ⟨c, hc, ho, hu, hp, hk', ha⟩ := h.1 hz
    refine ⟨c, by omega, by rw [hg c hc]; exact ho, by rw [cz_nu_cg hg hc]; exact hu, (hP c hc).mpr hp, hk', ?_⟩
    rw [cz_al_x hg hS hQ hk]
    exact ha
  · intro c hc ho hp hk' ha
    by_cases e : c = m
    · subst e
      rw [ho] at hk
      omega
    · have hc' : c < m := by omega
      rw [cz_al_x hg hS hQ hk] at ha
      rw [cz_nu_cg hg hc'] at hk' ha ⊢
      rw [hg c hc'] at ho
      exact h.2 c hc' ho ((hP c hc').mp hp) hk' ha
end
end
section
/-! ===== counts and sums ===== -/
noncomputable def cz_b (p : Prop) : Nat := @ite Nat p (Classical.propDecidable p) 1 0
theorem cz_b_t {p : Prop} (h : p) : cz_b p = 1 := if_pos h
theorem cz_b_f {p : Prop} (h : ¬ p) : cz_b p = 0 := if_neg h
theorem cz_b_c {p q : Prop} (h : p ↔ q) : cz_b p = cz_b q := by
  by_cases hp : p
  · rw [cz_b_t hp, cz_b_t (h.mp hp)]
  · rw [cz_b_f hp, cz_b_f (fun z => hp (h.mpr z))]
theorem cz_b_le (p : Prop) : cz_b p ≤ 1 := by
  by_cases hp : p
  · rw [cz_b_t hp]; exact Nat.le_refl _
  · rw [cz_b_f hp]; exact Nat.zero_le _
theorem cz_b_or {p q r : Prop} (h : p ↔ q ∨ r) (hd : ¬ (q ∧ r)) : cz_b p = cz_b q + cz_b r := by
  by_cases hq : q
  · rw [cz_b_t (h.mpr (Or.inl hq)), cz_b_t hq, cz_b_f (fun z => hd ⟨hq, z⟩)]
  · by_cases hr : r
    · rw [cz_b_t (h.mpr (Or.inr hr)), cz_b_f hq, cz_b_t hr]
    · rw [cz_b_f hq, cz_b_f hr, cz_b_f (fun z => (h.mp z).elim hq hr)]
theorem cz_b_1 {p : Prop} (h : cz_b p = 1) : p := by
  by_cases hp : p
  · exact hp
  · rw [cz_b_f hp] at h; omega
theorem cz_b_0 {p : Prop} (h : cz_b p = 0) : ¬ p := by
  intro hp
  rw [cz_b_t hp] at h; omega
noncomputable def cz_ct (p : Nat → Prop) : Nat → Nat
  | 0 => 0
  | c + 1 => cz_ct p c + cz_b (p c)
theorem cz_ct_s (p : Nat → Prop) (c : Nat) : cz_ct p (c + 1) = cz_ct p c + cz_b (p c) := rfl
theorem cz_ct_le (p : Nat → Prop) : ∀ m, cz_ct p m ≤ m := by
  intro m
  induction m with
  | zero => exact Nat.le_refl _
  | succ m ih =>
    have := cz_b_le (p m)
    rw [cz_ct_s]; omega
theorem cz_ct_c {p q : Nat → Prop} : ∀ m, (∀ c, c < m → (p c ↔ q c)) → cz_ct p m = cz_ct q m := by
  intro m
  induction m with
  | zero => intro _; rfl
  | succ m ih =>
    intro h
    rw [cz_ct_s, cz_ct_s, ih (fun c hc => h c (by omega)), cz_b_c (h m (by omega))]
/-- the changes whose number is the one kept for their origin, counted by origins -/
theorem cz_ct3 {og : Nat → Nat} {l : Nat → Nat} {R : Nat → Prop} {p : Nat → Prop} : ∀ m, (∀ c, c < m → og c < 3) → (∀ c, c < m → (p c ↔ l (og c) = cz_nu og c ∧ R (og c))) →
    cz_ct p m = cz_b ((1 ≤ l 0 ∧ l 0 ≤ cz_cn og 0 m) ∧ R 0) + cz_b ((1 ≤ l 1 ∧ l 1 ≤ cz_cn og 1 m) ∧ R 1) + cz_b ((1 ≤ l 2 ∧ l 2 ≤ cz_cn og 2 m) ∧ R 2) := by
  intro m
  induction m with
  | zero =>
    intro _ _
    have z : ∀ o, ¬ ((1 ≤ l o ∧ l o ≤ cz_cn og o 0) ∧ R o) := by
      intro o h
      have : cz_cn og o 0 = 0 := rfl
      have h1 := h.1.1
      have h2 := h.1.2
      omega
    rw [cz_b_f (z 0), cz_b_f (z 1), cz_b_f (z 2)]
    rfl
  | succ m ih =>
    intro h3 hp
    rw [cz_ct_s, ih (fun c hc => h3 c (by omega)) (fun c hc => hp c (by omega)), cz_b_c (hp m (by omega))]
    have key : ∀ o, og m = o → cz_b ((1 ≤ l o ∧ l o ≤ cz_cn og o (m + 1)) ∧ R o) = cz_b ((1 ≤ l o ∧ l o ≤ cz_cn og o m) ∧ R o) + cz_b (l (og m) = cz_nu og m ∧ R (og m)) := by
      intro o e
      subst e
      refine cz_b_or ?_ ?_
      · rw [cz_cn_t rfl, cz_nu_d]
        constructor
        · intro h
          by_cases e : l (og m) ≤ cz_cn og (og m) m
          · exact Or.inl ⟨⟨h.1.1, e⟩, h.2⟩
          · refine Or.inr ⟨?_, h.2⟩
            have := h.1.2
            omega
        · intro h
          rcases h with h | h
          · refine ⟨⟨h.1.1, ?_⟩, h.2⟩
            have := h.1.2
            omega
          · refine ⟨⟨?_, ?_⟩, h.2⟩
            · have := h.1; omega
            · have := h.1; omega
      · intro h
        rw [cz_nu_d] at h
        have a := h.1.1.2
        have b := h.2.1
        omega
    have keyn : ∀ o, og m ≠ o → cz_b ((1 ≤ l o ∧ l o ≤ cz_cn og o (m + 1)) ∧ R o) = cz_b ((1 ≤ l o ∧ l o ≤ cz_cn og o m) ∧ R o) := by
      intro o e
      rw [cz_cn_f e]
    have hm := h3 m (by omega)
    rcases (show og m = 0 ∨ og m = 1 ∨ og m = 2 by omega) with e | e | e
    · rw [key 0 e, keyn 1 (by omega), keyn 2 (by omega)]; omega
    · rw [key 1 e, keyn 0 (by omega), keyn 2 (by omega)]; omega
    · rw [key 2 e, keyn 0 (by omega), keyn 1 (by omega)]; omega
theorem cz_ct3' {og : Nat → Nat} {l : Nat → Nat} {R : Nat → Prop} {p : Nat → Prop} {m : Nat} (h3 : ∀ c, c < m → og c < 3) (hl : ∀ o, o < 3 → l o ≤ cz_cn og o m)
    (hp : ∀ c, c < m → (p c ↔ l (og c) = cz_nu og c ∧ R (og c))) :
    cz_ct p m = cz_b (l 0 ≠ 0 ∧ R 0) + cz_b (l 1 ≠ 0 ∧ R 1) + cz_b (l 2 ≠ 0 ∧ R 2) := by
  rw [cz_ct3 m h3 hp]
  have key : ∀ o, o < 3 → cz_b ((1 ≤ l o ∧ l o ≤ cz_cn og o m) ∧ R o) = cz_b (l o ≠ 0 ∧ R o) := by
    intro o ho
    have := hl o ho
    refine cz_b_c ⟨fun h => ⟨?_, h.2⟩, fun h => ⟨⟨?_, this⟩, h.2⟩⟩
    · have := h.1.1; omega
    · have := h.1; omega
  rw [key 0 (by omega), key 1 (by omega), key 2 (by omega)]
theorem cz_ctk {og : Nat → Nat} (o k : Nat) : ∀ m, cz_ct (fun c => og c = o ∧ cz_nu og c ≤ k) m = min k (cz_cn og o m) := by
  intro m
  induction m with
  | zero => show 0 = min k 0; omega
  | succ m ih =>
    rw [cz_ct_s, ih]
    by_cases h : og m = o
    · rw [cz_cn_t h]
      by_cases hk : cz_nu og m ≤ k
      · rw [cz_b_t ⟨h, hk⟩]
        rw [cz_nu_d, h] at hk
        omega
      · rw [cz_b_f (fun z => hk z.2)]
        rw [cz_nu_d, h] at hk
        omega
    · rw [cz_b_f (fun z => h z.1), cz_cn_f h]; omega
/-! sums of ints -/
def cz_T (og : Nat → Nat) (w : Nat → Int32) (o n : Nat) : Nat → Int32
  | 0 => 0
  | c + 1 => cz_T og w o n c + (if og c = o ∧ cz_nu og c ≤ n then w c else 0)
theorem cz_T_s (og : Nat → Nat) (w : Nat → Int32) (o n c : Nat) : cz_T og w o n (c + 1) = cz_T og w o n c + (if og c = o ∧ cz_nu og c ≤ n then w c else 0) := rfl
theorem cz_T_t {og : Nat → Nat} {w : Nat → Int32} {o n c : Nat} (h : og c = o) (h2 : cz_nu og c ≤ n) : cz_T og w o n (c + 1) = cz_T og w o n c + w c := by
  rw [cz_T_s, if_pos ⟨h, h2⟩]
theorem cz_T_f {og : Nat → Nat} {w : Nat → Int32} {o n c : Nat} (h : ¬ (og c = o ∧ cz_nu og c ≤ n)) : cz_T og w o n (c + 1) = cz_T og w o n c := by
  rw [cz_T_s, if_neg h, Int32.add_zero]
theorem cz_T_cg {og og' : Nat → Nat} {w w' : Nat → Int32} (o n : Nat) : ∀ m, (∀ c, c < m → og' c = og c) → (∀ c, c < m → w' c = w c) → cz_T og' w' o n m = cz_T og w o n m := by
  intro m
  induction m with
  | zero => intro _ _; rfl
  | succ m ih =>
    intro h hw
    rw [cz_T_s, cz_T_s, ih (fun c hc => h c (by omega)) (fun c hc => hw c (by omega)), h m (by omega), hw m (by omega), cz_nu_cg h (show m < m + 1 by omega)]
theorem cz_T_big {og : Nat → Nat} {w : Nat → Int32} {o n n' : Nat} : ∀ m, cz_cn og o m ≤ n → cz_cn og o m ≤ n' → cz_T og w o n m = cz_T og w o n' m := by
  intro m
  induction m with
  | zero => intro _ _; rfl
  | succ m ih =>
    intro h h'
    by_cases e : og m = o
    · rw [cz_cn_t e] at h h'
      have u : cz_nu og m = cz_cn og o m + 1 := by rw [cz_nu_d, e]
      rw [cz_T_t e (by omega), cz_T_t e (by omega), ih (by omega) (by omega)]
    · rw [cz_cn_f e] at h h'
      rw [cz_T_f (fun z => e z.1), cz_T_f (fun z => e z.1), ih h h']
theorem cz_T_z {og : Nat → Nat} {w : Nat → Int32} {o : Nat} : ∀ m, cz_T og w o 0 m = 0 := by
  intro m
  induction m with
  | zero => rfl
  | succ m ih =>
    rw [cz_T_f (fun z => by have := cz_nu_pos og m; omega), ih]
def cz_sm (f : Nat → Int32) : Nat → Int32
  | 0 => 0
  | c + 1 => cz_sm f c + f c
theorem cz_sm_s (f : Nat → Int32) (c : Nat) : cz_sm f (c + 1) = cz_sm f c + f c := rfl
theorem cz_r1 (x y a b c d w : Int32) : x - y + (a - b) + (c - d) + w = x + w - y + (a - b) + (c - d) := by grind
theorem cz_r2 (x y a b c d w : Int32) : x - y + (a - b) + (c - d) + w = x - y + (a + w - b) + (c - d) := by grind
theorem cz_r3 (x y a b c d w : Int32) : x - y + (a - b) + (c - d) + w = x - y + (a - b) + (c + w - d) := by grind
theorem cz_r4 (x y w : Int32) : x + w - (y + w) = x - y := by grind
/-- the total: by changes, and by sums up to a number -/
theorem cz_tot {og : Nat → Nat} {w : Nat → Int32} {K C : Nat → Nat} {f : Nat → Int32} : ∀ m, (∀ c, c < m → og c < 3) → (∀ o, o < 3 → C o ≤ K o) →
    (∀ c, c < m → (C (og c) < cz_nu og c ∧ cz_nu og c ≤ K (og c)) → f c = w c) → (∀ c, c < m → ¬ (C (og c) < cz_nu og c ∧ cz_nu og c ≤ K (og c)) → f c = 0) →
    cz_sm f m = (cz_T og w 0 (K 0) m - cz_T og w 0 (C 0) m) + (cz_T og w 1 (K 1) m - cz_T og w 1 (C 1) m) + (cz_T og w 2 (K 2) m - cz_T og w 2 (C 2) m) := by
  intro m
  induction m with
  | zero => intro _ _ _ _; show (0 : Int32) = 0 - 0 + (0 - 0) + (0 - 0); decide
  | succ m ih =>
    intro h3 hC ht hf
    rw [cz_sm_s, ih (fun c hc => h3 c (by omega)) hC (fun c hc => ht c (by omega)) (fun c hc => hf c (by omega))]
    have keyn : ∀ o n, og m ≠ o → cz_T og w o n (m + 1) = cz_T og w o n m := fun o n e => cz_T_f (fun z => e z.1)
    have ht := ht m (by omega)
    have hf := hf m (by omega)
    have h3 := h3 m (by omega)
    have hC := hC (og m) h3
    have key : ∀ o, og m = o → (∃ v, f m = v ∧ ((cz_T og w o (K o) (m + 1) = cz_T og w o (K o) m + v ∧ cz_T og w o (C o) (m + 1) = cz_T og w o (C o) m) ∨ (v = 0 ∧ cz_T og w o (K o) (m + 1) - cz_T og w o (C o) (m + 1) = cz_T og w o (K o) m - cz_T og w o (C o) m))) := by
      intro o e
      subst e
      by_cases h1 : cz_nu og m ≤ C (og m)
      · refine ⟨0, hf (fun z => by have := z.1; omega), Or.inr ⟨rfl, ?_⟩⟩
        rw [cz_T_t rfl h1, cz_T_t rfl (by omega), cz_r4]
      · by_cases h2 : cz_nu og m ≤ K (og m)
        · refine ⟨w m, ht ⟨by omega, h2⟩, Or.inl ⟨cz_T_t rfl h2, cz_T_f (fun z => h1 z.2)⟩⟩
        · refine ⟨0, hf (fun z => h2 z.2), Or.inr ⟨rfl, ?_⟩⟩
          rw [cz_T_f (fun z => h2 z.2), cz_T_f (fun z => h1 z.2)]
    rcases (show og m = 0 ∨ og m = 1 ∨ og m = 2 by omega) with e | e | e
    · rw [keyn 1 _ (by omega), keyn 1 _ (by omega), keyn 2 _ (by omega), keyn 2 _ (by omega)]
      obtain ⟨v, hv, h | h⟩ := key 0 e
      · rw [hv, h.1, h.2]; exact cz_r1 _ _ _ _ _ _ _
      · rw [hv, h.1, h.2, Int32.add_zero]
    · rw [keyn 0 _ (by omega), keyn 0 _ (by omega), keyn 2 _ (by omega), keyn 2 _ (by omega)]
      obtain ⟨v, hv, h | h⟩ := key 1 e
      · rw [hv, h.1, h.2]; exact cz_r2 _ _ _ _ _ _ _
      · rw [hv, h.1, h.2, Int32.add_zero]
    · rw [keyn 0 _ (by omega), keyn 0 _ (by omega), keyn 1 _ (by omega), keyn 1 _ (by omega)]
      obtain ⟨v, hv, h | h⟩ := key 2 e
      · rw [hv, h.1, h.2]; exact cz_r3 _ _ _ _ _ _ _
      · rw [hv, h.1, h.2, Int32.add_zero]
/-! ===== the register's places: three values, some of them there ===== -/
section
variable {b : Nat → Prop} {V : Nat → Int32}
def cz_pl (b : Nat → Prop) (V : Nat → Int32) (o i : Nat) : Prop := i ≠ o ∧ b i ∧ (V i < V o ∨ V i = V o ∧ i < o)
noncomputable def cz_pc (b : Nat → Prop) (V : Nat → Int32) (o : Nat) : Nat := cz_b (cz_pl b V o 0) + cz_b (cz_pl b V o 1) + cz_b (cz_pl b V o 2)
noncomputable def cz_lo (b : Nat → Prop) (V : Nat → Int32) (v : Int32) : Nat := cz_b (b 0 ∧ V 0 < v) + cz_b (b 1 ∧ V 1 < v) + cz_b (b 2 ∧ V 2 < v)
noncomputable def cz_hi (b : Nat → Prop) (V : Nat → Int32) (v : Int32) : Nat := cz_b (b 0 ∧ (V 0 < v ∨ V 0 = v)) + cz_b (b 1 ∧ (V 1 < v ∨ V 1 = v)) + cz_b (b 2 ∧ (V 2 < v ∨ V 2 = v))
theorem cz_irr (x : Int32) : ¬ x < x := by
  rw [Int32.lt_iff_toInt_lt]; omega
theorem cz_pl_t {o i : Nat} (h : i < o) : cz_b (cz_pl b V o i) = cz_b (b i ∧ V i < V o) + cz_b (b i ∧ V i = V o) := by
  refine cz_b_or ?_ ?_
  · unfold cz_pl
    constructor
    · intro z
      rcases z.2.2 with y | y
      · exact Or.inl ⟨z.2.1, y⟩
      · exact Or.inr ⟨z.2.1, y.1⟩
    · intro z
      rcases z with y | y
      · exact ⟨by omega, y.1, Or.inl y.2⟩
      · exact ⟨by omega, y.1, Or.inr ⟨y.2, h⟩⟩
  · intro z
    have a := z.1.2
    rw [z.2.2] at a
    exact cz_irr _ a
theorem cz_pl_f {o i : Nat} (h : ¬ i < o) : cz_b (cz_pl b V o i) = cz_b (b i ∧ V i < V o) := by
  refine cz_b_c ?_
  unfold cz_pl
  constructor
  · intro z
    rcases z.2.2 with y | y
    · exact ⟨z.2.1, y⟩
    · exact absurd y.2 h
  · intro z
    refine ⟨?_, z.1, Or.inl z.2⟩
    intro e
    subst e
    exact cz_irr _ z.2
theorem cz_hi_e (v : Int32) : cz_hi b V v = cz_lo b V v + (cz_b (b 0 ∧ V 0 = v) + cz_b (b 1 ∧ V 1 = v) + cz_b (b 2 ∧ V 2 = v)) := by
  have key : ∀ i, cz_b (b i ∧ (V i < v ∨ V i = v)) = cz_b (b i ∧ V i < v) + cz_b (b i ∧ V i = v) := by
    intro i
    refine cz_b_or ?_ ?_
    · constructor
      · intro z
        rcases z.2 with y | y
        · exact Or.inl ⟨z.1, y⟩
        · exact Or.inr ⟨z.1, y⟩
      · intro z
        rcases z with y | y
        · exact ⟨y.1, Or.inl y.2⟩
        · exact ⟨y.1, Or.inr y.2⟩
    · intro z
      have a := z.1.2
      rw [z.2.2] at a
      exact cz_irr _ a
  unfold cz_hi cz_lo
  rw [key 0, key 1, key 2]
  omega
theorem cz_pc0 : cz_pc b V 0 = cz_lo b V (V 0) := by
  unfold cz_pc cz_lo
  rw [cz_pl_f (by omega), cz_pl_f (by omega), cz_pl_f (by omega)]
theorem cz_pc1 : cz_pc b V 1 = cz_lo b V (V 1) + cz_b (b 0 ∧ V 0 = V 1) := by
  unfold cz_pc cz_lo
  rw [cz_pl_t (by omega), cz_pl_f (by omega), cz_pl_f (by omega)]
  omega
theorem cz_pc2 : cz_pc b V 2 = cz_lo b V (V 2) + cz_b (b 0 ∧ V 0 = V 2) + cz_b (b 1 ∧ V 1 = V 2) := by
  unfold cz_pc cz_lo
  rw [cz_pl_t (by omega), cz_pl_t (by omega), cz_pl_f (by omega)]
  omega
/-- a place that X finds lies within Y's borders -/
theorem cz_v1 {o : Nat} (ho : o < 3) (hb : b o) : cz_lo b V (V o) ≤ cz_pc b V o ∧ cz_pc b V o < cz_hi b V (V o) := by
  rw [cz_hi_e]
  rcases (show o = 0 ∨ o = 1 ∨ o = 2 by omega) with e | e | e
  · subst e
    rw [cz_pc0, cz_b_t (p := b 0 ∧ V 0 = V 0) ⟨hb, rfl⟩]
    omega
  · subst e
    rw [cz_pc1, cz_b_t (p := b 1 ∧ V 1 = V 1) ⟨hb, rfl⟩]
    omega
  · subst e
    rw [cz_pc2, cz_b_t (p := b 2 ∧ V 2 = V 2) ⟨hb, rfl⟩]
    omega
theorem cz_b_im {p q : Prop} (h : p → q) : cz_b p ≤ cz_b q := by
  by_cases hp : p
  · rw [cz_b_t hp, cz_b_t (h hp)]; exact Nat.le_refl _
  · rw [cz_b_f hp]; exact Nat.zero_le _
theorem cz_v2a {x y : Int32} (h : x < y) : cz_hi b V x ≤ cz_lo b V y := by
  have key : ∀ i, cz_b (b i ∧ (V i < x ∨ V i = x)) ≤ cz_b (b i ∧ V i < y) := by
    intro i
    refine cz_b_im (fun z => ⟨z.1, ?_⟩)
    rcases z.2 with u | u
    · exact Int32.lt_trans u h
    · rw [u]; exact h
  have k0 := key 0
  have k1 := key 1
  have k2 := key 2
  unfold cz_hi cz_lo
  omega
/-- only one value has the place within its borders -/
theorem cz_v2 {x y : Int32} {p : Int} (h1 : (cz_lo b V x : Int) ≤ p) (h2 : p < cz_hi b V x) (h3 : (cz_lo b V y : Int) ≤ p) (h4 : p < cz_hi b V y) : x = y := by
  by_cases a : x < y
  · have := cz_v2a (b := b) (V := V) a
    omega
  · by_cases c : y < x
    · have := cz_v2a (b := b) (V := V) c
      omega
    · rw [Int32.lt_iff_toInt_lt] at a c
      exact Int32.toInt_inj.mp (by omega)
theorem cz_v3a (q0 q1 q2 t : Nat) (h0 : q0 ≤ 1) (h1 : q1 ≤ 1) (h2 : q2 ≤ 1) (ht : t < q0 + q1 + q2) : (q0 = 1 ∧ t = 0) ∨ (q1 = 1 ∧ t = q0) ∨ (q2 = 1 ∧ t = q0 + q1) := by
  omega
/-- and then X finds it -/
theorem cz_v3 {v : Int32} {p : Int} (h1 : (cz_lo b V v : Int) ≤ p) (h2 : p < cz_hi b V v) : ∃ o, o < 3 ∧ b o ∧ (cz_pc b V o : Int) = p := by
  rw [cz_hi_e] at h2
  obtain ⟨t, ht⟩ : ∃ t : Nat, p = (cz_lo b V v + t : Nat) := ⟨(p - cz_lo b V v).toNat, by omega⟩
  subst ht
  have l0 := cz_b_le (b 0 ∧ V 0 = v)
  have l1 := cz_b_le (b 1 ∧ V 1 = v)
  have l2 := cz_b_le (b 2 ∧ V 2 = v)
  rcases cz_v3a _ _ _ t l0 l1 l2 (by omega) with ⟨a, c⟩ | ⟨a, c⟩ | ⟨a, c⟩
  · have f := cz_b_1 a
    refine ⟨0, by omega, f.1, ?_⟩
    rw [cz_pc0, f.2, c]
    rfl
  · have f := cz_b_1 a
    refine ⟨1, by omega, f.1, ?_⟩
    rw [cz_pc1, f.2, c]
  · have f := cz_b_1 a
    refine ⟨2, by omega, f.1, ?_⟩
    rw [cz_pc2, f.2, c, Nat.add_assoc]
end
end
section
/-! ===== X: arrays by their numbers ===== -/
def cz_d3 (N : Nat) (f : Nat → Int32) (F : Nat → Nat → Nat) : Prop := ∀ i, i < N → ∀ o, o < 3 → f (3 * i + o) = nI (F i o)
def cz_dA (f : Nat → Int32) (F : Nat → Nat → Nat → Nat) : Prop := ∀ r, r < 3 → ∀ e, e < 8 → ∀ o, o < 3 → f (24 * r + 3 * e + o) = nI (F r e o)
theorem cz_d3_c {N : Nat} {f : Nat → Int32} {F F' : Nat → Nat → Nat} (h : cz_d3 N f F) (e : ∀ i o, i < N → o < 3 → F' i o = F i o) : cz_d3 N f F' :=
  fun i hi o ho => by rw [e i o hi ho]; exact h i hi o ho
theorem cz_dA_c {f : Nat → Int32} {F F' : Nat → Nat → Nat → Nat} (h : cz_dA f F) (g : ∀ r e o, r < 3 → e < 8 → o < 3 → F' r e o = F r e o) : cz_dA f F' :=
  fun r hr e he o ho => by rw [g r e o hr he ho]; exact h r hr e he o ho
theorem cz_d3_u {N : Nat} {f : Nat → Int32} {F F' : Nat → Nat → Nat} (i o v : Nat) (h : cz_d3 N f F) (ho : o < 3) (hv : F' i o = v)
    (hn : ∀ i' o', i' < N → o' < 3 → ¬ (i' = i ∧ o' = o) → F' i' o' = F i' o') : cz_d3 N (upd f (3 * i + o) (nI v)) F' := by
  intro i' hi' o' ho'
  by_cases e : i' = i ∧ o' = o
  · obtain ⟨e1, e2⟩ := e
    subst e1 e2
    rw [pk_us, hv]
  · rw [pk_un (by omega), hn i' o' hi' ho' e]
    exact h i' hi' o' ho'
theorem cz_dA_u {f : Nat → Int32} {F F' : Nat → Nat → Nat → Nat} (r e o v : Nat) (h : cz_dA f F) (he : e < 8) (ho : o < 3) (hv : F' r e o = v)
    (hn : ∀ r' e' o', r' < 3 → e' < 8 → o' < 3 → ¬ (r' = r ∧ e' = e ∧ o' = o) → F' r' e' o' = F r' e' o') : cz_dA (upd f (24 * r + 3 * e + o) (nI v)) F' := by
  intro r' hr' e' he' o' ho'
  by_cases q : r' = r ∧ e' = e ∧ o' = o
  · obtain ⟨e1, e2, e3⟩ := q
    subst e1 e2 e3
    rw [pk_us, hv]
  · rw [pk_un (by omega), hn r' e' o' hr' he' ho' q]
    exact h r' hr' e' he' o' ho'
/-! what the drops leave, up to the origin i -/
def cz_drA (LA : Nat → Nat → Nat → Nat) (S : Nat → Nat → Nat) (r e x i : Nat) : Nat → Nat → Nat → Nat :=
  fun r' e' o' => if r' = r ∧ e' = e ∧ o' < i ∧ LA r' e' o' ≤ S x o' then 0 else LA r' e' o'
def cz_drE (LA : Nat → Nat → Nat → Nat) (S : Nat → Nat → Nat) (r x j : Nat) : Nat → Nat → Nat → Nat :=
  fun r' e' o' => if r' = r ∧ e' < j ∧ LA r' e' o' ≤ S x o' then 0 else LA r' e' o'
def cz_dr3 (L : Nat → Nat → Nat) (S : Nat → Nat → Nat) (r x i : Nat) : Nat → Nat → Nat :=
  fun r' o' => if r' = r ∧ o' < i ∧ L r' o' ≤ S x o' then 0 else L r' o'
def cz_cv3 (C : Nat → Nat → Nat) (S : Nat → Nat → Nat) (r x i : Nat) : Nat → Nat → Nat :=
  fun r' o' => if r' = r ∧ o' < i then max (C r' o') (S x o') else C r' o'
section
variable {LA : Nat → Nat → Nat → Nat} {S L C : Nat → Nat → Nat} {r e x i r' e' o' : Nat}
theorem cz_drA_0 : cz_drA LA S r e x 0 r' e' o' = LA r' e' o' := if_neg (by omega)
theorem cz_drA_i : cz_drA LA S r e x i r e i = LA r e i := if_neg (by omega)
theorem cz_drA_k (h : S x i < LA r e i) : cz_drA LA S r e x (i + 1) r' e' o' = cz_drA LA S r e x i r' e' o' := by
  unfold cz_drA
  by_cases q : r' = r ∧ e' = e ∧ o' = i
  · obtain ⟨e1, e2, e3⟩ := q
    subst e1 e2 e3
    rw [if_neg (by omega), if_neg (by omega)]
  · have : (r' = r ∧ e' = e ∧ o' < i + 1 ∧ LA r' e' o' ≤ S x o') ↔ (r' = r ∧ e' = e ∧ o' < i ∧ LA r' e' o' ≤ S x o') := by omega
    simp only [this]
theorem cz_drA_z (h : LA r e i ≤ S x i) : cz_drA LA S r e x (i + 1) r e i = 0 := if_pos ⟨rfl, rfl, by omega, h⟩
theorem cz_drA_n (q : ¬ (r' = r ∧ e' = e ∧ o' = i)) : cz_drA LA S r e x (i + 1) r' e' o' = cz_drA LA S r e x i r' e' o' := by
  unfold cz_drA
  have : (r' = r ∧ e' = e ∧ o' < i + 1 ∧ LA r' e' o' ≤ S x o') ↔ (r' = r ∧ e' = e ∧ o' < i ∧ LA r' e' o' ≤ S x o') := by omega
  simp only [this]
theorem cz_dr3_0 : cz_dr3 L S r x 0 r' o' = L r' o' := if_neg (by omega)
theorem cz_dr3_i : cz_dr3 L S r x i r i = L r i := if_neg (by omega)
theorem cz_dr3_n (q : ¬ (r' = r ∧ o' = i)) : cz_dr3 L S r x (i + 1) r' o' = cz_dr3 L S r x i r' o' := by
  unfold cz_dr3
  have : (r' = r ∧ o' < i + 1 ∧ L r' o' ≤ S x o') ↔ (r' = r ∧ o' < i ∧ L r' o' ≤ S x o') := by omega
  simp only [this]
theorem cz_dr3_k (h : S x i < L r i) : cz_dr3 L S r x (i + 1) r' o' = cz_dr3 L S r x i r' o' := by
  by_cases q : r' = r ∧ o' = i
  · obtain ⟨e1, e2⟩ := q
    subst e1 e2
    unfold cz_dr3
    rw [if_neg (by omega), if_neg (by omega)]
  · exact cz_dr3_n q
theorem cz_dr3_z (h : L r i ≤ S x i) : cz_dr3 L S r x (i + 1) r i = 0 := if_pos ⟨rfl, by omega, h⟩
theorem cz_cv3_0 : cz_cv3 C S r x 0 r' o' = C r' o' := if_neg (by omega)
theorem cz_cv3_i : cz_cv3 C S r x i r i = C r i := if_neg (by omega)
theorem cz_cv3_n (q : ¬ (r' = r ∧ o' = i)) : cz_cv3 C S r x (i + 1) r' o' = cz_cv3 C S r x i r' o' := by
  unfold cz_cv3
  have : (r' = r ∧ o' < i + 1) ↔ (r' = r ∧ o' < i) := by omega
  simp only [this]
theorem cz_cv3_t : cz_cv3 C S r x (i + 1) r i = max (C r i) (S x i) := if_pos ⟨rfl, by omega⟩
theorem cz_cv3_k (h : S x i ≤ C r i) : cz_cv3 C S r x (i + 1) r' o' = cz_cv3 C S r x i r' o' := by
  by_cases q : r' = r ∧ o' = i
  · obtain ⟨e1, e2⟩ := q
    subst e1 e2
    rw [cz_cv3_t, cz_cv3_i]
    omega
  · exact cz_cv3_n q
theorem cz_drE_0 : cz_drE LA S r x 0 r' e' o' = LA r' e' o' := if_neg (by omega)
theorem cz_drE_s (ho : o' < 3) : cz_drE LA S r x (e + 1) r' e' o' = cz_drA (cz_drE LA S r x e) S r e x 3 r' e' o' := by
  unfold cz_drA
  by_cases q : r' = r ∧ e' = e
  · obtain ⟨e1, e2⟩ := q
    subst e1 e2
    have h0 : cz_drE LA S r' x e' r' e' o' = LA r' e' o' := if_neg (by omega)
    rw [h0]
    unfold cz_drE
    by_cases hl : LA r' e' o' ≤ S x o'
    · rw [if_pos ⟨rfl, by omega, hl⟩, if_pos ⟨rfl, rfl, ho, hl⟩]
    · rw [if_neg (fun z => hl z.2.2), if_neg (fun z => hl z.2.2.2)]
  · rw [if_neg (by omega)]
    unfold cz_drE
    have : (r' = r ∧ e' < e + 1 ∧ LA r' e' o' ≤ S x o') ↔ (r' = r ∧ e' < e ∧ LA r' e' o' ≤ S x o') := by omega
    simp only [this]
theorem cz_drE_le : cz_drE LA S r x e r' e' o' ≤ LA r' e' o' := by
  unfold cz_drE
  split
  · exact Nat.zero_le _
  · exact Nat.le_refl _
end
/-! ===== X: the walks of the drops ===== -/
section
variable {fm : Int32} {s a xs xb xc xm xk xv xa xl : Nat → Int32} {post : SX → Prop} {m : Nat}
variable {LA : Nat → Nat → Nat → Nat} {S L C : Nat → Nat → Nat} {r e x : Nat}
theorem cz_wA_l (hm : m ≤ 48) (hx : x < m) (hr : r < 3) (he : e < 8) (hxs : cz_d3 m xs S) (hS : ∀ o, o < 3 → S x o ≤ 48) (hA : ∀ o, o < 3 → LA r e o ≤ 48)
    (hp : ∀ xa', cz_dA xa' (cz_drA LA S r e x 3) → post (fm, s, a, xs, xb, xc, xm, xk, xv, xa', xl)) :
    ∀ (n i : Nat) (xa : Nat → Int32), i ≤ 3 → 3 < n + i → cz_dA xa (cz_drA LA S r e x i) →
      wX_dropAdds_3 post (nI r) (nI e) (nI x) fm n (nI i) s a xs xb xc xm xk xv xa xl := by
  intro n
  induction n with
  | zero => intro i xa h1 h2; omega
  | succ n ih =>
    intro i xa h1 h2 h3
    by_cases h : i = 3
    · subst h
      exact br_t (cz_le3 (by omega) (by omega)) (hp xa h3)
    · have hi : i < 3 := by omega
      have b1 := hS i hi
      have b2 := hA i hi
      have g1 := h3 r hr e he i hi
      rw [cz_drA_i] at g1
      refine br_f (cz_n3 hi) ?_
      intro y ey
      rw [cz_i24] at ey
      subst ey
      rw [cz_i3, nI_clamp (show 24 * r + 3 * e + i < 2 ^ 31 by omega), nI_clamp (show 3 * x + i < 2 ^ 31 by omega), hxs x hx i hi, g1]
      refine ⟨vp_in_nI (by omega) (by omega), vp_in_nI (by omega) (by omega), ?_⟩
      refine pk_lt (S x i) (LA r e i) (fun hlt => ?_) (fun hge => ?_) rfl rfl (by omega) (by omega)
      · intro z ez
        rw [nI_1] at ez
        subst ez
        exact ih (i + 1) xa (by omega) (by omega) (cz_dA_c h3 (fun _ _ _ _ _ _ => cz_drA_k hlt))
      · refine ⟨vp_in_nI (by omega) (by omega), ?_⟩
        intro xa' ea z ez
        rw [nI_1] at ez
        subst ez ea
        exact ih (i + 1) _ (by omega) (by omega) (cz_dA_u r e i 0 h3 he hi (cz_drA_z hge) (fun _ _ _ _ _ _ q => cz_drA_n q))
theorem cz_wA (hm : m ≤ 48) (hx : x < m) (hr : r < 3) (he : e < 8) (hxs : cz_d3 m xs S) (hS : ∀ o, o < 3 → S x o ≤ 48) (hA : ∀ o, o < 3 → LA r e o ≤ 48) (h : cz_dA xa LA)
    (hp : ∀ xa', cz_dA xa' (cz_drA LA S r e x 3) → post (fm, s, a, xs, xb, xc, xm, xk, xv, xa', xl)) :
    wpX_dropAdds post (fm, s, a, xs, xb, xc, xm, xk, xv, xa, xl) (nI r) (nI e) (nI x) :=
  ⟨4, cz_wA_l hm hx hr he hxs hS hA hp 4 0 xa (by omega) (by omega) (cz_dA_c h (fun _ _ _ _ _ _ => cz_drA_0))⟩
theorem cz_wS_l (hm : m ≤ 48) (hx : x < m) (hr : r < 3) (hxs : cz_d3 m xs S) (hS : ∀ o, o < 3 → S x o ≤ 48) (hA : ∀ o, o < 3 → L r o ≤ 48)
    (hp : ∀ xl', cz_d3 3 xl' (cz_dr3 L S r x 3) → post (fm, s, a, xs, xb, xc, xm, xk, xv, xa, xl')) :
    ∀ (n i : Nat) (xl : Nat → Int32), i ≤ 3 → 3 < n + i → cz_d3 3 xl (cz_dr3 L S r x i) →
      wX_dropAssigns_2 post (nI r) (nI x) fm n (nI i) s a xs xb xc xm xk xv xa xl := by
  intro n
  induction n with
  | zero => intro i xl h1 h2; omega
  | succ n ih =>
    intro i xl h1 h2 h3
    by_cases h : i = 3
    · subst h
      exact br_t (cz_le3 (by omega) (by omega)) (hp xl h3)
    · have hi : i < 3 := by omega
      have b1 := hS i hi
      have b2 := hA i hi
      have g1 := h3 r hr i hi
      rw [cz_dr3_i] at g1
      refine br_f (cz_n3 hi) ?_
      intro y ey
      rw [cz_i3] at ey
      subst ey
      rw [cz_i3, nI_clamp (show 3 * r + i < 2 ^ 31 by omega), nI_clamp (show 3 * x + i < 2 ^ 31 by omega), hxs x hx i hi, g1]
      refine ⟨vp_in_nI (by omega) (by omega), vp_in_nI (by omega) (by omega), ?_⟩
      refine pk_lt (S x i) (L r i) (fun hlt => ?_) (fun hge => ?_) rfl rfl (by omega) (by omega)
      · intro z ez
        rw [nI_1] at ez
        subst ez
        exact ih (i + 1) xl (by omega) (by omega) (cz_d3_c h3 (fun _ _ _ _ => cz_dr3_k hlt))
      · refine ⟨vp_in_nI (by omega) (by omega), ?_⟩
        intro xl' ea z ez
        rw [nI_1] at ez
        subst ez ea
        exact ih (i + 1) _ (by omega) (by omega) (cz_d3_u r i 0 h3 hi (cz_dr3_z hge) (fun _ _ _ _ q => cz_dr3_n q))
theorem cz_wS (hm : m ≤ 48) (hx : x < m) (hr : r < 3) (hxs : cz_d3 m xs S) (hS : ∀ o, o < 3 → S x o ≤ 48) (hA : ∀ o, o < 3 → L r o ≤ 48) (h : cz_d3 3 xl L)
    (hp : ∀ xl', cz_d3 3 xl' (cz_dr3 L S r x 3) → post (fm, s, a, xs, xb, xc, xm, xk, xv, xa, xl')) :
    wpX_dropAssigns post (fm, s, a, xs, xb, xc, xm, xk, xv, xa, xl) (nI r) (nI x) :=
  ⟨4, cz_wS_l hm hx hr hxs hS hA hp 4 0 xl (by omega) (by omega) (cz_d3_c h (fun _ _ _ _ => cz_dr3_0))⟩
theorem cz_wC_l (hm : m ≤ 48) (hx : x < m) (hr : r < 3) (hxs : cz_d3 m xs S) (hS : ∀ o, o < 3 → S x o ≤ 48) (hA : ∀ o, o < 3 → C r o ≤ 48)
    (hp : ∀ xv', cz_d3 3 xv' (cz_cv3 C S r x 3) → post (fm, s, a, xs, xb, xc, xm, xk, xv', xa, xl)) :
    ∀ (n i : Nat) (xv : Nat → Int32), i ≤ 3 → 3 < n + i → cz_d3 3 xv (cz_cv3 C S r x i) →
      wX_cover_2 post (nI r) (nI x) fm n (nI i) s a xs xb xc xm xk xv xa xl := by
  intro n
  induction n with
  | zero => intro i xv h1 h2; omega
  | succ n ih =>
    intro i xv h1 h2 h3
    by_cases h : i = 3
    · subst h
      exact br_t (cz_le3 (by omega) (by omega)) (hp xv h3)
    · have hi : i < 3 := by omega
      have b1 := hS i hi
      have b2 := hA i hi
      have g1 := h3 r hr i hi
      rw [cz_cv3_i] at g1
      refine br_f (cz_n3 hi) ?_
      intro y ey
      rw [cz_i3] at ey
      subst ey
      rw [cz_i3, nI_clamp (show 3 * r + i < 2 ^ 31 by omega), nI_clamp (show 3 * x + i < 2 ^ 31 by omega), hxs x hx i hi, g1]
      refine ⟨vp_in_nI (by omega) (by omega), vp_in_nI (by omega) (by omega), ?_⟩
      refine pk_le (S x i) (C r i) (fun hle => ?_) (fun hgt => ?_) rfl rfl (by omega) (by omega)
      · intro z ez
        rw [nI_1] at ez
        subst ez
        exact ih (i + 1) xv (by omega) (by omega) (cz_d3_c h3 (fun _ _ _ _ => cz_cv3_k hle))
      · refine ⟨vp_in_nI (by omega) (by omega), vp_in_nI (by omega) (by omega), ?_⟩
        intro xv' ea z ez
        rw [nI_1] at ez
        subst ez ea
        exact ih (i + 1) _ (by omega) (by omega) (cz_d3_u r i (S x i) h3 hi (by rw [cz_cv3_t]; omega) (fun _ _ _ _ q => cz_cv3_n q))
theorem cz_wC (hm : m ≤ 48) (hx : x < m) (hr : r < 3) (hxs : cz_d3 m xs S) (hS : ∀ o, o < 3 → S x o ≤ 48) (hA : ∀ o, o < 3 → C r o ≤ 48) (h : cz_d3 3 xv C)
    (hp : ∀ xv', cz_d3 3 xv' (cz_cv3 C S r x 3) → post (fm, s, a, xs, xb, xc, xm, xk, xv', xa, xl)) :
    wpX_cover post (fm, s, a, xs, xb, xc, xm, xk, xv, xa, xl) (nI r) (nI x) :=
  ⟨4, cz_wC_l hm hx hr hxs hS hA hp 4 0 xv (by omega) (by omega) (cz_d3_c h (fun _ _ _ _ => cz_cv3_0))⟩
end
end
section
/-! ===== X: apply and make ===== -/
def cz_uK (og : Nat → Nat) (K : Nat → Nat → Nat) (r x : Nat) : Nat → Nat → Nat := fun r' => if r' = r then cz_k1 og (K r) x else K r'
def cz_uC (s : Nat → Int32) (S C : Nat → Nat → Nat) (r x : Nat) : Nat → Nat → Nat :=
  fun r' o' => if r' = r ∧ s x = 4 then max (C r' o') (S x o') else C r' o'
def cz_uA (s a : Nat → Int32) (og : Nat → Nat) (S : Nat → Nat → Nat) (LA : Nat → Nat → Nat → Nat) (r x : Nat) : Nat → Nat → Nat → Nat :=
  fun r' e' o' => if r' = r then (if (s x = 0 ∧ a x = nI e') ∧ o' = og x then cz_nu og x else if (s x = 4 ∨ (s x = 1 ∧ a x = nI e')) ∧ LA r' e' o' ≤ S x o' then 0 else LA r' e' o') else LA r' e' o'
def cz_uS (s : Nat → Int32) (og : Nat → Nat) (S L : Nat → Nat → Nat) (r x : Nat) : Nat → Nat → Nat :=
  fun r' o' => if r' = r then (if s x = 2 ∧ o' = og x then cz_nu og x else if (s x = 4 ∨ s x = 2) ∧ L r' o' ≤ S x o' then 0 else L r' o') else L r' o'
section
variable {s a : Nat → Int32} {og : Nat → Nat} {S K C L : Nat → Nat → Nat} {LA : Nat → Nat → Nat → Nat} {r x r' e' o' : Nat}
theorem cz_uK_t : cz_uK og K r x r = cz_k1 og (K r) x := if_pos rfl
theorem cz_uK_f (h : r' ≠ r) : cz_uK og K r x r' = K r' := if_neg h
theorem cz_uK_n (q : ¬ (r' = r ∧ o' = og x)) : cz_uK og K r x r' o' = K r' o' := by
  by_cases h : r' = r
  · subst h
    rw [cz_uK_t, cz_k1_f (fun z => q ⟨rfl, z⟩)]
  · rw [cz_uK_f h]
theorem cz_uC_t (h : s x = 4) : cz_uC s S C r x r o' = max (C r o') (S x o') := if_pos ⟨rfl, h⟩
theorem cz_uC_f (h : r' ≠ r) : cz_uC s S C r x r' o' = C r' o' := if_neg (fun z => h z.1)
theorem cz_uC_n (h : ¬ s x = 4) : cz_uC s S C r x r' o' = C r' o' := if_neg (fun z => h z.2)
theorem cz_uA_p (h : s x = 0 ∧ a x = nI e') : cz_uA s a og S LA r x r e' (og x) = cz_nu og x := by
  unfold cz_uA; rw [if_pos rfl, if_pos ⟨h, rfl⟩]
theorem cz_uA_f (h : r' ≠ r) : cz_uA s a og S LA r x r' e' o' = LA r' e' o' := if_neg h
theorem cz_uA_z (hn : ¬ ((s x = 0 ∧ a x = nI e') ∧ o' = og x)) (hq : s x = 4 ∨ (s x = 1 ∧ a x = nI e')) (h : LA r e' o' ≤ S x o') : cz_uA s a og S LA r x r e' o' = 0 := by
  unfold cz_uA; rw [if_pos rfl, if_neg hn, if_pos ⟨hq, h⟩]
theorem cz_uA_k (hn : ¬ ((s x = 0 ∧ a x = nI e') ∧ o' = og x)) (h : ¬ ((s x = 4 ∨ (s x = 1 ∧ a x = nI e')) ∧ LA r' e' o' ≤ S x o')) : cz_uA s a og S LA r x r' e' o' = LA r' e' o' := by
  by_cases g : r' = r
  · unfold cz_uA; rw [if_pos g, if_neg hn, if_neg h]
  · exact cz_uA_f g
theorem cz_uS_p (h : s x = 2) : cz_uS s og S L r x r (og x) = cz_nu og x := by
  unfold cz_uS; rw [if_pos rfl, if_pos ⟨h, rfl⟩]
theorem cz_uS_f (h : r' ≠ r) : cz_uS s og S L r x r' o' = L r' o' := if_neg h
theorem cz_uS_z (hn : ¬ (s x = 2 ∧ o' = og x)) (hq : s x = 4 ∨ s x = 2) (h : L r o' ≤ S x o') : cz_uS s og S L r x r o' = 0 := by
  unfold cz_uS; rw [if_pos rfl, if_neg hn, if_pos ⟨hq, h⟩]
theorem cz_uS_k (hn : ¬ (s x = 2 ∧ o' = og x)) (h : ¬ ((s x = 4 ∨ s x = 2) ∧ L r' o' ≤ S x o')) : cz_uS s og S L r x r' o' = L r' o' := by
  by_cases g : r' = r
  · unfold cz_uS; rw [if_pos g, if_neg hn, if_neg h]
  · exact cz_uS_f g
end
theorem cz_ne {y : Int32} (u v : Int32) (h : y = u) (huv : ¬ u = v) : ¬ y = v := fun z => huv (h.symm.trans z)
section
variable {fm : Int32} {s a xs xb xc xm xk xv xa xl : Nat → Int32} {post : SX → Prop} {m : Nat} {og : Nat → Nat}
variable {LA : Nat → Nat → Nat → Nat} {S K C L : Nat → Nat → Nat} {r x : Nat}
theorem cz_w128 (hr : r < 3) (ho : og x < 3) (dk : cz_d3 3 xk K)
    (h : ∀ xk', cz_d3 3 xk' (cz_uK og K r x) → post (fm, s, a, xs, xb, xc, xm, xk', xv, xa, xl)) :
    wX_apply_128 post (nI r) (nI (og x)) (nI (cz_nu og x)) fm s a xs xb xc xm xk xv xa xl := by
  unfold wX_apply_128
  rw [cz_i3, nI_clamp (show 3 * r + og x < 2 ^ 31 by omega)]
  refine ⟨vp_in_nI (by omega) (by omega), ?_⟩
  intro xk' ek
  subst ek
  exact h _ (cz_d3_u r (og x) _ dk ho (by rw [cz_uK_t, cz_k1_t]) (fun _ _ _ _ q => cz_uK_n q))
/-- apply at a reset: all elements -/
theorem cz_w95 (hm : m ≤ 48) (hx : x < m) (hr : r < 3) (ho : og x < 3) (hxs : cz_d3 m xs S) (hS : ∀ o, o < 3 → S x o ≤ 48)
    (bA : ∀ e, e < 8 → ∀ o, o < 3 → LA r e o ≤ 48) (bL : ∀ o, o < 3 → L r o ≤ 48) (bC : ∀ o, o < 3 → C r o ≤ 48)
    (dk : cz_d3 3 xk K) (dv : cz_d3 3 xv C) (dl : cz_d3 3 xl L)
    (hp : ∀ xk' xv' xa' xl', cz_d3 3 xk' (cz_uK og K r x) → cz_d3 3 xv' (cz_cv3 C S r x 3) → cz_dA xa' (cz_drE LA S r x 8) → cz_d3 3 xl' (cz_dr3 L S r x 3) → post (fm, s, a, xs, xb, xc, xm, xk', xv', xa', xl')) :
    ∀ (n j : Nat) (xa : Nat → Int32), j ≤ 8 → 8 < n + j → cz_dA xa (cz_drE LA S r x j) →
      wX_apply_95 post (nI r) (nI x) (nI (og x)) (nI (cz_nu og x)) n (nI j) fm s a xs xb xc xm xk xv xa xl := by
  intro n
  induction n with
  | zero => intro j xa h1 h2; omega
  | succ n ih =>
    intro j xa h1 h2 h3
    by_cases h : j = 8
    · subst h
      refine br_t (cz_le8 (by omega) (by omega)) ?_
      refine cz_wS hm hx hr hxs hS bL dl (fun xl' hl' => ?_)
      refine cz_wC hm hx hr hxs hS bC dv (fun xv' hv' => ?_)
      exact cz_w128 hr ho dk (fun xk' hk' => hp xk' xv' xa xl' hk' hv' h3 hl')
    · have hj : j < 8 := by omega
      refine br_f (cz_n8 hj) ?_
      refine cz_wA hm hx hr hj hxs hS (fun o ho' => Nat.le_trans cz_drE_le (bA j hj o ho')) h3 (fun xa' ha' => ?_)
      intro z ez
      rw [nI_1] at ez
      subst ez
      exact ih (j + 1) xa' (by omega) (by omega) (cz_dA_c ha' (fun _ _ _ _ _ ho' => cz_drE_s ho'))
theorem cz_wapply (hm : m ≤ 48) (hx : x < m) (hr : r < 3) (ho : og x < 3) (hxs : cz_d3 m xs S) (hS : ∀ o, o < 3 → S x o ≤ 48)
    (bA : ∀ e, e < 8 → ∀ o, o < 3 → LA r e o ≤ 48) (bL : ∀ o, o < 3 → L r o ≤ 48) (bC : ∀ o, o < 3 → C r o ≤ 48)
    (harg : s x = 0 ∨ s x = 1 → ∃ e, e < 8 ∧ a x = nI e)
    (dk : cz_d3 3 xk K) (dv : cz_d3 3 xv C) (da : cz_dA xa LA) (dl : cz_d3 3 xl L)
    (hp : ∀ xk' xv' xa' xl', cz_d3 3 xk' (cz_uK og K r x) → cz_d3 3 xv' (cz_uC s S C r x) → cz_dA xa' (cz_uA s a og S LA r x) → cz_d3 3 xl' (cz_uS s og S L r x) → post (fm, s, a, xs, xb, xc, xm, xk', xv', xa', xl')) :
    wpX_apply post (fm, s, a, xs, xb, xc, xm, xk, xv, xa, xl) (nI r) (nI x) (nI (og x)) (nI (cz_nu og x)) := by
  unfold wpX_apply
  dsimp only
  rw [nI_clamp (show x < 2 ^ 31 by omega)]
  have hin : vp_in (nI x) 48 := vp_in_nI (by omega) (by omega)
  refine ⟨hin, ?_⟩
  intro y ey
  subst ey
  refine br_c (fun hs => ?_) (fun hs0 => ?_)
  · obtain ⟨e, he, hae⟩ := harg (Or.inl hs)
    rw [hae, cz_i24, nI_clamp (show 24 * r + 3 * e + og x < 2 ^ 31 by omega)]
    refine ⟨hin, vp_in_nI (by omega) (by omega), ?_⟩
    intro xa' ea
    subst ea
    have n4 : ¬ s x = 4 := cz_ne 0 4 hs (by decide)
    have n1 : ¬ s x = 1 := cz_ne 0 1 hs (by decide)
    have n2 : ¬ s x = 2 := cz_ne 0 2 hs (by decide)
    refine cz_w128 hr ho dk (fun xk' hk' => hp xk' _ _ _ hk' (cz_d3_c dv (fun _ _ _ _ => cz_uC_n n4)) ?_ ?_)
    · refine cz_dA_u r e (og x) _ da he ho (cz_uA_p ⟨hs, hae⟩) (fun r' e' o' _ he' _ q => ?_)
      by_cases g : r' = r
      · refine cz_uA_k (fun z => q ⟨g, ?_, z.2⟩) (fun z => z.1.elim n4 (fun w => n1 w.1))
        have w := z.1.2
        rw [hae, nI_eq (by omega) (by omega)] at w
        exact w.symm
      · exact cz_uA_f g
    · exact cz_d3_c dl (fun _ _ _ _ => cz_uS_k (fun z => n2 z.1) (fun z => z.1.elim n4 n2))
  · refine br_c (fun hs => ?_) (fun hs1 => ?_)
    · obtain ⟨e, he, hae⟩ := harg (Or.inr hs)
      rw [hae]
      refine ⟨hin, ?_⟩
      have n4 : ¬ s x = 4 := cz_ne 1 4 hs (by decide)
      have n2 : ¬ s x = 2 := cz_ne 1 2 hs (by decide)
      refine cz_wA hm hx hr he hxs hS (fun o ho' => bA e he o ho') da (fun xa' ha' => ?_)
      refine cz_w128 hr ho dk (fun xk' hk' => hp xk' _ _ _ hk' (cz_d3_c dv (fun _ _ _ _ => cz_uC_n n4)) ?_ ?_)
      · refine cz_dA_c ha' (fun r' e' o' _ he' ho' => ?_)
        by_cases q : r' = r ∧ e' = e ∧ o' < 3 ∧ LA r' e' o' ≤ S x o'
        · have e0 : cz_drA LA S r e x 3 r' e' o' = 0 := if_pos q
          rw [e0]
          obtain ⟨q1, q2, q3, q4⟩ := q
          subst q1 q2
          exact cz_uA_z (fun z => hs0 z.1.1) (Or.inr ⟨hs, hae⟩) q4
        · have e0 : cz_drA LA S r e x 3 r' e' o' = LA r' e' o' := if_neg q
          rw [e0]
          by_cases g : r' = r
          · refine cz_uA_k (fun z => hs0 z.1.1) (fun z => q ⟨g, ?_, ho', z.2⟩)
            rcases z.1 with w | w
            · exact absurd w n4
            · have w := w.2
              rw [hae, nI_eq (by omega) (by omega)] at w
              exact w.symm
          · exact cz_uA_f g
      · exact cz_d3_c dl (fun _ _ _ _ => cz_uS_k (fun z => n2 z.1) (fun z => z.1.elim n4 n2))
    · refine br_c (fun hs => ?_) (fun hs2 => ?_)
      · have n4 : ¬ s x = 4 := cz_ne 2 4 hs (by decide)
        refine cz_wS hm hx hr hxs hS bL dl (fun xl' hl' => ?_)
        show vp_in ((3 * nI r) + nI (og x)) 9 ∧ ∀ y, y = upd xl' ((3 * nI r) + nI (og x)).toNatClampNeg (nI (cz_nu og x)) → wX_apply_128 post (nI r) (nI (og x)) (nI (cz_nu og x)) fm s a xs xb xc xm xk xv xa y
        rw [cz_i3, nI_clamp (show 3 * r + og x < 2 ^ 31 by omega)]
        refine ⟨vp_in_nI (by omega) (by omega), ?_⟩
        intro y ey
        subst ey
        refine cz_w128 hr ho dk (fun xk' hk' => hp xk' _ _ _ hk' (cz_d3_c dv (fun _ _ _ _ => cz_uC_n n4)) ?_ ?_)
        · exact cz_dA_c da (fun _ _ _ _ _ _ => cz_uA_k (fun z => hs0 z.1.1) (fun z => z.1.elim n4 (fun w => hs1 w.1)))
        · refine cz_d3_u r (og x) _ hl' ho (cz_uS_p hs) (fun r' o' _ ho' q => ?_)
          by_cases g : r' = r ∧ o' < 3 ∧ L r' o' ≤ S x o'
          · have e0 : cz_dr3 L S r x 3 r' o' = 0 := if_pos g
            rw [e0]
            obtain ⟨q1, q3, q4⟩ := g
            subst q1
            exact cz_uS_z (fun z => q ⟨rfl, z.2⟩) (Or.inr hs) q4
          · have e0 : cz_dr3 L S r x 3 r' o' = L r' o' := if_neg g
            rw [e0]
            by_cases g2 : r' = r
            · exact cz_uS_k (fun z => q ⟨g2, z.2⟩) (fun z => g ⟨g2, ho', z.2⟩)
            · exact cz_uS_f g2
      · refine br_c (fun hs => ?_) (fun hs4 => ?_)
        · refine ⟨9, cz_w95 (LA := LA) hm hx hr ho hxs hS bA bL bC dk dv dl (fun xk' xv' xa' xl' hk' hv' ha' hl' => hp xk' xv' xa' xl' hk' ?_ ?_ ?_) 9 0 xa (by omega) (by omega) (cz_dA_c da (fun _ _ _ _ _ _ => cz_drE_0))⟩
          · refine cz_d3_c hv' (fun r' o' _ ho' => ?_)
            by_cases g : r' = r
            · subst g
              have e0 : cz_cv3 C S r' x 3 r' o' = max (C r' o') (S x o') := if_pos ⟨rfl, ho'⟩
              rw [e0, cz_uC_t hs]
            · have e0 : cz_cv3 C S r x 3 r' o' = C r' o' := if_neg (fun z => g z.1)
              rw [e0, cz_uC_f g]
          · refine cz_dA_c ha' (fun r' e' o' _ he' _ => ?_)
            by_cases g : r' = r ∧ e' < 8 ∧ LA r' e' o' ≤ S x o'
            · have e0 : cz_drE LA S r x 8 r' e' o' = 0 := if_pos g
              rw [e0]
              obtain ⟨q1, q3, q4⟩ := g
              subst q1
              exact cz_uA_z (fun z => hs0 z.1.1) (Or.inl hs) q4
            · have e0 : cz_drE LA S r x 8 r' e' o' = LA r' e' o' := if_neg g
              rw [e0]
              by_cases g2 : r' = r
              · exact cz_uA_k (fun z => hs0 z.1.1) (fun z => g ⟨g2, he', z.2⟩)
              · exact cz_uA_f g2
          · refine cz_d3_c hl' (fun r' o' _ ho' => ?_)
            by_cases g : r' = r ∧ o' < 3 ∧ L r' o' ≤ S x o'
            · have e0 : cz_dr3 L S r x 3 r' o' = 0 := if_pos g
              rw [e0]
              obtain ⟨q1, q3, q4⟩ := g
              subst q1
              exact cz_uS_z (fun z => hs2 z.1) (Or.inl hs) q4
            · have e0 : cz_dr3 L S r x 3 r' o' = L r' o' := if_neg g
              rw [e0]
              by_cases g2 : r' = r
              · exact cz_uS_k (fun z => hs2 z.1) (fun z => g ⟨g2, ho', z.2⟩)
              · exact cz_uS_f g2
        · refine cz_w128 hr ho dk (fun xk' hk' => hp xk' _ _ _ hk' (cz_d3_c dv (fun _ _ _ _ => cz_uC_n hs4)) ?_ ?_)
          · exact cz_dA_c da (fun _ _ _ _ _ _ => cz_uA_k (fun z => hs0 z.1.1) (fun z => z.1.elim hs4 (fun w => hs1 w.1)))
          · exact cz_d3_c dl (fun _ _ _ _ => cz_uS_k (fun z => hs2 z.1) (fun z => z.1.elim hs4 hs2))
end
/-! make: the new change's row of what was seen -/
def cz_S1 (S K : Nat → Nat → Nat) (r m : Nat) : Nat → Nat → Nat := fun c => if c = m then K r else S c
theorem cz_S1_t {S K : Nat → Nat → Nat} {r m : Nat} : cz_S1 S K r m m = K r := if_pos rfl
theorem cz_S1_f {S K : Nat → Nat → Nat} {r m c : Nat} (h : c ≠ m) : cz_S1 S K r m c = S c := if_neg h
section
variable {s a xb xc xm xk xv xa xl : Nat → Int32} {post : Int32 → SX → Prop} {m B : Nat} {S K : Nat → Nat → Nat} {r : Nat} {sv av fm : Int32}
def cz_mk53 (K : Nat → Nat → Nat) (S : Nat → Nat → Nat) (r m i : Nat) (xs : Nat → Int32) : Prop :=
  (∀ c, c < m → ∀ o, o < 3 → xs (3 * c + o) = nI (S c o)) ∧ (∀ o, o < i → xs (3 * m + o) = nI (K r o))
theorem cz_w53 (hm : m < 48) (hr : r < 3) (hB : B < 48) (hb : xb r = nI B) (dk : cz_d3 3 xk K)
    (hp : ∀ xs', cz_d3 (m + 1) xs' (cz_S1 S K r m) →
      wpX_apply (fun u => match u with | (f_made_21, a_sort_22, a_argument_23, a_seen_24, a_madeBy_25, a_changeOf_26, a_amountUpTo_27, a_knows_28, a_covered_29, a_lastAdd_30, a_lastAssign_31) => (post f_made_21 (f_made_21, a_sort_22, a_argument_23, a_seen_24, a_madeBy_25, a_changeOf_26, a_amountUpTo_27, a_knows_28, a_covered_29, a_lastAdd_30, a_lastAssign_31)))
        (fm, s, a, xs', upd xb r (nI (B + 1)), upd xc (49 * r + (B + 1)) (nI m), upd xm (49 * r + (B + 1)) (xm (49 * r + B) + (if sv = 3 then av else 0)), xk, xv, xa, xl) (nI r) (nI m) (nI r) (nI (B + 1))) :
    ∀ (n i : Nat) (xs : Nat → Int32), i ≤ 3 → 3 < n + i → cz_mk53 K S r m i xs →
      wX_make_53 post (nI r) sv av (nI m) fm n (nI i) s a xs xb xc xm xk xv xa xl := by
  intro n
  induction n with
  | zero => intro i xs h1 h2; omega
  | succ n ih =>
    intro i xs h1 h2 h3
    by_cases h : i = 3
    · subst h
      refine br_t (cz_le3 (by omega) (by omega)) ?_
      have hin : vp_in (nI r) 3 := vp_in_nI hr (by omega)
      have hd : cz_d3 (m + 1) xs (cz_S1 S K r m) := by
        intro c hc o ho
        by_cases e : c = m
        · subst e; rw [cz_S1_t]; exact h3.2 o ho
        · rw [cz_S1_f e]; exact h3.1 c (by omega) o ho
      refine ⟨hin, ?_⟩
      rw [nI_clamp (show r < 2 ^ 31 by omega), hb]
      intro y ey
      rw [nI_1] at ey
      subst ey
      rw [cz_i49, nI_clamp (show 49 * r + (B + 1) < 2 ^ 31 by omega)]
      refine ⟨hin, ?_⟩
      intro xb' eb
      subst eb
      refine ⟨vp_in_nI (by omega) (by omega), ?_⟩
      intro xc' ec
      subst ec
      have e1 : nI (49 * r + (B + 1)) - 1 = nI (49 * r + B) := nI_pred (49 * r + B)
      rw [e1, nI_clamp (show 49 * r + B < 2 ^ 31 by omega)]
      refine ⟨vp_in_nI (by omega) (by omega), ?_⟩
      have q := hp xs hd
      refine br_c (fun h3 => ?_) (fun h3 => ?_)
      · unfold wX_make_155
        rw [nI_clamp (show 49 * r + (B + 1) < 2 ^ 31 by omega)]
        refine ⟨vp_in_nI (by omega) (by omega), ?_⟩
        intro xm' em
        subst em
        rw [if_pos h3] at q
        exact q
      · unfold wX_make_155
        rw [nI_clamp (show 49 * r + (B + 1) < 2 ^ 31 by omega)]
        refine ⟨vp_in_nI (by omega) (by omega), ?_⟩
        intro xm' em
        subst em
        rw [if_neg h3] at q
        exact q
    · have hi : i < 3 := by omega
      refine br_f (cz_n3 hi) ?_
      rw [cz_i3, cz_i3, nI_clamp (show 3 * r + i < 2 ^ 31 by omega), nI_clamp (show 3 * m + i < 2 ^ 31 by omega), dk r hr i hi]
      refine ⟨vp_in_nI (by omega) (by omega), vp_in_nI (by omega) (by omega), ?_⟩
      intro xs' es z ez
      rw [nI_1] at ez
      subst ez es
      refine ih (i + 1) _ (by omega) (by omega) ⟨fun c hc o ho => ?_, fun o ho => ?_⟩
      · rw [pk_un (by omega)]
        exact h3.1 c hc o ho
      · by_cases e : o = i
        · subst e; rw [pk_us]
        · rw [pk_un (by omega)]
          exact h3.2 o (by omega)
/-- make, where it makes -/
theorem cz_wmake {xs : Nat → Int32} {x : Int32} (ex : x = nI r) (hm : m < 48) (hr : r < 3) (hB : B < 48) (hb : xb r = nI B) (dk : cz_d3 3 xk K) (ds : cz_d3 m xs S)
    (hp : ∀ xs', cz_d3 (m + 1) xs' (cz_S1 S K r m) →
      wpX_apply (fun u => match u with | (f_made_21, a_sort_22, a_argument_23, a_seen_24, a_madeBy_25, a_changeOf_26, a_amountUpTo_27, a_knows_28, a_covered_29, a_lastAdd_30, a_lastAssign_31) => (post f_made_21 (f_made_21, a_sort_22, a_argument_23, a_seen_24, a_madeBy_25, a_changeOf_26, a_amountUpTo_27, a_knows_28, a_covered_29, a_lastAdd_30, a_lastAssign_31)))
        (nI (m + 1), upd s m sv, upd a m av, xs', upd xb r (nI (B + 1)), upd xc (49 * r + (B + 1)) (nI m), upd xm (49 * r + (B + 1)) (xm (49 * r + B) + (if sv = 3 then av else 0)), xk, xv, xa, xl) (nI r) (nI m) (nI r) (nI (B + 1))) :
    wpX_make post (nI m, s, a, xs, xb, xc, xm, xk, xv, xa, xl) x sv av := by
  subst ex
  unfold wpX_make
  dsimp only
  refine cz_rt r hr rfl ?_
  refine br_f cz_10 (br_t (nI_lt (b := 48) hm (by omega)) ?_)
  intro y ey
  rw [nI_1] at ey
  subst ey
  rw [nI_clamp (show m < 2 ^ 31 by omega)]
  have hin : vp_in (nI m) 48 := vp_in_nI (by omega) (by omega)
  refine ⟨hin, ?_⟩
  intro s' es
  subst es
  refine ⟨hin, ?_⟩
  intro a' ea
  subst ea
  exact ⟨4, cz_w53 (S := S) hm hr hB hb dk hp 4 0 xs (by omega) (by omega) ⟨ds, fun o ho => absurd ho (by omega)⟩⟩
/-- make, where it doesn't -/
theorem cz_wmake0 {xs : Nat → Int32} {x : Int32} (h : (x < 0 ∨ (¬ x < 0 ∧ 2 < x)) ∨ m = 48)
    (hp : post (-1) (nI m, s, a, xs, xb, xc, xm, xk, xv, xa, xl)) :
    wpX_make post (nI m, s, a, xs, xb, xc, xm, xk, xv, xa, xl) x sv av := by
  unfold wpX_make
  dsimp only
  rcases cz_rep x with ⟨r, hr, ex⟩ | hx
  · refine cz_rt r hr ex ?_
    rcases h with h | h
    · exfalso
      subst ex
      rcases h with h | h
      · exact nI_pos (by omega) h
      · exact nI_nlt (a := 2) (b := r) (by omega) (by omega) h.2
    · subst h
      exact br_f cz_10 (br_f (nI_nlt (a := 48) (b := 48) (by omega) (by omega)) hp)
  · exact cz_rf hx (br_t rfl hp)
end
end
section
/-! ===== X: joining ===== -/
theorem cz_w29 {post : Int32 → Prop} (u v : Nat) (hu : u < 2 ^ 31) (hv : v < 2 ^ 31) (h : post (nI (max u v))) : wX_survivor_29 post (nI u) (nI v) := by
  unfold wX_survivor_29
  refine pk_le u v (fun z => ?_) (fun z => ?_) rfl rfl hu hv
  · rw [show max u v = v by omega] at h; exact h
  · rw [show max u v = u by omega] at h; exact h
theorem cz_w17 {post : Int32 → Prop} (ka b u : Nat) (hk : ka < 2 ^ 31) (hb : b < 2 ^ 31) (hu : u < 2 ^ 31) (h : post (nI (max u (if ka < b then b else 0)))) : wX_survivor_17 post (nI ka) (nI b) (nI u) := by
  unfold wX_survivor_17
  refine pk_le b ka (fun z => ?_) (fun z => ?_) rfl rfl hb hk
  · rw [if_neg (by omega)] at h
    exact cz_w29 u 0 hu (by omega) h
  · rw [if_pos z] at h
    exact cz_w29 u b hu hb h
theorem cz_wsv {post : Int32 → Prop} (u ka b kb : Nat) (hu : u < 2 ^ 31) (hk : ka < 2 ^ 31) (hb : b < 2 ^ 31) (hkb : kb < 2 ^ 31) (h : post (nI (cz_sv u ka b kb))) :
    wpX_survivor post (nI u) (nI ka) (nI b) (nI kb) := by
  unfold cz_sv at h
  unfold wpX_survivor
  refine pk_eq u b (fun z => ?_) (fun z => ?_) rfl rfl hu hb
  · rw [if_pos z] at h; exact h
  · rw [if_neg z] at h
    refine pk_le u kb (fun y => ?_) (fun y => ?_) rfl rfl hu hkb
    · rw [if_neg (show ¬ kb < u by omega)] at h
      exact cz_w17 ka b 0 hk hb (by omega) h
    · rw [if_pos y] at h
      exact cz_w17 ka b u hk hb hu h
/-- the joined adds up to element e, origin i -/
def cz_jA (LA : Nat → Nat → Nat → Nat) (K : Nat → Nat → Nat) (f t e i : Nat) : Nat → Nat → Nat → Nat :=
  fun r' e' o' => if r' = t ∧ (e' < e ∨ (e' = e ∧ o' < i)) then cz_sv (LA t e' o') (K t o') (LA f e' o') (K f o') else LA r' e' o'
def cz_jS (L : Nat → Nat → Nat) (K : Nat → Nat → Nat) (f t i : Nat) : Nat → Nat → Nat :=
  fun r' o' => if r' = t ∧ o' < i then cz_sv (L t o') (K t o') (L f o') (K f o') else L r' o'
def cz_jV (K : Nat → Nat → Nat) (f t i : Nat) : Nat → Nat → Nat :=
  fun r' o' => if r' = t ∧ o' < i then max (K t o') (K f o') else K r' o'
section
variable {LA : Nat → Nat → Nat → Nat} {L K : Nat → Nat → Nat} {f t e i r' e' o' : Nat}
theorem cz_jA_t : cz_jA LA K f t e i t e i = LA t e i := if_neg (by omega)
theorem cz_jA_f (h : f ≠ t) : cz_jA LA K f t e i f e' o' = LA f e' o' := if_neg (fun z => h z.1)
theorem cz_jA_p : cz_jA LA K f t e (i + 1) t e i = cz_sv (LA t e i) (K t i) (LA f e i) (K f i) := if_pos ⟨rfl, Or.inr ⟨rfl, by omega⟩⟩
theorem cz_jA_n (q : ¬ (r' = t ∧ e' = e ∧ o' = i)) : cz_jA LA K f t e (i + 1) r' e' o' = cz_jA LA K f t e i r' e' o' := by
  unfold cz_jA
  have : (r' = t ∧ (e' < e ∨ (e' = e ∧ o' < i + 1))) ↔ (r' = t ∧ (e' < e ∨ (e' = e ∧ o' < i))) := by omega
  simp only [this]
theorem cz_jA_e (ho : o' < 3) : cz_jA LA K f t (e + 1) 0 r' e' o' = cz_jA LA K f t e 3 r' e' o' := by
  unfold cz_jA
  have : (r' = t ∧ (e' < e + 1 ∨ (e' = e + 1 ∧ o' < 0))) ↔ (r' = t ∧ (e' < e ∨ (e' = e ∧ o' < 3))) := by omega
  simp only [this]
theorem cz_jA_0 : cz_jA LA K f t 0 0 r' e' o' = LA r' e' o' := if_neg (by omega)
theorem cz_jS_t : cz_jS L K f t i t i = L t i := if_neg (by omega)
theorem cz_jS_f (h : f ≠ t) : cz_jS L K f t i f o' = L f o' := if_neg (fun z => h z.1)
theorem cz_jS_p : cz_jS L K f t (i + 1) t i = cz_sv (L t i) (K t i) (L f i) (K f i) := if_pos ⟨rfl, by omega⟩
theorem cz_jS_n (q : ¬ (r' = t ∧ o' = i)) : cz_jS L K f t (i + 1) r' o' = cz_jS L K f t i r' o' := by
  unfold cz_jS
  have : (r' = t ∧ o' < i + 1) ↔ (r' = t ∧ o' < i) := by omega
  simp only [this]
theorem cz_jS_0 : cz_jS L K f t 0 r' o' = L r' o' := if_neg (by omega)
theorem cz_jV_t : cz_jV K f t i t i = K t i := if_neg (by omega)
theorem cz_jV_f (h : f ≠ t) : cz_jV K f t i f o' = K f o' := if_neg (fun z => h z.1)
theorem cz_jV_p : cz_jV K f t (i + 1) t i = max (K t i) (K f i) := if_pos ⟨rfl, by omega⟩
theorem cz_jV_n (q : ¬ (r' = t ∧ o' = i)) : cz_jV K f t (i + 1) r' o' = cz_jV K f t i r' o' := by
  unfold cz_jV
  have : (r' = t ∧ o' < i + 1) ↔ (r' = t ∧ o' < i) := by omega
  simp only [this]
theorem cz_jV_0 : cz_jV K f t 0 r' o' = K r' o' := if_neg (by omega)
end
section
variable {fm : Int32} {s a xs xb xc xm xk xv xa xl : Nat → Int32} {post : SX → Prop}
variable {LA : Nat → Nat → Nat → Nat} {K C L : Nat → Nat → Nat} {f t : Nat}
theorem cz_wjA_i (hf : f < 3) (ht : t < 3) (hne : f ≠ t) (bK : ∀ r, r < 3 → ∀ o, o < 3 → K r o ≤ 48) (bA : ∀ r, r < 3 → ∀ e, e < 8 → ∀ o, o < 3 → LA r e o ≤ 48)
    (dk : cz_d3 3 xk K) {J : Int32 → (Nat → Int32) → (Nat → Int32) → (Nat → Int32) → (Nat → Int32) → (Nat → Int32) → (Nat → Int32) → (Nat → Int32) → (Nat → Int32) → (Nat → Int32) → (Nat → Int32) → Prop} {e : Nat} (he : e < 8)
    (hJ : ∀ xa', cz_dA xa' (cz_jA LA K f t e 3) → J (nI (e + 1)) s a xs xb xc xm xk xv xa' xl) :
    ∀ (n i : Nat) (xa : Nat → Int32), i ≤ 3 → 3 < n + i → cz_dA xa (cz_jA LA K f t e i) →
      wX_joinAdds_11 post J (nI f) (nI t) (nI e) fm n (nI i) s a xs xb xc xm xk xv xa xl := by
  intro n
  induction n with
  | zero => intro i xa h1 h2; omega
  | succ n ih =>
    intro i xa h1 h2 h3
    by_cases h : i = 3
    · subst h
      refine br_t (cz_le3 (by omega) (by omega)) ?_
      intro y ey
      rw [nI_1] at ey
      subst ey
      exact hJ xa h3
    · have hi : i < 3 := by omega
      have g1 := h3 t ht e he i hi
      rw [cz_jA_t] at g1
      have g2 := h3 f hf e he i hi
      rw [cz_jA_f hne] at g2
      have c1 := bK t ht i hi
      have c2 := bK f hf i hi
      have c3 := bA t ht e he i hi
      have c4 := bA f hf e he i hi
      refine br_f (cz_n3 hi) ?_
      rw [cz_i24, cz_i24, cz_i3, cz_i3, nI_clamp (show 24 * t + 3 * e + i < 2 ^ 31 by omega), nI_clamp (show 24 * f + 3 * e + i < 2 ^ 31 by omega), nI_clamp (show 3 * t + i < 2 ^ 31 by omega), nI_clamp (show 3 * f + i < 2 ^ 31 by omega), g1, g2, dk t ht i hi, dk f hf i hi]
      refine ⟨vp_in_nI (by omega) (by omega), ?_⟩
      intro y ey
      subst ey
      refine ⟨vp_in_nI (by omega) (by omega), ?_⟩
      intro w ew
      subst ew
      refine ⟨vp_in_nI (by omega) (by omega), vp_in_nI (by omega) (by omega), ?_⟩
      refine cz_wsv (LA t e i) (K t i) (LA f e i) (K f i) (by omega) (by omega) (by omega) (by omega) ?_
      refine ⟨vp_in_nI (by omega) (by omega), ?_⟩
      intro xa' ea z ez
      rw [nI_1] at ez
      subst ez ea
      exact ih (i + 1) _ (by omega) (by omega) (cz_dA_u t e i _ h3 he hi cz_jA_p (fun _ _ _ _ _ _ q => cz_jA_n q))
theorem cz_wjA_o (hf : f < 3) (ht : t < 3) (hne : f ≠ t) (bK : ∀ r, r < 3 → ∀ o, o < 3 → K r o ≤ 48) (bA : ∀ r, r < 3 → ∀ e, e < 8 → ∀ o, o < 3 → LA r e o ≤ 48)
    (dk : cz_d3 3 xk K) (hp : ∀ xa', cz_dA xa' (cz_jA LA K f t 8 0) → post (fm, s, a, xs, xb, xc, xm, xk, xv, xa', xl)) :
    ∀ (n e : Nat) (xa : Nat → Int32), e ≤ 8 → 8 < n + e → cz_dA xa (cz_jA LA K f t e 0) →
      wX_joinAdds_2 post (nI f) (nI t) fm n (nI e) s a xs xb xc xm xk xv xa xl := by
  intro n
  induction n with
  | zero => intro e xa h1 h2; omega
  | succ n ih =>
    intro e xa h1 h2 h3
    by_cases h : e = 8
    · subst h
      exact br_t (cz_le8 (by omega) (by omega)) (hp xa h3)
    · have he : e < 8 := by omega
      refine br_f (cz_n8 he) ⟨4, ?_⟩
      exact cz_wjA_i hf ht hne bK bA dk he (fun xa' ha' => ih (e + 1) xa' (by omega) (by omega) (cz_dA_c ha' (fun _ _ _ _ _ ho => cz_jA_e ho))) 4 0 xa (by omega) (by omega) h3
theorem cz_wjA (hf : f < 3) (ht : t < 3) (hne : f ≠ t) (bK : ∀ r, r < 3 → ∀ o, o < 3 → K r o ≤ 48) (bA : ∀ r, r < 3 → ∀ e, e < 8 → ∀ o, o < 3 → LA r e o ≤ 48)
    (dk : cz_d3 3 xk K) (da : cz_dA xa LA) (hp : ∀ xa', cz_dA xa' (cz_jA LA K f t 8 0) → post (fm, s, a, xs, xb, xc, xm, xk, xv, xa', xl)) :
    wpX_joinAdds post (fm, s, a, xs, xb, xc, xm, xk, xv, xa, xl) (nI f) (nI t) :=
  ⟨9, cz_wjA_o hf ht hne bK bA dk hp 9 0 xa (by omega) (by omega) (cz_dA_c da (fun _ _ _ _ _ _ => cz_jA_0))⟩
theorem cz_wjS_l (hf : f < 3) (ht : t < 3) (hne : f ≠ t) (bK : ∀ r, r < 3 → ∀ o, o < 3 → K r o ≤ 48) (bL : ∀ r, r < 3 → ∀ o, o < 3 → L r o ≤ 48)
    (dk : cz_d3 3 xk K) (hp : ∀ xl', cz_d3 3 xl' (cz_jS L K f t 3) → post (fm, s, a, xs, xb, xc, xm, xk, xv, xa, xl')) :
    ∀ (n i : Nat) (xl : Nat → Int32), i ≤ 3 → 3 < n + i → cz_d3 3 xl (cz_jS L K f t i) →
      wX_joinAssigns_2 post (nI f) (nI t) fm n (nI i) s a xs xb xc xm xk xv xa xl := by
  intro n
  induction n with
  | zero => intro i xl h1 h2; omega
  | succ n ih =>
    intro i xl h1 h2 h3
    by_cases h : i = 3
    · subst h
      exact br_t (cz_le3 (by omega) (by omega)) (hp xl h3)
    · have hi : i < 3 := by omega
      have g1 := h3 t ht i hi
      rw [cz_jS_t] at g1
      have g2 := h3 f hf i hi
      rw [cz_jS_f hne] at g2
      have c1 := bK t ht i hi
      have c2 := bK f hf i hi
      have c3 := bL t ht i hi
      have c4 := bL f hf i hi
      refine br_f (cz_n3 hi) ?_
      rw [cz_i3, cz_i3, nI_clamp (show 3 * t + i < 2 ^ 31 by omega), nI_clamp (show 3 * f + i < 2 ^ 31 by omega), g1, g2, dk t ht i hi, dk f hf i hi]
      refine ⟨vp_in_nI (by omega) (by omega), ?_⟩
      intro y ey
      subst ey
      refine ⟨vp_in_nI (by omega) (by omega), ?_⟩
      intro w ew
      subst ew
      refine ⟨vp_in_nI (by omega) (by omega), vp_in_nI (by omega) (by omega), ?_⟩
      refine cz_wsv (L t i) (K t i) (L f i) (K f i) (by omega) (by omega) (by omega) (by omega) ?_
      refine ⟨vp_in_nI (by omega) (by omega), ?_⟩
      intro xl' ea z ez
      rw [nI_1] at ez
      subst ez ea
      exact ih (i + 1) _ (by omega) (by omega) (cz_d3_u t i _ h3 hi cz_jS_p (fun _ _ _ _ q => cz_jS_n q))
theorem cz_wjS (hf : f < 3) (ht : t < 3) (hne : f ≠ t) (bK : ∀ r, r < 3 → ∀ o, o < 3 → K r o ≤ 48) (bL : ∀ r, r < 3 → ∀ o, o < 3 → L r o ≤ 48)
    (dk : cz_d3 3 xk K) (dl : cz_d3 3 xl L) (hp : ∀ xl', cz_d3 3 xl' (cz_jS L K f t 3) → post (fm, s, a, xs, xb, xc, xm, xk, xv, xa, xl')) :
    wpX_joinAssigns post (fm, s, a, xs, xb, xc, xm, xk, xv, xa, xl) (nI f) (nI t) :=
  ⟨4, cz_wjS_l hf ht hne bK bL dk hp 4 0 xl (by omega) (by omega) (cz_d3_c dl (fun _ _ _ _ => cz_jS_0))⟩
theorem cz_wjV_l (hf : f < 3) (ht : t < 3) (hne : f ≠ t) (bK : ∀ r, r < 3 → ∀ o, o < 3 → K r o ≤ 48) (bC : ∀ r, r < 3 → ∀ o, o < 3 → C r o ≤ 48)
    (hp : ∀ xk' xv', cz_d3 3 xk' (cz_jV K f t 3) → cz_d3 3 xv' (cz_jV C f t 3) → post (fm, s, a, xs, xb, xc, xm, xk', xv', xa, xl)) :
    ∀ (n i : Nat) (xk xv : Nat → Int32), i ≤ 3 → 3 < n + i → cz_d3 3 xk (cz_jV K f t i) → cz_d3 3 xv (cz_jV C f t i) →
      wX_joinVectors_2 post (nI f) (nI t) fm n (nI i) s a xs xb xc xm xk xv xa xl := by
  intro n
  induction n with
  | zero => intro i xk xv h1 h2; omega
  | succ n ih =>
    intro i xk xv h1 h2 h3 h4
    by_cases h : i = 3
    · subst h
      exact br_t (cz_le3 (by omega) (by omega)) (hp xk xv h3 h4)
    · have hi : i < 3 := by omega
      have g1 := h3 t ht i hi
      rw [cz_jV_t] at g1
      have g2 := h3 f hf i hi
      rw [cz_jV_f hne] at g2
      have g3 := h4 t ht i hi
      rw [cz_jV_t] at g3
      have g4 := h4 f hf i hi
      rw [cz_jV_f hne] at g4
      have c1 := bK t ht i hi
      have c2 := bK f hf i hi
      have c3 := bC t ht i hi
      have c4 := bC f hf i hi
      refine br_f (cz_n3 hi) ?_
      intro y ey
      rw [cz_i3] at ey
      subst ey
      intro w ew
      rw [cz_i3] at ew
      subst ew
      have i1 : vp_in (nI (3 * f + i)) 9 := vp_in_nI (by omega) (by omega)
      have i2 : vp_in (nI (3 * t + i)) 9 := vp_in_nI (by omega) (by omega)
      rw [nI_clamp (show 3 * t + i < 2 ^ 31 by omega), nI_clamp (show 3 * f + i < 2 ^ 31 by omega), g1, g2]
      have tail : ∀ q : Nat, q = max (K t i) (K f i) → wX_joinVectors_61 post (wX_joinVectors_2 post (nI f) (nI t) fm n) (nI f) (nI t) (nI i) (nI (3 * f + i)) (nI (3 * t + i)) (nI q) (nI (3 * t + i)) fm s a xs xb xc xm xk xv xa xl := by
        intro q eq
        subst eq
        unfold wX_joinVectors_61
        rw [nI_clamp (show 3 * t + i < 2 ^ 31 by omega), nI_clamp (show 3 * f + i < 2 ^ 31 by omega), g3, g4]
        refine ⟨i2, ?_⟩
        intro xk' ek
        subst ek
        refine ⟨i1, i2, ?_⟩
        have dk' := cz_d3_u (F' := cz_jV K f t (i + 1)) t i (max (K t i) (K f i)) h3 hi cz_jV_p (fun _ _ _ _ q => cz_jV_n q)
        refine pk_le (C f i) (C t i) (fun hle => ?_) (fun hgt => ?_) rfl rfl (by omega) (by omega)
        · refine ⟨i2, i2, ?_⟩
          intro xv' ev z ez
          rw [nI_1] at ez
          subst ez ev
          exact ih (i + 1) _ _ (by omega) (by omega) dk' (cz_d3_u t i _ h4 hi (by rw [cz_jV_p]; omega) (fun _ _ _ _ q => cz_jV_n q))
        · refine ⟨i1, i2, ?_⟩
          intro xv' ev z ez
          rw [nI_1] at ez
          subst ez ev
          exact ih (i + 1) _ _ (by omega) (by omega) dk' (cz_d3_u t i _ h4 hi (by rw [cz_jV_p]; omega) (fun _ _ _ _ q => cz_jV_n q))
      refine ⟨i1, i2, ?_⟩
      refine pk_le (K f i) (K t i) (fun hle => ?_) (fun hgt => ?_) rfl rfl (by omega) (by omega)
      · exact ⟨i2, tail _ (by omega)⟩
      · exact ⟨i1, tail _ (by omega)⟩
theorem cz_wjV (hf : f < 3) (ht : t < 3) (hne : f ≠ t) (bK : ∀ r, r < 3 → ∀ o, o < 3 → K r o ≤ 48) (bC : ∀ r, r < 3 → ∀ o, o < 3 → C r o ≤ 48)
    (dk : cz_d3 3 xk K) (dv : cz_d3 3 xv C)
    (hp : ∀ xk' xv', cz_d3 3 xk' (cz_jV K f t 3) → cz_d3 3 xv' (cz_jV C f t 3) → post (fm, s, a, xs, xb, xc, xm, xk', xv', xa, xl)) :
    wpX_joinVectors post (fm, s, a, xs, xb, xc, xm, xk, xv, xa, xl) (nI f) (nI t) :=
  ⟨4, cz_wjV_l hf ht hne bK bC hp 4 0 xk xv (by omega) (by omega) (cz_d3_c dk (fun _ _ _ _ => cz_jV_0)) (cz_d3_c dv (fun _ _ _ _ => cz_jV_0))⟩
end
end
section
/-! ===== X: the reading methods ===== -/
section
variable {fm : Int32} {s a xs xb xc xm xk xv xa xl : Nat → Int32} {post : Int32 → Prop}
variable {LA : Nat → Nat → Nat → Nat} {K C L : Nat → Nat → Nat} {r e : Nat} {V : Nat → Int32}
theorem cz_whas_l (hr : r < 3) (he : e < 8) (bA : ∀ o, o < 3 → LA r e o ≤ 48) (da : cz_dA xa LA)
    (h1 : ∀ o, o < 3 → LA r e o ≠ 0 → post 1) (h0 : (∀ o, o < 3 → LA r e o = 0) → post 0) :
    ∀ n i : Nat, i ≤ 3 → 3 < n + i → (∀ o, o < i → LA r e o = 0) → wX_has_24 post (nI (24 * r + 3 * e)) fm s a xs xb xc xm xk xv xa xl n (nI i) := by
  intro n
  induction n with
  | zero => intro i h1 h2; omega
  | succ n ih =>
    intro i i1 i2 i3
    by_cases h : i = 3
    · subst h
      exact br_t (cz_le3 (by omega) (by omega)) (h0 i3)
    · have hi : i < 3 := by omega
      have b := bA i hi
      refine br_f (cz_n3 hi) ?_
      rw [nI_add, nI_clamp (show 24 * r + 3 * e + i < 2 ^ 31 by omega), da r hr e he i hi]
      refine ⟨vp_in_nI (by omega) (by omega), ?_⟩
      refine pk_le (LA r e i) 0 (fun hle => ?_) (fun hgt => h1 i hi (by omega)) rfl rfl (by omega) (by omega)
      intro z ez
      rw [nI_1] at ez
      subst ez
      refine ih (i + 1) (by omega) (by omega) (fun o ho => ?_)
      by_cases e : o = i
      · subst e; omega
      · exact i3 o (by omega)
theorem cz_whas {x y : Int32} (hx : x = nI r) (hy : y &&& 7 = nI e) (hr : r < 3) (he : e < 8) (bA : ∀ o, o < 3 → LA r e o ≤ 48) (da : cz_dA xa LA)
    (h1 : ∀ o, o < 3 → LA r e o ≠ 0 → post 1) (h0 : (∀ o, o < 3 → LA r e o = 0) → post 0) : wpX_has post (fm, s, a, xs, xb, xc, xm, xk, xv, xa, xl) x y := by
  unfold wpX_has
  dsimp only
  refine cz_rt r hr hx (br_f cz_10 ?_)
  rw [hx, hy, cz_i24b]
  intro z ez
  subst ez
  exact ⟨4, cz_whas_l hr he bA da h1 h0 4 0 (by omega) (by omega) (fun o ho => absurd ho (by omega))⟩
theorem cz_wvals_l (hr : r < 3) (bL : ∀ o, o < 3 → L r o ≤ 48) (dl : cz_d3 3 xl L) (h : post (nI (cz_ct (fun o => L r o ≠ 0) 3))) :
    ∀ n i : Nat, i ≤ 3 → 3 < n + i → wX_values_13 post (nI r) fm s a xs xb xc xm xk xv xa xl n (nI (cz_ct (fun o => L r o ≠ 0) i)) (nI i) := by
  intro n
  induction n with
  | zero => intro i h1 h2; omega
  | succ n ih =>
    intro i i1 i2
    by_cases e : i = 3
    · subst e
      exact br_t (cz_le3 (by omega) (by omega)) h
    · have hi : i < 3 := by omega
      have b := bL i hi
      have I := ih (i + 1) (by omega) (by omega)
      rw [cz_ct_s] at I
      refine br_f (cz_n3 hi) ?_
      rw [cz_i3, nI_clamp (show 3 * r + i < 2 ^ 31 by omega), dl r hr i hi]
      refine ⟨vp_in_nI (by omega) (by omega), ?_⟩
      refine pk_le (L r i) 0 (fun hle => ?_) (fun hgt => ?_) rfl rfl (by omega) (by omega)
      · intro z ez
        rw [nI_1] at ez
        subst ez
        rw [cz_b_f (fun z => z (by omega))] at I
        exact I
      · intro y ey z ez
        rw [nI_1] at ey ez
        subst ey ez
        rw [cz_b_t (show L r i ≠ 0 by omega)] at I
        exact I
theorem cz_wvals {x : Int32} (hx : x = nI r) (hr : r < 3) (bL : ∀ o, o < 3 → L r o ≤ 48) (dl : cz_d3 3 xl L) (h : post (nI (cz_ct (fun o => L r o ≠ 0) 3))) :
    wpX_values post (fm, s, a, xs, xb, xc, xm, xk, xv, xa, xl) x := by
  unfold wpX_values
  dsimp only
  refine cz_rt r hr hx (br_f cz_10 ?_)
  rw [hx]
  exact ⟨4, cz_wvals_l hr bL dl h 4 0 (by omega) (by omega)⟩
theorem cz_wtot_l (hr : r < 3) (bK : ∀ o, o < 3 → K r o ≤ 48) (bC : ∀ o, o < 3 → C r o ≤ 48) (dk : cz_d3 3 xk K) (dv : cz_d3 3 xv C)
    (h : post (cz_sm (fun o => xm (49 * o + K r o) - xm (49 * o + C r o)) 3)) :
    ∀ n i : Nat, i ≤ 3 → 3 < n + i → wX_total_13 post (nI r) fm s a xs xb xc xm xk xv xa xl n (cz_sm (fun o => xm (49 * o + K r o) - xm (49 * o + C r o)) i) (nI i) := by
  intro n
  induction n with
  | zero => intro i h1 h2; omega
  | succ n ih =>
    intro i i1 i2
    by_cases e : i = 3
    · subst e
      exact br_t (cz_le3 (by omega) (by omega)) h
    · have hi : i < 3 := by omega
      have b1 := bK i hi
      have b2 := bC i hi
      have I := ih (i + 1) (by omega) (by omega)
      rw [cz_sm_s] at I
      refine br_f (cz_n3 hi) ?_
      rw [cz_i3, nI_clamp (show 3 * r + i < 2 ^ 31 by omega), dk r hr i hi, dv r hr i hi, cz_i49, cz_i49]
      rw [nI_clamp (show 49 * i + K r i < 2 ^ 31 by omega), nI_clamp (show 49 * i + C r i < 2 ^ 31 by omega)]
      refine ⟨vp_in_nI (by omega) (by omega), vp_in_nI (by omega) (by omega), ?_⟩
      intro y ey
      subst ey
      refine ⟨vp_in_nI (by omega) (by omega), vp_in_nI (by omega) (by omega), ?_⟩
      intro w ew z ez
      rw [nI_1] at ez
      subst ew ez
      exact I
theorem cz_wtot {x : Int32} (hx : x = nI r) (hr : r < 3) (bK : ∀ o, o < 3 → K r o ≤ 48) (bC : ∀ o, o < 3 → C r o ≤ 48) (dk : cz_d3 3 xk K) (dv : cz_d3 3 xv C)
    (h : post (cz_sm (fun o => xm (49 * o + K r o) - xm (49 * o + C r o)) 3)) : wpX_total post (fm, s, a, xs, xb, xc, xm, xk, xv, xa, xl) x := by
  unfold wpX_total
  dsimp only
  refine cz_rt r hr hx (br_f cz_10 ?_)
  rw [hx]
  exact ⟨4, cz_wtot_l hr bK bC dk dv h 4 0 (by omega) (by omega)⟩
/-- the value of an origin's assign -/
theorem cz_wvf {o : Nat} (hr : r < 3) (ho : o < 3) (bL : L r o ≤ 48) (dl : cz_d3 3 xl L) (hv : ∃ c, c < 48 ∧ xc (49 * o + L r o) = nI c ∧ a c = V o) (h : post (V o)) :
    wpX_valueFrom post (fm, s, a, xs, xb, xc, xm, xk, xv, xa, xl) (nI r) (nI o) := by
  obtain ⟨c, hc, ec, ev⟩ := hv
  unfold wpX_valueFrom
  dsimp only
  rw [cz_i3, nI_clamp (show 3 * r + o < 2 ^ 31 by omega), dl r hr o ho, cz_i49, nI_clamp (show 49 * o + L r o < 2 ^ 31 by omega), ec]
  refine ⟨vp_in_nI (by omega) (by omega), vp_in_nI (by omega) (by omega), ?_⟩
  intro y ey
  subst ey
  refine ⟨vp_in_nI hc (by omega), ?_⟩
  rw [nI_clamp (show c < 2 ^ 31 by omega), ev]
  exact h
theorem cz_wplc_l {o : Nat} (hr : r < 3) (ho : o < 3) (bL : ∀ o, o < 3 → L r o ≤ 48) (dl : cz_d3 3 xl L) (hv : ∀ o, o < 3 → L r o ≠ 0 → ∃ c, c < 48 ∧ xc (49 * o + L r o) = nI c ∧ a c = V o)
    (h : post (nI (cz_ct (cz_pl (fun i => L r i ≠ 0) V o) 3))) :
    ∀ n i : Nat, i ≤ 3 → 3 < n + i → wX_placeOfValue_13 post (nI r) (nI o) (V o) fm s a xs xb xc xm xk xv xa xl n (nI (cz_ct (cz_pl (fun i => L r i ≠ 0) V o) i)) (nI i) := by
  intro n
  induction n with
  | zero => intro i h1 h2; omega
  | succ n ih =>
    intro i i1 i2
    by_cases e : i = 3
    · subst e
      exact br_t (cz_le3 (by omega) (by omega)) h
    · have hi : i < 3 := by omega
      have b := bL i hi
      have I := ih (i + 1) (by omega) (by omega)
      rw [cz_ct_s] at I
      have no : ¬ cz_pl (fun i => L r i ≠ 0) V o i → ∀ z, z = nI i + 1 → wX_placeOfValue_13 post (nI r) (nI o) (V o) fm s a xs xb xc xm xk xv xa xl n (nI (cz_ct (cz_pl (fun i => L r i ≠ 0) V o) i)) z := by
        intro q z ez
        rw [nI_1] at ez
        subst ez
        rw [cz_b_f q] at I
        exact I
      have yes : cz_pl (fun i => L r i ≠ 0) V o i → ∀ y, y = nI (cz_ct (cz_pl (fun i => L r i ≠ 0) V o) i) + 1 → ∀ z, z = nI i + 1 → wX_placeOfValue_13 post (nI r) (nI o) (V o) fm s a xs xb xc xm xk xv xa xl n y z := by
        intro q y ey z ez
        rw [nI_1] at ey ez
        subst ey ez
        rw [cz_b_t q] at I
        exact I
      refine br_f (cz_n3 hi) ?_
      refine pk_eq i o (fun eq => no (fun q => q.1 eq)) (fun ne => ?_) rfl rfl (by omega) (by omega)
      rw [cz_i3, nI_clamp (show 3 * r + i < 2 ^ 31 by omega), dl r hr i hi]
      refine ⟨vp_in_nI (by omega) (by omega), ?_⟩
      refine pk_le (L r i) 0 (fun hle => no (fun q => q.2.1 (by omega))) (fun hgt => ?_) rfl rfl (by omega) (by omega)
      have hl : L r i ≠ 0 := by omega
      refine cz_wvf (V := V) hr hi b dl (hv i hi hl) ?_
      refine br_c (fun g => yes ⟨ne, hl, Or.inl g⟩) (fun g => ?_)
      refine br_c (fun g2 => ?_) (fun g2 => no (fun q => q.2.2.elim g (fun w => g2 w.1)))
      refine pk_le o i (fun g3 => no (fun q => q.2.2.elim g (fun w => ?_))) (fun g3 => yes ⟨ne, hl, Or.inr ⟨g2, g3⟩⟩) rfl rfl (by omega) (by omega)
      have := w.2
      omega
theorem cz_wplc {o : Nat} (hr : r < 3) (ho : o < 3) (bL : ∀ o, o < 3 → L r o ≤ 48) (dl : cz_d3 3 xl L) (hv : ∀ o, o < 3 → L r o ≠ 0 → ∃ c, c < 48 ∧ xc (49 * o + L r o) = nI c ∧ a c = V o)
    (hl : L r o ≠ 0) (h : post (nI (cz_pc (fun i => L r i ≠ 0) V o))) :
    wpX_placeOfValue post (fm, s, a, xs, xb, xc, xm, xk, xv, xa, xl) (nI r) (nI o) := by
  unfold wpX_placeOfValue
  dsimp only
  refine cz_wvf (V := V) hr ho (bL o ho) dl (hv o ho hl) ?_
  have e : cz_pc (fun i => L r i ≠ 0) V o = cz_ct (cz_pl (fun i => L r i ≠ 0) V o) 3 := by
    rw [cz_ct_s, cz_ct_s, cz_ct_s]
    show _ = 0 + _ + _ + _
    rw [Nat.zero_add]
    rfl
  rw [e] at h
  exact ⟨4, cz_wplc_l hr ho bL dl hv h 4 0 (by omega) (by omega)⟩
theorem cz_wvalue_l {p : Int32} (hr : r < 3) (bL : ∀ o, o < 3 → L r o ≤ 48) (dl : cz_d3 3 xl L) (hv : ∀ o, o < 3 → L r o ≠ 0 → ∃ c, c < 48 ∧ xc (49 * o + L r o) = nI c ∧ a c = V o)
    (h1 : ∀ o, o < 3 → L r o ≠ 0 → nI (cz_pc (fun i => L r i ≠ 0) V o) = p → post (V o))
    (h0 : (∀ o, o < 3 → L r o ≠ 0 → ¬ nI (cz_pc (fun i => L r i ≠ 0) V o) = p) → post 0) :
    ∀ n i : Nat, i ≤ 3 → 3 < n + i → (∀ o, o < i → L r o ≠ 0 → ¬ nI (cz_pc (fun i => L r i ≠ 0) V o) = p) → wX_value_11 post (nI r) p fm s a xs xb xc xm xk xv xa xl n (nI i) := by
  intro n
  induction n with
  | zero => intro i h1 h2; omega
  | succ n ih =>
    intro i i1 i2 i3
    by_cases e : i = 3
    · subst e
      exact br_t (cz_le3 (by omega) (by omega)) (h0 i3)
    · have hi : i < 3 := by omega
      have b := bL i hi
      have next : (L r i ≠ 0 → ¬ nI (cz_pc (fun i => L r i ≠ 0) V i) = p) → ∀ z, z = nI i + 1 → wX_value_11 post (nI r) p fm s a xs xb xc xm xk xv xa xl n z := by
        intro q z ez
        rw [nI_1] at ez
        subst ez
        refine ih (i + 1) (by omega) (by omega) (fun o ho => ?_)
        by_cases e : o = i
        · subst e; exact q
        · exact i3 o (by omega)
      refine br_f (cz_n3 hi) ?_
      rw [cz_i3, nI_clamp (show 3 * r + i < 2 ^ 31 by omega), dl r hr i hi]
      refine ⟨vp_in_nI (by omega) (by omega), ?_⟩
      refine pk_le (L r i) 0 (fun hle => next (fun q => absurd (show L r i = 0 by omega) q)) (fun hgt => ?_) rfl rfl (by omega) (by omega)
      have hl : L r i ≠ 0 := by omega
      refine cz_wplc (V := V) hr hi bL dl hv hl ?_
      refine br_c (fun g => ?_) (fun g => next (fun _ => g))
      exact cz_wvf (V := V) hr hi b dl (hv i hi hl) (h1 i hi hl g)
theorem cz_wvalue {x p : Int32} (hx : x = nI r) (hr : r < 3) (bL : ∀ o, o < 3 → L r o ≤ 48) (dl : cz_d3 3 xl L) (hv : ∀ o, o < 3 → L r o ≠ 0 → ∃ c, c < 48 ∧ xc (49 * o + L r o) = nI c ∧ a c = V o)
    (h1 : ∀ o, o < 3 → L r o ≠ 0 → nI (cz_pc (fun i => L r i ≠ 0) V o) = p → post (V o))
    (h0 : (∀ o, o < 3 → L r o ≠ 0 → ¬ nI (cz_pc (fun i => L r i ≠ 0) V o) = p) → post 0) :
    wpX_value post (fm, s, a, xs, xb, xc, xm, xk, xv, xa, xl) x p := by
  unfold wpX_value
  dsimp only
  refine cz_rt r hr hx (br_f cz_10 ?_)
  rw [hx]
  exact ⟨4, cz_wvalue_l hr bL dl hv h1 h0 4 0 (by omega) (by omega) (fun o ho => absurd ho (by omega))⟩
end
end
section
/-! ===== Y: the walks ===== -/
theorem cz_if {c d A B : Prop} (e : c ↔ d) (f : d → A) (g : ¬ d → B) : (c → A) ∧ (¬ c → B) := ⟨fun z => f (e.mp z), fun z => g (fun w => z (e.mpr w))⟩
/-- d ends c, if c is in its past -/
def cz_kl (s a : Nat → Int32) (c d : Nat) : Prop := s d = 4 ∨ (s c = 0 ∧ s d = 1 ∧ a d = a c) ∨ (s c = 2 ∧ s d = 2)
def cz_st (m : Nat) (s a : Nat → Int32) (yp yk : Nat → Int64) (r c : Nat) : Prop :=
  cz_bt (yk r) c ∧ ∀ d, d < m → cz_bt (yk r) d → cz_bt (yp d) c → ¬ cz_kl s a c d
section
variable {m : Nat} {s a yo : Nat → Int32} {yp yk : Nat → Int64} {r : Nat}
theorem cz_wst_l {post : Int32 → Prop} {c : Nat} (hm : m ≤ 48) (hr : r < 3) (hc : c < m)
    (h1 : (∀ d, d < m → cz_bt (yk r) d → cz_bt (yp d) c → ¬ cz_kl s a c d) → post 1)
    (h0 : ∀ d, d < m → cz_bt (yk r) d → cz_bt (yp d) c → cz_kl s a c d → post 0) :
    ∀ n d : Nat, d ≤ m → m < n + d → (∀ d', d' < d → cz_bt (yk r) d' → cz_bt (yp d') c → ¬ cz_kl s a c d') →
      wY_stands_19 post (nI r) (nI c) (nI m) s a yo yp yk n (nI d) := by
  intro n
  induction n with
  | zero => intro d i1 i2; omega
  | succ n ih =>
    intro d i1 i2 i3
    by_cases e : d = m
    · subst e
      exact br_t (nI_le (by omega) (by omega)) (h1 i3)
    · have hd : d < m := by omega
      have next : (cz_bt (yk r) d → cz_bt (yp d) c → ¬ cz_kl s a c d) → ∀ z, z = nI d + 1 → wY_stands_19 post (nI r) (nI c) (nI m) s a yo yp yk n z := by
        intro q z ez
        rw [nI_1] at ez
        subst ez
        refine ih (d + 1) (by omega) (by omega) (fun d' hd' => ?_)
        by_cases g : d' = d
        · subst g; exact q
        · exact i3 d' (by omega)
      have ind : vp_in (nI d) 48 := vp_in_nI (by omega) (by omega)
      have inc : vp_in (nI c) 48 := vp_in_nI (by omega) (by omega)
      have no : ¬ (cz_bt (yk r) d ∧ cz_bt (yp d) c) → wY_stands_61 post (wY_stands_19 post (nI r) (nI c) (nI m) s a yo yp yk n) (nI r) (nI c) (nI d) (nI m) s a yo yp yk := by
        intro q
        unfold wY_stands_61 wY_stands_62 wY_stands_81 wY_stands_122
        exact br_t rfl (br_t rfl (br_t rfl (next (fun x y => absurd ⟨x, y⟩ q))))
      refine br_f (nI_ge hd (by omega)) ?_
      rw [nI_clamp (show r < 2 ^ 31 by omega), nI_clamp (show d < 2 ^ 31 by omega)]
      refine ⟨vp_in_nI hr (by omega), ?_⟩
      refine cz_if (cz_t1 (yk r) (show d < 64 by omega)) (fun kd => ?_) (fun kd => no (fun z => kd z.1))
      refine ⟨ind, ?_⟩
      refine cz_if (cz_t1 (yp d) (show c < 64 by omega)) (fun pd => ?_) (fun pd => no (fun z => pd z.2))
      have T : ¬ s d = 4 → ¬ (s c = 0 ∧ s d = 1 ∧ a d = a c) → wY_stands_122 post (wY_stands_19 post (nI r) (nI c) (nI m) s a yo yp yk n) (nI r) (nI c) (nI d) 1 (nI m) s a yo yp yk := by
        intro q1 q2
        unfold wY_stands_122
        rw [nI_clamp (show d < 2 ^ 31 by omega), nI_clamp (show c < 2 ^ 31 by omega)]
        refine br_f cz_10 ⟨inc, br_c (fun c2 => ⟨ind, br_c (fun d2 => h0 d hd kd pd (Or.inr (Or.inr ⟨c2, d2⟩))) (fun d2 => ?_)⟩) (fun c2 => ?_)⟩
        · exact next (fun _ _ z => z.elim q1 (fun w => w.elim q2 (fun v => d2 v.2)))
        · exact next (fun _ _ z => z.elim q1 (fun w => w.elim q2 (fun v => c2 v.1)))
      unfold wY_stands_62 wY_stands_81
      rw [nI_clamp (show d < 2 ^ 31 by omega), nI_clamp (show c < 2 ^ 31 by omega)]
      refine br_f cz_10 ⟨ind, br_c (fun d4 => h0 d hd kd pd (Or.inl d4)) (fun d4 => ?_)⟩
      refine br_f cz_10 ⟨inc, br_c (fun c0 => ⟨ind, br_c (fun d1 => ⟨ind, inc, br_c (fun ea => h0 d hd kd pd (Or.inr (Or.inl ⟨c0, d1, ea⟩))) (fun ea => ?_)⟩) (fun d1 => ?_)⟩) (fun c0 => ?_)⟩
      · exact T d4 (fun z => ea z.2.2)
      · exact T d4 (fun z => d1 z.2.1)
      · exact T d4 (fun z => c0 z.1)
theorem cz_wst {post : Int32 → Prop} {c : Nat} (hm : m ≤ 48) (hr : r < 3) (hc : c < m) (h1 : cz_st m s a yp yk r c → post 1) (h0 : ¬ cz_st m s a yp yk r c → post 0) :
    wpY_stands post (nI m, s, a, yo, yp, yk) (nI r) (nI c) := by
  unfold wpY_stands
  dsimp only
  rw [nI_clamp (show r < 2 ^ 31 by omega)]
  refine ⟨vp_in_nI hr (by omega), ?_⟩
  refine cz_if (cz_t0 (yk r) (show c < 64 by omega)) (fun k => h0 (fun z => k z.1)) (fun k => ?_)
  have k : cz_bt (yk r) c := Classical.not_not.mp k
  exact ⟨m + 1, cz_wst_l hm hr hc (fun z => h1 ⟨k, z⟩) (fun d hd kd pd kl => h0 (fun z => z.2 d hd kd pd kl)) (m + 1) 0 (by omega) (by omega) (fun d hd => absurd hd (by omega))⟩
theorem cz_wyhas_l {post : Int32 → Prop} {y : Int32} {e : Nat} (hm : m ≤ 48) (hr : r < 3) (hy : y &&& 7 = nI e)
    (h1 : ∀ c, c < m → s c = 0 → a c = nI e → cz_st m s a yp yk r c → post 1) (h0 : (∀ c, c < m → s c = 0 → a c = nI e → ¬ cz_st m s a yp yk r c) → post 0) :
    ∀ n c : Nat, c ≤ m → m < n + c → (∀ c', c' < c → s c' = 0 → a c' = nI e → ¬ cz_st m s a yp yk r c') → wY_has_11 post (nI r) y (nI m) s a yo yp yk n (nI c) := by
  intro n
  induction n with
  | zero => intro c i1 i2; omega
  | succ n ih =>
    intro c i1 i2 i3
    by_cases e1 : c = m
    · subst e1
      exact br_t (nI_le (by omega) (by omega)) (h0 i3)
    · have hc : c < m := by omega
      have next : (s c = 0 → a c = nI e → ¬ cz_st m s a yp yk r c) → ∀ z, z = nI c + 1 → wY_has_11 post (nI r) y (nI m) s a yo yp yk n z := by
        intro q z ez
        rw [nI_1] at ez
        subst ez
        refine ih (c + 1) (by omega) (by omega) (fun c' hc' => ?_)
        by_cases g : c' = c
        · subst g; exact q
        · exact i3 c' (by omega)
      have inc : vp_in (nI c) 48 := vp_in_nI (by omega) (by omega)
      refine br_f (nI_ge hc (by omega)) ?_
      rw [nI_clamp (show c < 2 ^ 31 by omega), hy]
      refine ⟨inc, br_c (fun c0 => ⟨inc, br_c (fun ae => ?_) (fun ae => next (fun _ q => absurd q ae))⟩) (fun c0 => next (fun q => absurd q c0))⟩
      exact cz_wst hm hr hc (fun z => br_f cz_10 (h1 c hc c0 ae z)) (fun z => br_t rfl (next (fun _ _ => z)))
theorem cz_wyhas {post : Int32 → Prop} {x y : Int32} {e : Nat} (hx : x = nI r) (hm : m ≤ 48) (hr : r < 3) (hy : y &&& 7 = nI e)
    (h1 : ∀ c, c < m → s c = 0 → a c = nI e → cz_st m s a yp yk r c → post 1) (h0 : (∀ c, c < m → s c = 0 → a c = nI e → ¬ cz_st m s a yp yk r c) → post 0) :
    wpY_has post (nI m, s, a, yo, yp, yk) x y := by
  unfold wpY_has
  dsimp only
  refine cz_bf r hr hx (br_t rfl ?_)
  rw [hx]
  exact ⟨m + 1, cz_wyhas_l hm hr hy h1 h0 (m + 1) 0 (by omega) (by omega) (fun d hd => absurd hd (by omega))⟩
theorem cz_wyvals_l {post : Int32 → Prop} (hm : m ≤ 48) (hr : r < 3) (h : post (nI (cz_ct (fun c => s c = 2 ∧ cz_st m s a yp yk r c) m))) :
    ∀ n c : Nat, c ≤ m → m < n + c → wY_values_13 post (nI r) (nI m) s a yo yp yk n (nI (cz_ct (fun c => s c = 2 ∧ cz_st m s a yp yk r c) c)) (nI c) := by
  intro n
  induction n with
  | zero => intro c i1 i2; omega
  | succ n ih =>
    intro c i1 i2
    by_cases e1 : c = m
    · subst e1
      exact br_t (nI_le (by omega) (by omega)) h
    · have hc : c < m := by omega
      have I := ih (c + 1) (by omega) (by omega)
      rw [cz_ct_s] at I
      have no : ¬ (s c = 2 ∧ cz_st m s a yp yk r c) → ∀ z, z = nI c + 1 → wY_values_13 post (nI r) (nI m) s a yo yp yk n (nI (cz_ct (fun c => s c = 2 ∧ cz_st m s a yp yk r c) c)) z := by
        intro q z ez
        rw [nI_1] at ez
        subst ez
        rw [cz_b_f q] at I
        exact I
      have inc : vp_in (nI c) 48 := vp_in_nI (by omega) (by omega)
      refine br_f (nI_ge hc (by omega)) ?_
      rw [nI_clamp (show c < 2 ^ 31 by omega)]
      refine ⟨inc, br_c (fun c2 => ?_) (fun c2 => no (fun q => c2 q.1))⟩
      refine cz_wst hm hr hc (fun z => br_f cz_10 ?_) (fun z => br_t rfl (no (fun q => z q.2)))
      intro y ey w ew
      rw [nI_1] at ey ew
      subst ey ew
      rw [cz_b_t ⟨c2, z⟩] at I
      exact I
theorem cz_wyvals {post : Int32 → Prop} {x : Int32} (hx : x = nI r) (hm : m ≤ 48) (hr : r < 3) (h : post (nI (cz_ct (fun c => s c = 2 ∧ cz_st m s a yp yk r c) m))) :
    wpY_values post (nI m, s, a, yo, yp, yk) x := by
  unfold wpY_values
  dsimp only
  refine cz_bf r hr hx (br_t rfl ?_)
  rw [hx]
  exact ⟨m + 1, cz_wyvals_l hm hr h (m + 1) 0 (by omega) (by omega)⟩
/-- what under counts -/
def cz_un (m : Nat) (s a : Nat → Int32) (yp yk : Nat → Int64) (r : Nat) (v f : Int32) (c : Nat) : Prop :=
  s c = 2 ∧ (a c < v ∨ (¬ f = 0 ∧ a c = v)) ∧ cz_st m s a yp yk r c
theorem cz_wund_l {post : Int32 → Prop} {v f : Int32} (hm : m ≤ 48) (hr : r < 3) (h : post (nI (cz_ct (cz_un m s a yp yk r v f) m))) :
    ∀ n c : Nat, c ≤ m → m < n + c → wY_under_6 post (nI r) v f (nI m) s a yo yp yk n (nI (cz_ct (cz_un m s a yp yk r v f) c)) (nI c) := by
  intro n
  induction n with
  | zero => intro c i1 i2; omega
  | succ n ih =>
    intro c i1 i2
    by_cases e1 : c = m
    · subst e1
      exact br_t (nI_le (by omega) (by omega)) h
    · have hc : c < m := by omega
      have I := ih (c + 1) (by omega) (by omega)
      rw [cz_ct_s] at I
      have no : ¬ cz_un m s a yp yk r v f c → ∀ z, z = nI c + 1 → wY_under_6 post (nI r) v f (nI m) s a yo yp yk n (nI (cz_ct (cz_un m s a yp yk r v f) c)) z := by
        intro q z ez
        rw [nI_1] at ez
        subst ez
        rw [cz_b_f q] at I
        exact I
      have inc : vp_in (nI c) 48 := vp_in_nI (by omega) (by omega)
      have N : ¬ (a c < v ∨ (¬ f = 0 ∧ a c = v)) → wY_under_45 post (wY_under_6 post (nI r) v f (nI m) s a yo yp yk n) (nI r) v f (nI (cz_ct (cz_un m s a yp yk r v f) c)) (nI c) (nI m) s a yo yp yk := by
        intro q
        unfold wY_under_45 wY_under_46
        rw [nI_clamp (show c < 2 ^ 31 by omega)]
        exact ⟨inc, br_c (fun c2 => br_t rfl (no (fun z => q z.2.1))) (fun c2 => no (fun z => c2 z.1))⟩
      have Y : (a c < v ∨ (¬ f = 0 ∧ a c = v)) → wY_under_41 post (wY_under_6 post (nI r) v f (nI m) s a yo yp yk n) (nI r) v f (nI (cz_ct (cz_un m s a yp yk r v f) c)) (nI c) (nI m) s a yo yp yk := by
        intro q
        unfold wY_under_41 wY_under_46
        rw [nI_clamp (show c < 2 ^ 31 by omega)]
        refine ⟨inc, br_c (fun c2 => br_f cz_10 ?_) (fun c2 => no (fun z => c2 z.1))⟩
        refine cz_wst hm hr hc (fun z => br_f cz_10 ?_) (fun z => br_t rfl (no (fun w => z w.2.2)))
        intro y ey w ew
        rw [nI_1] at ey ew
        subst ey ew
        rw [cz_b_t (p := cz_un m s a yp yk r v f c) ⟨c2, q, z⟩] at I
        exact I
      refine br_f (nI_ge hc (by omega)) ?_
      rw [nI_clamp (show c < 2 ^ 31 by omega)]
      refine ⟨inc, br_c (fun l => Y (Or.inl l)) (fun l => br_c (fun f0 => N (fun z => z.elim l (fun w => w.1 f0))) (fun f0 => ⟨inc, br_c (fun eq => Y (Or.inr ⟨f0, eq⟩)) (fun eq => N (fun z => z.elim l (fun w => eq w.2)))⟩))⟩
theorem cz_wund {post : Int32 → Prop} {v f : Int32} (hm : m ≤ 48) (hr : r < 3) (h : post (nI (cz_ct (cz_un m s a yp yk r v f) m))) :
    wpY_under post (nI m, s, a, yo, yp, yk) (nI r) v f :=
  ⟨m + 1, cz_wund_l hm hr h (m + 1) 0 (by omega) (by omega)⟩
/-- the place lies within the borders of the value of c -/
def cz_wi (m : Nat) (s a : Nat → Int32) (yp yk : Nat → Int64) (r : Nat) (p : Int32) (c : Nat) : Prop :=
  ¬ p < nI (cz_ct (cz_un m s a yp yk r (a c) 0) m) ∧ ¬ nI (cz_ct (cz_un m s a yp yk r (a c) 1) m) ≤ p
theorem cz_wyvalue_l {post : Int32 → Prop} {p : Int32} (hm : m ≤ 48) (hr : r < 3)
    (h1 : ∀ c, c < m → s c = 2 → cz_st m s a yp yk r c → cz_wi m s a yp yk r p c → post (a c))
    (h0 : (∀ c, c < m → s c = 2 → cz_st m s a yp yk r c → ¬ cz_wi m s a yp yk r p c) → post 0) :
    ∀ n c : Nat, c ≤ m → m < n + c → (∀ c', c' < c → s c' = 2 → cz_st m s a yp yk r c' → ¬ cz_wi m s a yp yk r p c') → wY_value_11 post (nI r) p (nI m) s a yo yp yk n (nI c) := by
  intro n
  induction n with
  | zero => intro c i1 i2; omega
  | succ n ih =>
    intro c i1 i2 i3
    by_cases e1 : c = m
    · subst e1
      exact br_t (nI_le (by omega) (by omega)) (h0 i3)
    · have hc : c < m := by omega
      have next : (s c = 2 → cz_st m s a yp yk r c → ¬ cz_wi m s a yp yk r p c) → ∀ z, z = nI c + 1 → wY_value_11 post (nI r) p (nI m) s a yo yp yk n z := by
        intro q z ez
        rw [nI_1] at ez
        subst ez
        refine ih (c + 1) (by omega) (by omega) (fun c' hc' => ?_)
        by_cases g : c' = c
        · subst g; exact q
        · exact i3 c' (by omega)
      have inc : vp_in (nI c) 48 := vp_in_nI (by omega) (by omega)
      refine br_f (nI_ge hc (by omega)) ?_
      rw [nI_clamp (show c < 2 ^ 31 by omega)]
      refine ⟨inc, br_c (fun c2 => ?_) (fun c2 => next (fun q => absurd q c2))⟩
      refine cz_wst hm hr hc (fun z => br_f cz_10 ⟨inc, ?_⟩) (fun z => br_t rfl (next (fun _ q => absurd q z)))
      refine cz_wund hm hr ⟨inc, ?_⟩
      refine cz_wund hm hr ?_
      refine br_c (fun l => next (fun _ _ w => w.1 l)) (fun l => br_c (fun g => next (fun _ _ w => w.2 g)) (fun g => ⟨inc, h1 c hc c2 z ⟨l, g⟩⟩))
theorem cz_wyvalue {post : Int32 → Prop} {x p : Int32} (hx : x = nI r) (hm : m ≤ 48) (hr : r < 3)
    (h1 : ∀ c, c < m → s c = 2 → cz_st m s a yp yk r c → cz_wi m s a yp yk r p c → post (a c))
    (h0 : (∀ c, c < m → s c = 2 → cz_st m s a yp yk r c → ¬ cz_wi m s a yp yk r p c) → post 0) :
    wpY_value post (nI m, s, a, yo, yp, yk) x p := by
  unfold wpY_value
  dsimp only
  refine cz_bf r hr hx (br_t rfl ?_)
  rw [hx]
  exact ⟨m + 1, cz_wyvalue_l hm hr h1 h0 (m + 1) 0 (by omega) (by omega) (fun d hd => absurd hd (by omega))⟩
theorem cz_wytot_l {post : Int32 → Prop} {f : Nat → Int32} (hm : m ≤ 48) (hr : r < 3) (f1 : ∀ c, c < m → (s c = 3 ∧ cz_st m s a yp yk r c) → f c = a c) (f0 : ∀ c, c < m → ¬ (s c = 3 ∧ cz_st m s a yp yk r c) → f c = 0)
    (h : post (cz_sm f m)) :
    ∀ n c : Nat, c ≤ m → m < n + c → wY_total_13 post (nI r) (nI m) s a yo yp yk n (cz_sm f c) (nI c) := by
  intro n
  induction n with
  | zero => intro c i1 i2; omega
  | succ n ih =>
    intro c i1 i2
    by_cases e1 : c = m
    · subst e1
      exact br_t (nI_le (by omega) (by omega)) h
    · have hc : c < m := by omega
      have I := ih (c + 1) (by omega) (by omega)
      rw [cz_sm_s] at I
      have no : ¬ (s c = 3 ∧ cz_st m s a yp yk r c) → ∀ z, z = nI c + 1 → wY_total_13 post (nI r) (nI m) s a yo yp yk n (cz_sm f c) z := by
        intro q z ez
        rw [nI_1] at ez
        subst ez
        rw [f0 c hc q, Int32.add_zero] at I
        exact I
      have inc : vp_in (nI c) 48 := vp_in_nI (by omega) (by omega)
      refine br_f (nI_ge hc (by omega)) ?_
      rw [nI_clamp (show c < 2 ^ 31 by omega)]
      refine ⟨inc, br_c (fun c2 => ?_) (fun c2 => no (fun q => c2 q.1))⟩
      refine cz_wst hm hr hc (fun z => br_f cz_10 ⟨inc, ?_⟩) (fun z => br_t rfl (no (fun q => z q.2)))
      intro y ey w ew
      rw [nI_1] at ew
      subst ey ew
      rw [f1 c hc ⟨c2, z⟩] at I
      exact I
theorem cz_wytot {post : Int32 → Prop} {f : Nat → Int32} {x : Int32} (hx : x = nI r) (hm : m ≤ 48) (hr : r < 3) (f1 : ∀ c, c < m → (s c = 3 ∧ cz_st m s a yp yk r c) → f c = a c) (f0 : ∀ c, c < m → ¬ (s c = 3 ∧ cz_st m s a yp yk r c) → f c = 0)
    (h : post (cz_sm f m)) : wpY_total post (nI m, s, a, yo, yp, yk) x := by
  unfold wpY_total
  dsimp only
  refine cz_bf r hr hx (br_t rfl ?_)
  rw [hx]
  exact ⟨m + 1, cz_wytot_l hm hr f1 f0 h (m + 1) 0 (by omega) (by omega)⟩
theorem cz_wyknown_l {post : Int32 → Prop} {o : Nat} (hm : m ≤ 48) (hr : r < 3) (h : post (nI (cz_ct (fun c => yo c = nI o ∧ cz_bt (yk r) c) m))) :
    ∀ n c : Nat, c ≤ m → m < n + c → wY_known_21 post (nI r) (nI o) (nI m) s a yo yp yk n (nI (cz_ct (fun c => yo c = nI o ∧ cz_bt (yk r) c) c)) (nI c) := by
  intro n
  induction n with
  | zero => intro c i1 i2; omega
  | succ n ih =>
    intro c i1 i2
    by_cases e1 : c = m
    · subst e1
      exact br_t (nI_le (by omega) (by omega)) h
    · have hc : c < m := by omega
      have I := ih (c + 1) (by omega) (by omega)
      rw [cz_ct_s] at I
      have no : ¬ (yo c = nI o ∧ cz_bt (yk r) c) → ∀ z, z = nI c + 1 → wY_known_21 post (nI r) (nI o) (nI m) s a yo yp yk n (nI (cz_ct (fun c => yo c = nI o ∧ cz_bt (yk r) c) c)) z := by
        intro q z ez
        rw [nI_1] at ez
        subst ez
        rw [cz_b_f q] at I
        exact I
      have inc : vp_in (nI c) 48 := vp_in_nI (by omega) (by omega)
      refine br_f (nI_ge hc (by omega)) ?_
      rw [nI_clamp (show c < 2 ^ 31 by omega), nI_clamp (show r < 2 ^ 31 by omega)]
      refine ⟨inc, br_c (fun co => ⟨vp_in_nI hr (by omega), ?_⟩) (fun co => no (fun q => co q.1))⟩
      refine cz_if (cz_t1 (yk r) (show c < 64 by omega)) (fun k => ?_) (fun k => no (fun q => k q.2))
      intro y ey w ew
      rw [nI_1] at ey ew
      subst ey ew
      rw [cz_b_t ⟨co, k⟩] at I
      exact I
theorem cz_wyknown {post : Int32 → Prop} {x y : Int32} {o : Nat} (hx : x = nI r) (hy : y = nI o) (hm : m ≤ 48) (hr : r < 3) (ho : o < 3) (h : post (nI (cz_ct (fun c => yo c = nI o ∧ cz_bt (yk r) c) m))) :
    wpY_known post (nI m, s, a, yo, yp, yk) x y := by
  unfold wpY_known
  dsimp only
  refine cz_bf r hr hx (br_t rfl (cz_bf o ho hy (br_t rfl ?_)))
  rw [hx, hy]
  exact ⟨m + 1, cz_wyknown_l hm hr h (m + 1) 0 (by omega) (by omega)⟩
theorem cz_wydel_l {post : Int32 → SY → Prop} {f t : Nat} (hm : m ≤ 48) (ht : t < 3)
    (h1 : ∀ c, c < m → yo c = nI f → ¬ cz_bt (yk t) c → (∀ c', c' < c → yo c' = nI f → cz_bt (yk t) c') → (∀ i, cz_bt (yp c) i → cz_bt (yk t) i) →
      post 0 (nI m, s, a, yo, yp, vp_updL yk t ((yk t) ||| ((1 : Int64) <<< ((nI c).toInt64 &&& 63)))))
    (h2 : ∀ c, c < m → yo c = nI f → ¬ cz_bt (yk t) c → (∀ c', c' < c → yo c' = nI f → cz_bt (yk t) c') → ¬ (∀ i, cz_bt (yp c) i → cz_bt (yk t) i) → post (-2) (nI m, s, a, yo, yp, yk))
    (h0 : (∀ c, c < m → yo c = nI f → cz_bt (yk t) c) → post (-1) (nI m, s, a, yo, yp, yk)) :
    ∀ n c : Nat, c ≤ m → m < n + c → (∀ c', c' < c → yo c' = nI f → cz_bt (yk t) c') → wY_deliver_18 post (nI f) (nI t) (nI m) s a yo yp yk n (nI c) := by
  intro n
  induction n with
  | zero => intro c i1 i2; omega
  | succ n ih =>
    intro c i1 i2 i3
    by_cases e1 : c = m
    · subst e1
      exact br_t (nI_le (by omega) (by omega)) (h0 i3)
    · have hc : c < m := by omega
      have next : (yo c = nI f → cz_bt (yk t) c) → ∀ z, z = nI c + 1 → wY_deliver_18 post (nI f) (nI t) (nI m) s a yo yp yk n z := by
        intro q z ez
        rw [nI_1] at ez
        subst ez
        refine ih (c + 1) (by omega) (by omega) (fun c' hc' => ?_)
        by_cases g : c' = c
        · subst g; exact q
        · exact i3 c' (by omega)
      have inc : vp_in (nI c) 48 := vp_in_nI (by omega) (by omega)
      have int : vp_in (nI t) 3 := vp_in_nI ht (by omega)
      refine br_f (nI_ge hc (by omega)) ?_
      rw [nI_clamp (show c < 2 ^ 31 by omega), nI_clamp (show t < 2 ^ 31 by omega)]
      refine ⟨inc, br_c (fun co => ⟨int, ?_⟩) (fun co => next (fun q => absurd q co))⟩
      refine cz_if (cz_t0 (yk t) (show c < 64 by omega)) (fun k => ⟨inc, int, ?_⟩) (fun k => next (fun _ => Classical.not_not.mp k))
      refine cz_if (cz_sub (yp c) (yk t)) (fun g => ⟨int, int, ?_⟩) (fun g => h2 c hc co k i3 g)
      intro y ey
      subst ey
      exact h1 c hc co k i3 g
theorem cz_wydel {post : Int32 → SY → Prop} {x y : Int32} {f t : Nat} (hx : x = nI f) (hy : y = nI t) (hm : m ≤ 48) (hf : f < 3) (ht : t < 3)
    (h1 : ∀ c, c < m → yo c = nI f → ¬ cz_bt (yk t) c → (∀ c', c' < c → yo c' = nI f → cz_bt (yk t) c') → (∀ i, cz_bt (yp c) i → cz_bt (yk t) i) →
      post 0 (nI m, s, a, yo, yp, vp_updL yk t ((yk t) ||| ((1 : Int64) <<< ((nI c).toInt64 &&& 63)))))
    (h2 : ∀ c, c < m → yo c = nI f → ¬ cz_bt (yk t) c → (∀ c', c' < c → yo c' = nI f → cz_bt (yk t) c') → ¬ (∀ i, cz_bt (yp c) i → cz_bt (yk t) i) → post (-2) (nI m, s, a, yo, yp, yk))
    (h0 : (∀ c, c < m → yo c = nI f → cz_bt (yk t) c) → post (-1) (nI m, s, a, yo, yp, yk)) :
    wpY_deliver post (nI m, s, a, yo, yp, yk) x y := by
  unfold wpY_deliver
  dsimp only
  refine cz_bf f hf hx (br_t rfl (cz_bf t ht hy (br_t rfl ?_)))
  rw [hx, hy]
  exact ⟨m + 1, cz_wydel_l hm ht h1 h2 h0 (m + 1) 0 (by omega) (by omega) (fun d hd => absurd hd (by omega))⟩
/-- make, where it makes -/
theorem cz_wymake {post : Int32 → SY → Prop} {x sv av : Int32} (hx : x = nI r) (hm : m < 48) (hr : r < 3)
    (h : post (nI (m + 1)) (nI (m + 1), upd s m sv, upd a m av, upd yo m (nI r), vp_updL yp m (yk r), vp_updL yk r ((yk r) ||| ((1 : Int64) <<< ((nI m).toInt64 &&& 63))))) :
    wpY_make post (nI m, s, a, yo, yp, yk) x sv av := by
  subst hx
  unfold wpY_make
  dsimp only
  have inm : vp_in (nI m) 48 := vp_in_nI (by omega) (by omega)
  have inr : vp_in (nI r) 3 := vp_in_nI hr (by omega)
  refine cz_bf r hr rfl (br_t rfl ?_)
  refine pk_eq m 48 (fun e => absurd e (by omega)) (fun _ => ?_) rfl rfl (by omega) (by omega)
  rw [nI_clamp (show m < 2 ^ 31 by omega), nI_clamp (show r < 2 ^ 31 by omega)]
  refine ⟨inm, ?_⟩
  intro y1 e1
  subst e1
  refine ⟨inm, ?_⟩
  intro y2 e2
  subst e2
  refine ⟨inm, ?_⟩
  intro y3 e3
  subst e3
  refine ⟨inr, inm, ?_⟩
  intro y4 e4
  subst e4
  refine ⟨inr, inr, ?_⟩
  intro y5 e5
  subst e5
  intro y6 e6
  rw [nI_1] at e6
  subst e6
  exact h
theorem cz_wymake0 {post : Int32 → SY → Prop} {x sv av : Int32} (h : (x < 0 ∨ (¬ x < 0 ∧ 2 < x)) ∨ m = 48)
    (hp : post (-1) (nI m, s, a, yo, yp, yk)) : wpY_make post (nI m, s, a, yo, yp, yk) x sv av := by
  unfold wpY_make
  dsimp only
  rcases cz_rep x with ⟨r, hr, ex⟩ | hx
  · refine cz_bf r hr ex ?_
    rcases h with h | h
    · exfalso
      subst ex
      rcases h with h | h
      · exact nI_pos (by omega) h
      · exact nI_nlt (a := 2) (b := r) (by omega) (by omega) h.2
    · subst h
      exact br_t rfl (br_t rfl hp)
  · exact cz_bt1 hx (br_f cz_10 hp)
end
end
section
/-! ===== the relation's parts and their steps ===== -/
def cz_PA (s a : Nat → Int32) (e : Nat) (c : Nat) : Prop := s c = 0 ∧ a c = nI e
def cz_QA (s a : Nat → Int32) (e : Nat) (d : Nat) : Prop := s d = 4 ∨ (s d = 1 ∧ a d = nI e)
def cz_PS (s : Nat → Int32) (c : Nat) : Prop := s c = 2
def cz_QS (s : Nat → Int32) (d : Nat) : Prop := s d = 4 ∨ s d = 2
def cz_QR (s : Nat → Int32) (d : Nat) : Prop := s d = 4
def cz_G (m : Nat) (s a : Nat → Int32) (og : Nat → Nat) (S K C : Nat → Nat → Nat) (LA : Nat → Nat → Nat → Nat) (L : Nat → Nat → Nat) : Prop :=
  m ≤ 48 ∧ (∀ c, c < m → og c < 3) ∧ (∀ c, c < m → ∀ o, o < 3 → S c o ≤ cz_cn og o m) ∧ (∀ c, c < m → S c (og c) + 1 = cz_nu og c) ∧
  (∀ r, r < 3 → ∀ o, o < 3 → K r o ≤ cz_cn og o m) ∧ (∀ r, r < 3 → cz_cl m og S (K r)) ∧
  (∀ c, c < m → s c = 0 ∨ s c = 1 → ∃ e, e < 8 ∧ a c = nI e) ∧
  (∀ r, r < 3 → ∀ o, o < 3 → cz_Cv m og S (cz_QR s) (K r) o (C r o)) ∧
  (∀ r, r < 3 → ∀ e, e < 8 → ∀ o, o < 3 → cz_L m og S (cz_PA s a e) (cz_QA s a e) (K r) o (LA r e o)) ∧
  (∀ r, r < 3 → ∀ o, o < 3 → cz_L m og S (cz_PS s) (cz_QS s) (K r) o (L r o))
def cz_w (s a : Nat → Int32) (c : Nat) : Int32 := if s c = 3 then a c else 0
def cz_X1 (m : Nat) (s a : Nat → Int32) (og : Nat → Nat) (xb xc xm : Nat → Int32) : Prop :=
  (∀ o, o < 3 → xb o = nI (cz_cn og o m)) ∧ (∀ c, c < m → xc (49 * og c + cz_nu og c) = nI c) ∧
  (∀ o, o < 3 → ∀ n, n ≤ cz_cn og o m → xm (49 * o + n) = cz_T og (cz_w s a) o n m)
def cz_Y (m : Nat) (og : Nat → Nat) (S K : Nat → Nat → Nat) (yo : Nat → Int32) (yp yk : Nat → Int64) : Prop :=
  (∀ c, c < m → yo c = nI (og c)) ∧ (∀ c, c < m → ∀ i, cz_bt (yp c) i ↔ i < m ∧ cz_nu og i ≤ S c (og i)) ∧
  (∀ r, r < 3 → ∀ i, cz_bt (yk r) i ↔ i < m ∧ cz_nu og i ≤ K r (og i))
/-! learning a change -/
section
variable {m : Nat} {s a : Nat → Int32} {og : Nat → Nat} {S K C L : Nat → Nat → Nat} {LA : Nat → Nat → Nat → Nat} {r x : Nat}
theorem cz_G_1 (G : cz_G m s a og S K C LA L) (hx : x < m) (hr : r < 3) (hn : cz_nu og x = K r (og x) + 1) (hs : ∀ o, o < 3 → S x o ≤ K r o) :
    cz_G m s a og S (cz_uK og K r x) (cz_uC s S C r x) (cz_uA s a og S LA r x) (cz_uS s og S L r x) := by
  obtain ⟨g1, g2, g3, g4, g5, g6, g7, g8, g9, g10⟩ := G
  refine ⟨g1, g2, g3, g4, ?_, ?_, g7, ?_, ?_, ?_⟩
  · intro r' hr' o ho
    by_cases q : r' = r ∧ o = og x
    · obtain ⟨e1, e2⟩ := q
      subst e1 e2
      rw [cz_uK_t, cz_k1_t]
      exact cz_nu_le hx
    · rw [cz_uK_n q]
      exact g5 r' hr' o ho
  · intro r' hr'
    by_cases q : r' = r
    · subst q
      rw [cz_uK_t]
      exact cz_cl1 hn (g6 r' hr') hs
    · rw [cz_uK_f q]
      exact g6 r' hr'
  · intro r' hr' o ho
    by_cases q : r' = r
    · subst q
      rw [cz_uK_t]
      by_cases h4 : s x = 4
      · rw [cz_uC_t h4]
        exact cz_C1q hn hx h4 (g8 r' hr' o ho)
      · rw [cz_uC_n h4]
        exact cz_C1n hn hx h4 (g8 r' hr' o ho)
    · rw [cz_uK_f q, cz_uC_f q]
      exact g8 r' hr' o ho
  · intro r' hr' e he o ho
    by_cases q : r' = r
    · subst q
      rw [cz_uK_t]
      by_cases hP : (s x = 0 ∧ a x = nI e) ∧ o = og x
      · obtain ⟨p1, p2⟩ := hP
        subst p2
        rw [cz_uA_p p1]
        exact cz_L1p hn hx ho (g6 r' hr') hs p1
      · by_cases hQ : (s x = 4 ∨ (s x = 1 ∧ a x = nI e)) ∧ LA r' e o ≤ S x o
        · rw [cz_uA_z hP hQ.1 hQ.2]
          exact cz_L1q hn hx hP hQ.1 hQ.2 (g9 r' hr' e he o ho)
        · rw [cz_uA_k hP hQ]
          refine cz_L1n hn hx hP (fun _ z => ?_) (g9 r' hr' e he o ho)
          exact Nat.lt_of_not_le (fun w => hQ ⟨z, w⟩)
    · rw [cz_uK_f q, cz_uA_f q]
      exact g9 r' hr' e he o ho
  · intro r' hr' o ho
    by_cases q : r' = r
    · subst q
      rw [cz_uK_t]
      by_cases hP : s x = 2 ∧ o = og x
      · obtain ⟨p1, p2⟩ := hP
        subst p2
        rw [cz_uS_p p1]
        exact cz_L1p hn hx ho (g6 r' hr') hs p1
      · by_cases hQ : (s x = 4 ∨ s x = 2) ∧ L r' o ≤ S x o
        · rw [cz_uS_z hP hQ.1 hQ.2]
          exact cz_L1q hn hx hP hQ.1 hQ.2 (g10 r' hr' o ho)
        · rw [cz_uS_k hP hQ]
          refine cz_L1n hn hx hP (fun _ z => ?_) (g10 r' hr' o ho)
          exact Nat.lt_of_not_le (fun w => hQ ⟨z, w⟩)
    · rw [cz_uK_f q, cz_uS_f q]
      exact g10 r' hr' o ho
theorem cz_Y_1 {yo : Nat → Int32} {yp yk : Nat → Int64} (hm : m ≤ 48) (hx : x < m) (hr : r < 3) (hn : cz_nu og x = K r (og x) + 1) (Y : cz_Y m og S K yo yp yk) :
    cz_Y m og S (cz_uK og K r x) yo yp (vp_updL yk r ((yk r) ||| ((1 : Int64) <<< ((nI x).toInt64 &&& 63)))) := by
  obtain ⟨y1, y2, y3⟩ := Y
  refine ⟨y1, y2, ?_⟩
  intro r' hr' i
  by_cases q : r' = r
  · subst q
    rw [cz_uK_t, pk_uLs, cz_bor, cz_one (show x < 64 by omega), y3 r' hr' i, cz_kn1 hn i]
    constructor
    · intro z
      rcases z with z | z
      · exact ⟨z.1, Or.inl z.2⟩
      · exact ⟨by omega, Or.inr z⟩
    · intro z
      rcases z.2 with w | w
      · exact Or.inl ⟨z.1, w⟩
      · exact Or.inr w
  · rw [cz_uK_f q, pk_uLn q]
    exact y3 r' hr' i
end
/-! a new change -/
def cz_og1 (og : Nat → Nat) (r m : Nat) : Nat → Nat := fun c => if c = m then r else og c
section
variable {m : Nat} {s a : Nat → Int32} {og : Nat → Nat} {S K C L : Nat → Nat → Nat} {LA : Nat → Nat → Nat → Nat} {r : Nat} {sv av : Int32}
theorem cz_og1_t : cz_og1 og r m m = r := if_pos rfl
theorem cz_og1_f {c : Nat} (h : c < m) : cz_og1 og r m c = og c := if_neg (by omega)
theorem cz_og1_cn (o : Nat) : cz_cn (cz_og1 og r m) o m = cz_cn og o m := cz_cn_cg o m (fun _ h => cz_og1_f h)
theorem cz_og1_nu : cz_nu (cz_og1 og r m) m = cz_cn og r m + 1 := by rw [cz_nu_d, cz_og1_t, cz_og1_cn]
theorem cz_og1_nf {c : Nat} (h : c < m) : cz_nu (cz_og1 og r m) c = cz_nu og c := cz_nu_cg (fun _ h => cz_og1_f h) h
theorem cz_og1_ct : cz_cn (cz_og1 og r m) r (m + 1) = cz_cn og r m + 1 := by rw [cz_cn_t cz_og1_t, cz_og1_cn]
theorem cz_og1_cf {o : Nat} (h : o ≠ r) : cz_cn (cz_og1 og r m) o (m + 1) = cz_cn og o m := by
  rw [cz_cn_f (by rw [cz_og1_t]; exact fun z => h z.symm), cz_og1_cn]
theorem cz_og1_cg (o : Nat) : cz_cn og o m ≤ cz_cn (cz_og1 og r m) o (m + 1) := by
  by_cases h : o = r
  · subst h; rw [cz_og1_ct]; omega
  · rw [cz_og1_cf h]; exact Nat.le_refl _
theorem cz_S1_l {c : Nat} (h : c < m) : cz_S1 S K r m c = S c := cz_S1_f (by omega)
theorem cz_upd_l {f : Nat → Int32} {v : Int32} {c : Nat} (h : c < m) : upd f m v c = f c := pk_un (by omega)
theorem cz_G_x (G : cz_G m s a og S K C LA L) (hm : m < 48) (hr : r < 3) (hd : K r r = cz_cn og r m) (harg : sv = 0 ∨ sv = 1 → ∃ e, e < 8 ∧ av = nI e) :
    cz_G (m + 1) (upd s m sv) (upd a m av) (cz_og1 og r m) (cz_S1 S K r m) K C LA L := by
  obtain ⟨g1, g2, g3, g4, g5, g6, g7, g8, g9, g10⟩ := G
  have hg : ∀ c, c < m → cz_og1 og r m c = og c := fun _ h => cz_og1_f h
  have hS : ∀ c, c < m → cz_S1 S K r m c = S c := fun _ h => cz_S1_l h
  have hk : ∀ r', r' < 3 → K r' (cz_og1 og r m m) < cz_nu (cz_og1 og r m) m := by
    intro r' hr'
    rw [cz_og1_nu, cz_og1_t]
    have := g5 r' hr' r hr
    omega
  refine ⟨by omega, ?_, ?_, ?_, ?_, ?_, ?_, ?_, ?_, ?_⟩
  · intro c hc
    by_cases e : c = m
    · subst e; rw [cz_og1_t]; exact hr
    · rw [cz_og1_f (show c < m by omega)]; exact g2 c (by omega)
  · intro c hc o ho
    have w := cz_og1_cg (og := og) (m := m) (r := r) o
    by_cases e : c = m
    · rw [e, cz_S1_t]
      have := g5 r hr o ho
      omega
    · rw [cz_S1_f e]
      have := g3 c (by omega) o ho
      omega
  · intro c hc
    by_cases e : c = m
    · rw [e, cz_S1_t, cz_og1_t, cz_og1_nu, hd]
    · have hc' : c < m := by omega
      rw [cz_S1_f e, cz_og1_f hc', cz_og1_nf hc']
      exact g4 c hc'
  · intro r' hr' o ho
    have w := cz_og1_cg (og := og) (m := m) (r := r) o
    have := g5 r' hr' o ho
    omega
  · intro r' hr'
    exact cz_cl_x hg hS (hk r' hr') (g6 r' hr')
  · intro c hc
    by_cases e : c = m
    · subst e; rw [pk_us, pk_us]; exact harg
    · rw [pk_un e, pk_un e]; exact g7 c (by omega)
  · intro r' hr' o ho
    refine cz_Cv_x hg hS (fun c hc => ?_) (hk r' hr') (g8 r' hr' o ho)
    unfold cz_QR
    rw [cz_upd_l hc]
  · intro r' hr' e he o ho
    refine cz_L_x hg hS (fun c hc => ?_) (fun c hc => ?_) (hk r' hr') (g9 r' hr' e he o ho)
    · unfold cz_PA
      rw [cz_upd_l hc, cz_upd_l hc]
    · unfold cz_QA
      rw [cz_upd_l hc, cz_upd_l hc]
  · intro r' hr' o ho
    refine cz_L_x hg hS (fun c hc => ?_) (fun c hc => ?_) (hk r' hr') (g10 r' hr' o ho)
    · unfold cz_PS
      rw [cz_upd_l hc]
    · unfold cz_QS
      rw [cz_upd_l hc]
theorem cz_Y_x {yo : Nat → Int32} {yp yk : Nat → Int64} (G : cz_G m s a og S K C LA L) (hr : r < 3) (Y : cz_Y m og S K yo yp yk) :
    cz_Y (m + 1) (cz_og1 og r m) (cz_S1 S K r m) K (upd yo m (nI r)) (vp_updL yp m (yk r)) yk := by
  obtain ⟨g1, g2, g3, g4, g5, g6, g7, g8, g9, g10⟩ := G
  obtain ⟨y1, y2, y3⟩ := Y
  have key : ∀ (k : Nat → Nat) (i : Nat), k r ≤ cz_cn og r m → ((i < m ∧ cz_nu og i ≤ k (og i)) ↔ (i < m + 1 ∧ cz_nu (cz_og1 og r m) i ≤ k (cz_og1 og r m i))) := by
    intro k i hk
    by_cases e : i = m
    · subst e
      rw [cz_og1_nu, cz_og1_t]
      constructor
      · intro z; omega
      · intro z; omega
    · constructor
      · intro z
        rw [cz_og1_nf z.1, cz_og1_f z.1]
        exact ⟨by omega, z.2⟩
      · intro z
        have h : i < m := by omega
        rw [cz_og1_nf h, cz_og1_f h] at z
        exact ⟨h, z.2⟩
  refine ⟨?_, ?_, ?_⟩
  · intro c hc
    by_cases e : c = m
    · subst e; rw [pk_us, cz_og1_t]
    · rw [pk_un e, cz_og1_f (show c < m by omega)]; exact y1 c (by omega)
  · intro c hc i
    by_cases e : c = m
    · rw [e, pk_uLs, cz_S1_t, y3 r hr i]
      exact key (K r) i (g5 r hr r hr)
    · rw [pk_uLn e, cz_S1_f e, y2 c (by omega) i]
      exact key (S c) i (g3 c (by omega) r hr)
  · intro r' hr' i
    rw [y3 r' hr' i]
    exact key (K r') i (g5 r' hr' r hr)
theorem cz_X1_x {xb xc xm : Nat → Int32} (hm : m < 48) (hog : ∀ c, c < m → og c < 3) (hr : r < 3) (X : cz_X1 m s a og xb xc xm) :
    cz_X1 (m + 1) (upd s m sv) (upd a m av) (cz_og1 og r m) (upd xb r (nI (cz_cn og r m + 1))) (upd xc (49 * r + (cz_cn og r m + 1)) (nI m))
      (upd xm (49 * r + (cz_cn og r m + 1)) (xm (49 * r + cz_cn og r m) + (if sv = 3 then av else 0))) := by
  obtain ⟨x1, x2, x3⟩ := X
  have hB := cz_cn_le og r m
  refine ⟨?_, ?_, ?_⟩
  · intro o ho
    by_cases e : o = r
    · subst e; rw [pk_us, cz_og1_ct]
    · rw [pk_un e, cz_og1_cf e]; exact x1 o ho
  · intro c hc
    by_cases e : c = m
    · rw [e, cz_og1_t, cz_og1_nu, pk_us]
    · have hc' : c < m := by omega
      rw [cz_og1_f hc', cz_og1_nf hc']
      have h1 := cz_nu_le (og := og) hc'
      have h2 := cz_cn_le og (og c) m
      have h3 := hog c hc'
      by_cases e2 : og c = r
      · rw [e2] at h1 ⊢
        rw [pk_un (by omega), ← e2]
        exact x2 c hc'
      · rw [pk_un (by omega)]
        exact x2 c hc'
  · intro o ho n hn
    have hw : ∀ c, c < m → cz_w (upd s m sv) (upd a m av) c = cz_w s a c := by
      intro c hc
      unfold cz_w
      rw [cz_upd_l hc, cz_upd_l hc]
    have hT : ∀ n, cz_T (cz_og1 og r m) (cz_w (upd s m sv) (upd a m av)) o n m = cz_T og (cz_w s a) o n m := fun n => cz_T_cg o n m (fun _ h => cz_og1_f h) hw
    by_cases e : o = r
    · subst e
      rw [cz_og1_ct] at hn
      by_cases e2 : n = cz_cn og o m + 1
      · subst e2
        rw [pk_us, cz_T_t cz_og1_t (by rw [cz_og1_nu]; exact Nat.le_refl _), hT, x3 o ho _ (Nat.le_refl _), cz_T_big (n := cz_cn og o m) (n' := cz_cn og o m + 1) m (Nat.le_refl _) (by omega)]
        unfold cz_w
        rw [pk_us, pk_us]
      · rw [pk_un (by omega), cz_T_f (fun z => ?_), hT]
        · exact x3 o ho n (by omega)
        · have := z.2
          rw [cz_og1_nu] at this
          omega
    · rw [cz_og1_cf e] at hn
      have h2 := cz_cn_le og o m
      rw [pk_un (by omega), cz_T_f (fun z => e (by rw [← z.1, cz_og1_t])), hT]
      exact x3 o ho n hn
end
/-! joining -/
def cz_mK (K : Nat → Nat → Nat) (f t : Nat) : Nat → Nat → Nat := fun r' => if r' = t then cz_kj (K t) (K f) else K r'
def cz_mC (C : Nat → Nat → Nat) (f t : Nat) : Nat → Nat → Nat := fun r' o => if r' = t then max (C t o) (C f o) else C r' o
def cz_mA (LA : Nat → Nat → Nat → Nat) (K : Nat → Nat → Nat) (f t : Nat) : Nat → Nat → Nat → Nat := fun r' e o => if r' = t then cz_sv (LA t e o) (K t o) (LA f e o) (K f o) else LA r' e o
def cz_mS (L : Nat → Nat → Nat) (K : Nat → Nat → Nat) (f t : Nat) : Nat → Nat → Nat := fun r' o => if r' = t then cz_sv (L t o) (K t o) (L f o) (K f o) else L r' o
section
variable {m : Nat} {s a : Nat → Int32} {og : Nat → Nat} {S K C L : Nat → Nat → Nat} {LA : Nat → Nat → Nat → Nat} {f t r' e o : Nat}
theorem cz_mK_t : cz_mK K f t t = cz_kj (K t) (K f) := if_pos rfl
theorem cz_mK_f (h : r' ≠ t) : cz_mK K f t r' = K r' := if_neg h
theorem cz_mC_t : cz_mC C f t t o = max (C t o) (C f o) := if_pos rfl
theorem cz_mC_f (h : r' ≠ t) : cz_mC C f t r' o = C r' o := if_neg h
theorem cz_mA_t : cz_mA LA K f t t e o = cz_sv (LA t e o) (K t o) (LA f e o) (K f o) := if_pos rfl
theorem cz_mA_f (h : r' ≠ t) : cz_mA LA K f t r' e o = LA r' e o := if_neg h
theorem cz_mS_t : cz_mS L K f t t o = cz_sv (L t o) (K t o) (L f o) (K f o) := if_pos rfl
theorem cz_mS_f (h : r' ≠ t) : cz_mS L K f t r' o = L r' o := if_neg h
theorem cz_G_j (G : cz_G m s a og S K C LA L) (hf : f < 3) (ht : t < 3) :
    cz_G m s a og S (cz_mK K f t) (cz_mC C f t) (cz_mA LA K f t) (cz_mS L K f t) := by
  obtain ⟨g1, g2, g3, g4, g5, g6, g7, g8, g9, g10⟩ := G
  refine ⟨g1, g2, g3, g4, ?_, ?_, g7, ?_, ?_, ?_⟩
  · intro r' hr' o ho
    by_cases q : r' = t
    · subst q
      rw [cz_mK_t, cz_kj_d]
      have h1 := g5 r' hr' o ho
      have h2 := g5 f hf o ho
      omega
    · rw [cz_mK_f q]
      exact g5 r' hr' o ho
  · intro r' hr'
    by_cases q : r' = t
    · subst q
      rw [cz_mK_t]
      exact cz_clj (g6 r' hr') (g6 f hf)
    · rw [cz_mK_f q]
      exact g6 r' hr'
  · intro r' hr' o ho
    by_cases q : r' = t
    · subst q
      rw [cz_mK_t, cz_mC_t]
      exact cz_Cj (g8 r' hr' o ho) (g8 f hf o ho)
    · rw [cz_mK_f q, cz_mC_f q]
      exact g8 r' hr' o ho
  · intro r' hr' e he o ho
    by_cases q : r' = t
    · subst q
      rw [cz_mK_t, cz_mA_t]
      exact cz_Lj ho (g6 r' hr') (g6 f hf) (g9 r' hr' e he o ho) (g9 f hf e he o ho)
    · rw [cz_mK_f q, cz_mA_f q]
      exact g9 r' hr' e he o ho
  · intro r' hr' o ho
    by_cases q : r' = t
    · subst q
      rw [cz_mK_t, cz_mS_t]
      exact cz_Lj ho (g6 r' hr') (g6 f hf) (g10 r' hr' o ho) (g10 f hf o ho)
    · rw [cz_mK_f q, cz_mS_f q]
      exact g10 r' hr' o ho
theorem cz_Y_j {yo : Nat → Int32} {yp yk : Nat → Int64} (hf : f < 3) (ht : t < 3) (Y : cz_Y m og S K yo yp yk) :
    cz_Y m og S (cz_mK K f t) yo yp (vp_updL yk t ((yk t) ||| (yk f))) := by
  obtain ⟨y1, y2, y3⟩ := Y
  refine ⟨y1, y2, ?_⟩
  intro r' hr' i
  by_cases q : r' = t
  · subst q
    rw [cz_mK_t, pk_uLs, cz_bor, y3 r' hr' i, y3 f hf i, cz_kj_d]
    omega
  · rw [cz_mK_f q, pk_uLn q]
    exact y3 r' hr' i
end
end
section
/-! ===== the relation; the methods that change ===== -/
def cz_R (m : Nat) (s a : Nat → Int32) (og : Nat → Nat) (S K C : Nat → Nat → Nat) (LA : Nat → Nat → Nat → Nat) (L : Nat → Nat → Nat)
    (xs xb xc xm xk xv xa xl yo : Nat → Int32) (yp yk : Nat → Int64) : Prop :=
  cz_G m s a og S K C LA L ∧ (∀ r, r < 3 → K r r = cz_cn og r m) ∧ cz_X1 m s a og xb xc xm ∧ cz_d3 m xs S ∧ cz_d3 3 xk K ∧ cz_d3 3 xv C ∧ cz_dA xa LA ∧ cz_d3 3 xl L ∧
  cz_Y m og S K yo yp yk
/-- the relation at the head of a turn whose first cell is k: (u : SX) is (f_made, a_sort, a_argument, a_seen, a_madeBy, a_changeOf, a_amountUpTo, a_knows, a_covered, a_lastAdd, a_lastAssign), (v : SY) is (f_made, a_sort, a_what, a_origin, a_past, a_knows) -/
def i_Rel (k : Nat) (u : SX) (v : SY) : Prop :=
  ∃ (m : Nat) (s a : Nat → Int32) (og : Nat → Nat) (S K C : Nat → Nat → Nat) (LA : Nat → Nat → Nat → Nat) (L : Nat → Nat → Nat)
    (xs xb xc xm xk xv xa xl yo : Nat → Int32) (yp yk : Nat → Int64),
    cz_R m s a og S K C LA L xs xb xc xm xk xv xa xl yo yp yk ∧ u = (nI m, s, a, xs, xb, xc, xm, xk, xv, xa, xl) ∧ v = (nI m, s, a, yo, yp, yk)
theorem cz_in_R {k m : Nat} {s a : Nat → Int32} {og : Nat → Nat} {S K C : Nat → Nat → Nat} {LA : Nat → Nat → Nat → Nat} {L : Nat → Nat → Nat}
    {xs xb xc xm xk xv xa xl yo : Nat → Int32} {yp yk : Nat → Int64} (h : cz_R m s a og S K C LA L xs xb xc xm xk xv xa xl yo yp yk) :
    i_Rel k (nI m, s, a, xs, xb, xc, xm, xk, xv, xa, xl) (nI m, s, a, yo, yp, yk) :=
  ⟨m, s, a, og, S, K, C, LA, L, xs, xb, xc, xm, xk, xv, xa, xl, yo, yp, yk, h, rfl, rfl⟩
theorem cz_el {P : SX → SY → Prop} {k : Nat} {u : SX} {v : SY}
    (h : ∀ (m : Nat) (s a : Nat → Int32) (og : Nat → Nat) (S K C : Nat → Nat → Nat) (LA : Nat → Nat → Nat → Nat) (L : Nat → Nat → Nat)
      (xs xb xc xm xk xv xa xl yo : Nat → Int32) (yp yk : Nat → Int64), cz_R m s a og S K C LA L xs xb xc xm xk xv xa xl yo yp yk →
      P (nI m, s, a, xs, xb, xc, xm, xk, xv, xa, xl) (nI m, s, a, yo, yp, yk)) (I : i_Rel k u v) : P u v := by
  obtain ⟨m, s, a, og, S, K, C, LA, L, xs, xb, xc, xm, xk, xv, xa, xl, yo, yp, yk, hR, eu, ev⟩ := I
  rw [eu, ev]
  exact h m s a og S K C LA L xs xb xc xm xk xv xa xl yo yp yk hR
theorem i_up {k : Nat} {u : SX} {v : SY} (h : i_Rel k u v) : i_Rel (k + 3) u v := h
theorem cz_R0 : cz_R 0 (fun _ => 0) (fun _ => 0) (fun _ => 0) (fun _ _ => 0) (fun _ _ => 0) (fun _ _ => 0) (fun _ _ _ => 0) (fun _ _ => 0)
    (fun _ => 0) (fun _ => 0) (fun _ => 0) (fun _ => 0) (fun _ => 0) (fun _ => 0) (fun _ => 0) (fun _ => 0) (fun _ => 0) (fun _ => 0) (fun _ => 0) := by
  have n0 : ∀ c : Nat, ¬ c < 0 := fun c => by omega
  refine ⟨⟨by omega, fun c h => absurd h (n0 c), fun c h => absurd h (n0 c), fun c h => absurd h (n0 c), fun _ _ _ _ => Nat.zero_le _, fun _ _ d h => absurd h (n0 d), fun c h => absurd h (n0 c), ?_, ?_, ?_⟩,
    fun _ _ => rfl, ⟨fun _ _ => rfl, fun c h => absurd h (n0 c), fun _ _ _ _ => rfl⟩, fun _ _ _ _ => rfl, fun _ _ _ _ => rfl, fun _ _ _ _ => rfl, fun _ _ _ _ _ _ => rfl, fun _ _ _ _ => rfl,
    ⟨fun c h => absurd h (n0 c), fun c h => absurd h (n0 c), fun r _ i => ⟨fun z => absurd z (cz_b0 i), fun z => absurd z.1 (n0 i)⟩⟩⟩
  · intro r _ o _ j
    exact ⟨fun _ => Nat.zero_le _, fun _ d h => absurd h (n0 d)⟩
  · intro r _ e _ o _
    exact ⟨fun z => absurd rfl z, fun c h => absurd h (n0 c)⟩
  · intro r _ o _
    exact ⟨fun z => absurd rfl z, fun c h => absurd h (n0 c)⟩
theorem i_vc0 : wpX_init (fun u => wpY_init (fun v => i_Rel 0 u v)) := cz_in_R (k := 0) cz_R0
section
variable {m : Nat} {s a : Nat → Int32} {og : Nat → Nat} {S K C : Nat → Nat → Nat} {LA : Nat → Nat → Nat → Nat} {L : Nat → Nat → Nat}
theorem cz_bK (G : cz_G m s a og S K C LA L) {r o : Nat} (hr : r < 3) (ho : o < 3) : K r o ≤ 48 := by
  have h1 := G.2.2.2.2.1 r hr o ho
  have h2 := cz_cn_le og o m
  have h3 := G.1
  omega
theorem cz_bS (G : cz_G m s a og S K C LA L) {c o : Nat} (hc : c < m) (ho : o < 3) : S c o ≤ 48 := by
  have h1 := G.2.2.1 c hc o ho
  have h2 := cz_cn_le og o m
  have h3 := G.1
  omega
theorem cz_bC (G : cz_G m s a og S K C LA L) {r o : Nat} (hr : r < 3) (ho : o < 3) : C r o ≤ 48 := by
  have h1 := cz_Cv_le (G.2.2.2.2.2.1 r hr) ho (G.2.2.2.2.2.2.2.1 r hr o ho)
  have h2 := cz_bK G hr ho
  omega
theorem cz_bA (G : cz_G m s a og S K C LA L) {r e o : Nat} (hr : r < 3) (he : e < 8) (ho : o < 3) : LA r e o ≤ 48 := by
  have h1 := cz_L_le (G.2.2.2.2.2.2.2.2.1 r hr e he o ho)
  have h2 := cz_bK G hr ho
  omega
theorem cz_bL (G : cz_G m s a og S K C LA L) {r o : Nat} (hr : r < 3) (ho : o < 3) : L r o ≤ 48 := by
  have h1 := cz_L_le (G.2.2.2.2.2.2.2.2.2 r hr o ho)
  have h2 := cz_bK G hr ho
  omega
end
/-- one change more, made at x -/
theorem cz_make {P : Int32 → SX → Prop} {k : Nat} {u : SX} {v : SY} (I : i_Rel k u v) (x sv av : Int32) (harg : sv = 0 ∨ sv = 1 → ∃ e, e < 8 ∧ av = nI e)
    (hP : ∀ (r : Int32) (u' : SX) (v' : SY), i_Rel (k + 3) u' v' → (∀ Q : Int32 → SY → Prop, Q r v' → wpY_make Q v x sv av) → P r u') : wpX_make P u x sv av := by
  revert hP
  refine cz_el (P := fun u v => (∀ (r : Int32) (u' : SX) (v' : SY), i_Rel (k + 3) u' v' → (∀ Q : Int32 → SY → Prop, Q r v' → wpY_make Q v x sv av) → P r u') → wpX_make P u x sv av) ?_ I
  intro m s a og S K C LA L xs xb xc xm xk xv xa xl yo yp yk hR hP
  obtain ⟨G, hd, X, ds, dk, dv, da, dl, Y⟩ := hR
  by_cases hbad : (x < 0 ∨ (¬ x < 0 ∧ 2 < x)) ∨ m = 48
  · refine cz_wmake0 hbad (hP _ _ _ (cz_in_R ⟨G, hd, X, ds, dk, dv, da, dl, Y⟩) (fun Q hQ => cz_wymake0 hbad hQ))
  · rcases cz_rep x with ⟨r, hr, ex⟩ | hx
    · have hm : m < 48 := by
        have := G.1
        have : ¬ m = 48 := fun z => hbad (Or.inr z)
        omega
      have hB := cz_cn_le og r m
      have G1 := cz_G_x (sv := sv) (av := av) G hm hr (hd r hr) harg
      have Y1 := cz_Y_x (r := r) G hr Y
      have X1 := cz_X1_x (sv := sv) (av := av) hm G.2.1 hr X
      refine cz_wmake (S := S) (B := cz_cn og r m) ex hm hr (by omega) (X.1 r hr) dk ds (fun xs' ds' => ?_)
      have hx : cz_nu (cz_og1 og r m) m = K r (cz_og1 og r m m) + 1 := by rw [cz_og1_nu, cz_og1_t, hd r hr]
      have e1 : nI r = nI (cz_og1 og r m m) := by rw [cz_og1_t]
      have e2 : nI (cz_cn og r m + 1) = nI (cz_nu (cz_og1 og r m) m) := by rw [cz_og1_nu]
      have hs : ∀ o, o < 3 → cz_S1 S K r m m o ≤ K r o := fun o _ => by rw [cz_S1_t]; exact Nat.le_refl _
      have W := cz_wapply (x := m) (og := cz_og1 og r m) (xb := upd xb r (nI (cz_cn og r m + 1))) (xc := upd xc (49 * r + (cz_cn og r m + 1)) (nI m)) (fm := nI (m + 1))
        (xm := upd xm (49 * r + (cz_cn og r m + 1)) (xm (49 * r + cz_cn og r m) + (if sv = 3 then av else 0)))
        (post := fun u => match u with | (f_made_21, a_sort_22, a_argument_23, a_seen_24, a_madeBy_25, a_changeOf_26, a_amountUpTo_27, a_knows_28, a_covered_29, a_lastAdd_30, a_lastAssign_31) => (P f_made_21 (f_made_21, a_sort_22, a_argument_23, a_seen_24, a_madeBy_25, a_changeOf_26, a_amountUpTo_27, a_knows_28, a_covered_29, a_lastAdd_30, a_lastAssign_31)))
        G1.1 (show m < m + 1 by omega) hr (by rw [cz_og1_t]; exact hr) ds' (fun o ho => cz_bS G1 (show m < m + 1 by omega) ho) (fun e he o ho => cz_bA G1 hr he ho) (fun o ho => cz_bL G1 hr ho) (fun o ho => cz_bC G1 hr ho)
        (G1.2.2.2.2.2.2.1 m (by omega)) dk dv da dl (fun xk' xv' xa' xl' dk' dv' da' dl' => ?_)
      · rw [← e1, ← e2] at W
        exact W
      · refine hP (nI (m + 1)) _ _ (cz_in_R (k := k + 3) ⟨cz_G_1 G1 (by omega) hr hx hs, ?_, X1, ds', dk', dv', da', dl', cz_Y_1 G1.1 (by omega) hr hx Y1⟩) (fun Q hQ => cz_wymake ex hm hr hQ)
        intro r' hr'
        by_cases q : r' = r
        · subst q
          have t : cz_k1 (cz_og1 og r' m) (K r') m r' = cz_nu (cz_og1 og r' m) m := if_pos cz_og1_t.symm
          rw [cz_uK_t, t, cz_og1_nu, cz_og1_ct]
        · rw [cz_uK_f q, cz_og1_cf q]
          exact hd r' hr'
    · exact absurd (Or.inl hx) hbad
theorem cz_a7 (y : Int32) : ∃ e : Nat, e < 8 ∧ y &&& 7 = nI e := pk_andE y (m := 7) 3 (by decide)
theorem i_vc_add {k : Nat} {u : SX} {v : SY} (I : i_Rel k u v) (hk : k + 3 ≤ 1536) (v1 : Int32) (v2 : Int32) : wpX_add (fun r u' => wpY_add (fun r' v' => r' = r ∧ i_Rel (k + 3) u' v') v v1 v2) u v1 v2 := by
  unfold wpX_add wpY_add
  exact cz_make I v1 0 (v2 &&& 7) (fun _ => cz_a7 v2) (fun r u' v' R W => W _ ⟨rfl, R⟩)
theorem i_vc_remove {k : Nat} {u : SX} {v : SY} (I : i_Rel k u v) (hk : k + 3 ≤ 1536) (v1 : Int32) (v2 : Int32) : wpX_remove (fun r u' => wpY_remove (fun r' v' => r' = r ∧ i_Rel (k + 3) u' v') v v1 v2) u v1 v2 := by
  unfold wpX_remove wpY_remove
  exact cz_make I v1 1 (v2 &&& 7) (fun _ => cz_a7 v2) (fun r u' v' R W => W _ ⟨rfl, R⟩)
theorem i_vc_assign {k : Nat} {u : SX} {v : SY} (I : i_Rel k u v) (hk : k + 3 ≤ 1536) (v1 : Int32) (v2 : Int32) : wpX_assign (fun r u' => wpY_assign (fun r' v' => r' = r ∧ i_Rel (k + 3) u' v') v v1 v2) u v1 v2 := by
  unfold wpX_assign wpY_assign
  exact cz_make I v1 2 v2 (fun z => absurd z (by decide)) (fun r u' v' R W => W _ ⟨rfl, R⟩)
theorem i_vc_count {k : Nat} {u : SX} {v : SY} (I : i_Rel k u v) (hk : k + 3 ≤ 1536) (v1 : Int32) (v2 : Int32) : wpX_count (fun r u' => wpY_count (fun r' v' => r' = r ∧ i_Rel (k + 3) u' v') v v1 v2) u v1 v2 := by
  unfold wpX_count wpY_count
  exact cz_make I v1 3 v2 (fun z => absurd z (by decide)) (fun r u' v' R W => W _ ⟨rfl, R⟩)
theorem i_vc_reset {k : Nat} {u : SX} {v : SY} (I : i_Rel k u v) (hk : k + 3 ≤ 1536) (v1 : Int32) : wpX_reset (fun r u' => wpY_reset (fun r' v' => r' = r ∧ i_Rel (k + 3) u' v') v v1) u v1 := by
  unfold wpX_reset wpY_reset
  exact cz_make I v1 4 0 (fun z => absurd z (by decide)) (fun r u' v' R W => W _ ⟨rfl, R⟩)
end
section
/-! ===== deliver and sync ===== -/
section
variable {fm : Int32} {s a xs xb xc xm xk xv xa xl : Nat → Int32} {post : Int32 → SX → Prop} {m f t c : Nat} {S K : Nat → Nat → Nat} {fI nu : Int32}
theorem cz_wdel_l (hm : m ≤ 48) (hc : c < m) (ht : t < 3) (ds : cz_d3 m xs S) (dk : cz_d3 3 xk K) (bS : ∀ o, o < 3 → S c o ≤ 48) (bK : ∀ o, o < 3 → K t o ≤ 48)
    (h1 : (∀ o, o < 3 → S c o ≤ K t o) →
      wpX_apply (fun u => match u with | (f_made_13, a_sort_14, a_argument_15, a_seen_16, a_madeBy_17, a_changeOf_18, a_amountUpTo_19, a_knows_20, a_covered_21, a_lastAdd_22, a_lastAssign_23) => (post 0 (f_made_13, a_sort_14, a_argument_15, a_seen_16, a_madeBy_17, a_changeOf_18, a_amountUpTo_19, a_knows_20, a_covered_21, a_lastAdd_22, a_lastAssign_23)))
        (fm, s, a, xs, xb, xc, xm, xk, xv, xa, xl) (nI t) (nI c) fI nu)
    (h2 : ¬ (∀ o, o < 3 → S c o ≤ K t o) → post (-2) (fm, s, a, xs, xb, xc, xm, xk, xv, xa, xl)) :
    ∀ n i : Nat, i ≤ 3 → 3 < n + i → (∀ o, o < i → S c o ≤ K t o) → wX_deliver_57 post fI (nI t) nu (nI c) fm s a xs xb xc xm xk xv xa xl n (nI i) := by
  intro n
  induction n with
  | zero => intro i i1 i2; omega
  | succ n ih =>
    intro i i1 i2 i3
    by_cases e : i = 3
    · subst e
      exact br_t (cz_le3 (by omega) (by omega)) (h1 i3)
    · have hi : i < 3 := by omega
      have b1 := bS i hi
      have b2 := bK i hi
      refine br_f (cz_n3 hi) ?_
      rw [cz_i3, cz_i3, nI_clamp (show 3 * c + i < 2 ^ 31 by omega), nI_clamp (show 3 * t + i < 2 ^ 31 by omega), ds c hc i hi, dk t ht i hi]
      refine ⟨vp_in_nI (by omega) (by omega), vp_in_nI (by omega) (by omega), ?_⟩
      refine pk_le (S c i) (K t i) (fun hle => ?_) (fun hgt => h2 (fun z => ?_)) rfl rfl (by omega) (by omega)
      · intro z ez
        rw [nI_1] at ez
        subst ez
        refine ih (i + 1) (by omega) (by omega) (fun o ho => ?_)
        by_cases g : o = i
        · subst g; exact hle
        · exact i3 o (by omega)
      · have := z i hi
        omega
end
/-- the next change, and what is known: the reference's test of pasts is the test of vectors -/
theorem cz_subv {m : Nat} {og : Nat → Nat} {S : Nat → Nat → Nat} {k : Nat → Nat} {p w : Int64} {c : Nat} (h3 : ∀ c, c < m → og c < 3) (hS : ∀ o, o < 3 → S c o ≤ cz_cn og o m)
    (hp : ∀ i, cz_bt p i ↔ i < m ∧ cz_nu og i ≤ S c (og i)) (hw : ∀ i, cz_bt w i ↔ i < m ∧ cz_nu og i ≤ k (og i)) :
    (∀ i, cz_bt p i → cz_bt w i) ↔ (∀ o, o < 3 → S c o ≤ k o) := by
  constructor
  · intro h o ho
    by_cases e : S c o = 0
    · omega
    · obtain ⟨i, hi, eo, en⟩ := cz_nu_ex (og := og) (o := o) m (S c o) (by omega) (hS o ho)
      have q := (hw i).mp (h i ((hp i).mpr ⟨hi, by rw [eo, en]; exact Nat.le_refl _⟩))
      rw [eo, en] at q
      exact q.2
  · intro h i z
    have z := (hp i).mp z
    refine (hw i).mpr ⟨z.1, ?_⟩
    have := h (og i) (h3 i z.1)
    omega
theorem i_vc_deliver {k : Nat} {u : SX} {v : SY} (I : i_Rel k u v) (hk : k + 3 ≤ 1536) (v1 : Int32) (v2 : Int32) : wpX_deliver (fun r u' => wpY_deliver (fun r' v' => r' = r ∧ i_Rel (k + 3) u' v') v v1 v2) u v1 v2 := by
  refine cz_el (P := fun u v => wpX_deliver (fun r u' => wpY_deliver (fun r' v' => r' = r ∧ i_Rel (k + 3) u' v') v v1 v2) u v1 v2) ?_ I
  intro m s a og S K C LA L xs xb xc xm xk xv xa xl yo yp yk hR
  have hR' := hR
  obtain ⟨G, hd, X, ds, dk, dv, da, dl, Y⟩ := hR
  have R0 : i_Rel (k + 3) (nI m, s, a, xs, xb, xc, xm, xk, xv, xa, xl) (nI m, s, a, yo, yp, yk) := cz_in_R hR'
  unfold wpX_deliver
  dsimp only
  rcases cz_rep v1 with ⟨f, hf, e1⟩ | hx
  · rcases cz_rep v2 with ⟨t, ht, e2⟩ | hx2
    · refine cz_rt f hf e1 (br_f cz_10 (cz_rt t ht e2 (br_f cz_10 ?_)))
      have bK := cz_bK G ht hf
      have bB := cz_cn_le og f m
      have hm := G.1
      have c1 := G.2.2.2.2.1 t ht f hf
      have yo1 : ∀ c, c < m → (yo c = nI f ↔ og c = f) := by
        intro c hc
        have := G.2.1 c hc
        rw [Y.1 c hc, nI_eq (by omega) (by omega)]
      have yk1 : ∀ c, c < m → og c = f → (cz_bt (yk t) c ↔ cz_nu og c ≤ K t f) := by
        intro c hc e
        rw [Y.2.2 t ht c, e]
        exact ⟨fun z => z.2, fun z => ⟨hc, z⟩⟩
      rw [e1, e2, cz_i3, nI_clamp (show 3 * t + f < 2 ^ 31 by omega), dk t ht f hf, nI_1, nI_clamp (show f < 2 ^ 31 by omega), X.1 f hf]
      refine ⟨vp_in_nI (by omega) (by omega), ?_⟩
      intro y ey
      subst ey
      refine ⟨vp_in_nI hf (by omega), ?_⟩
      refine pk_le (K t f + 1) (cz_cn og f m) (fun hle => ?_) (fun hgt => ?_) rfl rfl (by omega) (by omega)
      · obtain ⟨c, hc, eo, en⟩ := cz_nu_ex (og := og) (o := f) m (K t f + 1) (by omega) hle
        have ec : xc (49 * f + (K t f + 1)) = nI c := by
          have := X.2.1 c hc
          rw [eo, en] at this
          exact this
        rw [cz_i49, nI_clamp (show 49 * f + (K t f + 1) < 2 ^ 31 by omega), ec]
        refine ⟨vp_in_nI (by omega) (by omega), ?_⟩
        intro z ez
        subst ez
        have only : ∀ c', c' < m → yo c' = nI f → ¬ cz_bt (yk t) c' → (∀ c'', c'' < c' → yo c'' = nI f → cz_bt (yk t) c'') → c' = c := by
          intro c' hc' h1 h2 h3
          have o' := (yo1 c' hc').mp h1
          rw [yk1 c' hc' o'] at h2
          rcases Nat.lt_trichotomy c' c with h | h | h
          · have n1 := cz_nu_le (og := og) h
            have n2 := cz_nu_d og c
            rw [o'] at n1
            rw [eo] at n2
            omega
          · exact h
          · have q := h3 c h ((yo1 c hc).mpr eo)
            rw [yk1 c hc eo] at q
            omega
        have sub := cz_subv (c := c) (k := K t) G.2.1 (G.2.2.1 c hc) (Y.2.1 c hc) (Y.2.2 t ht)
        refine ⟨4, cz_wdel_l hm hc ht ds dk (fun o ho => cz_bS G hc ho) (fun o ho => cz_bK G ht ho) (fun hs => ?_) (fun hs => ?_) 4 0 (by omega) (by omega) (fun o ho => absurd ho (by omega))⟩
        · have hn : cz_nu og c = K t (og c) + 1 := by rw [eo, en]
          have W := cz_wapply (x := c) (og := og) (xb := xb) (xc := xc) (xm := xm) (fm := nI m)
            (post := fun u => match u with | (f_made_13, a_sort_14, a_argument_15, a_seen_16, a_madeBy_17, a_changeOf_18, a_amountUpTo_19, a_knows_20, a_covered_21, a_lastAdd_22, a_lastAssign_23) => wpY_deliver (fun r' v' => r' = 0 ∧ i_Rel (k + 3) (f_made_13, a_sort_14, a_argument_15, a_seen_16, a_madeBy_17, a_changeOf_18, a_amountUpTo_19, a_knows_20, a_covered_21, a_lastAdd_22, a_lastAssign_23) v') (nI m, s, a, yo, yp, yk) (nI f) (nI t))
            hm hc ht (G.2.1 c hc) ds (fun o ho => cz_bS G hc ho) (fun e he o ho => cz_bA G ht he ho) (fun o ho => cz_bL G ht ho) (fun o ho => cz_bC G ht ho)
            (G.2.2.2.2.2.2.1 c hc) dk dv da dl (fun xk' xv' xa' xl' dk' dv' da' dl' => ?_)
          · rw [eo, en] at W
            exact W
          · refine cz_wydel rfl rfl hm hf ht (fun c' hc' h1 h2 h3 _ => ?_) (fun c' hc' h1 h2 h3 h4 => ?_) (fun z => ?_)
            · have ecc := only c' hc' h1 h2 h3
              subst ecc
              refine ⟨rfl, cz_in_R ⟨cz_G_1 G hc ht hn hs, ?_, X, ds, dk', dv', da', dl', cz_Y_1 hm hc ht hn Y⟩⟩
              intro r hr
              by_cases q : r = t ∧ r = og c'
              · exfalso
                have h1 := hd r hr
                have h2 := cz_nu_le (og := og) hc
                rw [← q.1, ← q.2] at hn
                rw [← q.2] at h2
                omega
              · rw [cz_uK_n q]
                exact hd r hr
            · have ecc := only c' hc' h1 h2 h3
              subst ecc
              exact absurd (sub.mpr hs) h4
            · have q := z c hc ((yo1 c hc).mpr eo)
              rw [yk1 c hc eo] at q
              omega
        · refine cz_wydel rfl rfl hm hf ht (fun c' hc' h1 h2 h3 h4 => ?_) (fun c' hc' h1 h2 h3 h4 => ⟨rfl, R0⟩) (fun z => ?_)
          · have ecc := only c' hc' h1 h2 h3
            subst ecc
            exact absurd (sub.mp h4) hs
          · have q := z c hc ((yo1 c hc).mpr eo)
            rw [yk1 c hc eo] at q
            omega
      · have all : ∀ c, c < m → yo c = nI f → cz_bt (yk t) c := by
          intro c hc h
          have o' := (yo1 c hc).mp h
          rw [yk1 c hc o']
          have n1 := cz_nu_le (og := og) hc
          rw [o'] at n1
          omega
        exact cz_wydel rfl rfl hm hf ht (fun c' hc' h1 h2 h3 h4 => absurd (all c' hc' h1) h2) (fun c' hc' h1 h2 h3 h4 => absurd (all c' hc' h1) h2) (fun _ => ⟨rfl, R0⟩)
    · refine cz_rt f hf e1 (br_f cz_10 (cz_rf hx2 (br_t rfl ?_)))
      unfold wpY_deliver
      dsimp only
      exact cz_bf f hf e1 (br_t rfl (cz_bt1 hx2 (br_f cz_10 ⟨rfl, R0⟩)))
  · refine cz_rf hx (br_t rfl ?_)
    unfold wpY_deliver
    dsimp only
    exact cz_bt1 hx (br_f cz_10 ⟨rfl, R0⟩)
theorem i_vc_sync {k : Nat} {u : SX} {v : SY} (I : i_Rel k u v) (hk : k + 3 ≤ 1536) (v1 : Int32) (v2 : Int32) : wpX_sync (fun r u' => wpY_sync (fun r' v' => r' = r ∧ i_Rel (k + 3) u' v') v v1 v2) u v1 v2 := by
  refine cz_el (P := fun u v => wpX_sync (fun r u' => wpY_sync (fun r' v' => r' = r ∧ i_Rel (k + 3) u' v') v v1 v2) u v1 v2) ?_ I
  intro m s a og S K C LA L xs xb xc xm xk xv xa xl yo yp yk hR
  have hR' := hR
  obtain ⟨G, hd, X, ds, dk, dv, da, dl, Y⟩ := hR
  have R0 : i_Rel (k + 3) (nI m, s, a, xs, xb, xc, xm, xk, xv, xa, xl) (nI m, s, a, yo, yp, yk) := cz_in_R hR'
  unfold wpX_sync
  dsimp only
  rcases cz_rep v1 with ⟨f, hf, e1⟩ | hx
  · rcases cz_rep v2 with ⟨t, ht, e2⟩ | hx2
    · refine cz_rt f hf e1 (br_f cz_10 (cz_rt t ht e2 (br_f cz_10 ?_)))
      rw [e1, e2]
      have WY : ∀ Q : Int32 → SY → Prop, Q 0 (nI m, s, a, yo, yp, vp_updL yk t ((yk t) ||| (yk f))) → wpY_sync Q (nI m, s, a, yo, yp, yk) (nI f) (nI t) := by
        intro Q hQ
        unfold wpY_sync
        dsimp only
        refine cz_bf f hf rfl (br_t rfl (cz_bf t ht rfl (br_t rfl ?_)))
        rw [nI_clamp (show t < 2 ^ 31 by omega), nI_clamp (show f < 2 ^ 31 by omega)]
        refine ⟨vp_in_nI ht (by omega), vp_in_nI hf (by omega), vp_in_nI ht (by omega), ?_⟩
        intro y ey
        subst ey
        exact hQ
      refine pk_eq f t (fun eq => ?_) (fun hne => ?_) rfl rfl (by omega) (by omega)
      · refine WY _ ⟨rfl, cz_in_R ⟨G, hd, X, ds, dk, dv, da, dl, Y.1, Y.2.1, ?_⟩⟩
        intro r hr i
        by_cases q : r = t
        · subst q eq
          rw [pk_uLs, cz_bor, Y.2.2 f hr i]
          exact or_self_iff
        · rw [pk_uLn q]
          exact Y.2.2 r hr i
      · have bK : ∀ r, r < 3 → ∀ o, o < 3 → K r o ≤ 48 := fun r hr o ho => cz_bK G hr ho
        refine cz_wjA hf ht hne bK (fun r hr e he o ho => cz_bA G hr he ho) dk da (fun xa' da' => ?_)
        refine cz_wjS hf ht hne bK (fun r hr o ho => cz_bL G hr ho) dk dl (fun xl' dl' => ?_)
        refine cz_wjV hf ht hne bK (fun r hr o ho => cz_bC G hr ho) dk dv (fun xk' xv' dk' dv' => ?_)
        refine WY _ ⟨rfl, cz_in_R ⟨cz_G_j G hf ht, ?_, X, ds, cz_d3_c dk' ?_, cz_d3_c dv' ?_, cz_dA_c da' ?_, cz_d3_c dl' ?_, cz_Y_j hf ht Y⟩⟩
        · intro r hr
          by_cases q : r = t
          · subst q
            rw [cz_mK_t, cz_kj_d]
            have h1 := hd r hr
            have h2 := G.2.2.2.2.1 f hf r hr
            omega
          · rw [cz_mK_f q]
            exact hd r hr
        · intro r o hr ho
          by_cases q : r = t
          · subst q
            have e0 : cz_jV K f r 3 r o = max (K r o) (K f o) := if_pos ⟨rfl, ho⟩
            rw [e0, cz_mK_t, cz_kj_d]
          · have e0 : cz_jV K f t 3 r o = K r o := if_neg (fun z => q z.1)
            rw [e0, cz_mK_f q]
        · intro r o hr ho
          by_cases q : r = t
          · subst q
            have e0 : cz_jV C f r 3 r o = max (C r o) (C f o) := if_pos ⟨rfl, ho⟩
            rw [e0, cz_mC_t]
          · have e0 : cz_jV C f t 3 r o = C r o := if_neg (fun z => q z.1)
            rw [e0, cz_mC_f q]
        · intro r e o hr he ho
          by_cases q : r = t
          · subst q
            have e0 : cz_jA LA K f r 8 0 r e o = cz_sv (LA r e o) (K r o) (LA f e o) (K f o) := if_pos ⟨rfl, Or.inl he⟩
            rw [e0, cz_mA_t]
          · have e0 : cz_jA LA K f t 8 0 r e o = LA r e o := if_neg (fun z => q z.1)
            rw [e0, cz_mA_f q]
        · intro r o hr ho
          by_cases q : r = t
          · subst q
            have e0 : cz_jS L K f r 3 r o = cz_sv (L r o) (K r o) (L f o) (K f o) := if_pos ⟨rfl, ho⟩
            rw [e0, cz_mS_t]
          · have e0 : cz_jS L K f t 3 r o = L r o := if_neg (fun z => q z.1)
            rw [e0, cz_mS_f q]
    · refine cz_rt f hf e1 (br_f cz_10 (cz_rf hx2 (br_t rfl ?_)))
      unfold wpY_sync
      dsimp only
      exact cz_bf f hf e1 (br_t rfl (cz_bt1 hx2 (br_f cz_10 ⟨rfl, R0⟩)))
  · refine cz_rf hx (br_t rfl ?_)
    unfold wpY_sync
    dsimp only
    exact cz_bt1 hx (br_f cz_10 ⟨rfl, R0⟩)
end
section
/-! ===== the methods that read ===== -/
section
variable {m : Nat} {s a : Nat → Int32} {og : Nat → Nat} {S K C : Nat → Nat → Nat} {LA : Nat → Nat → Nat → Nat} {L : Nat → Nat → Nat} {yo : Nat → Int32} {yp yk : Nat → Int64} {r c : Nat}
/-- what stands, by numbers -/
theorem cz_st_n (Y : cz_Y m og S K yo yp yk) (hr : r < 3) (hc : c < m) :
    cz_st m s a yp yk r c ↔ cz_nu og c ≤ K r (og c) ∧ cz_al m og S (cz_kl s a c) (K r) (og c) (cz_nu og c) := by
  unfold cz_st cz_al
  rw [Y.2.2 r hr c]
  constructor
  · intro z
    refine ⟨z.1.2, fun d hd hq hn => ?_⟩
    refine Nat.lt_of_not_le (fun w => z.2 d hd ((Y.2.2 r hr d).mpr ⟨hd, hn⟩) ((Y.2.1 d hd c).mpr ⟨hc, w⟩) hq)
  · intro z
    refine ⟨⟨hc, z.1⟩, fun d hd h1 h2 h3 => ?_⟩
    have h1 := (Y.2.2 r hr d).mp h1
    have h2 := (Y.2.1 d hd c).mp h2
    have h4 := z.2 d hd h3 h1.2
    omega
theorem cz_al_c {Q Q' : Nat → Prop} {k : Nat → Nat} {o n : Nat} (h : ∀ d, Q d ↔ Q' d) : cz_al m og S Q k o n ↔ cz_al m og S Q' k o n :=
  ⟨fun z d hd hq hn => z d hd ((h d).mpr hq) hn, fun z d hd hq hn => z d hd ((h d).mp hq) hn⟩
/-- a standing add -/
theorem cz_st_A (Y : cz_Y m og S K yo yp yk) (hr : r < 3) (hc : c < m) {e : Nat} (h0 : s c = 0) (he : a c = nI e) :
    cz_st m s a yp yk r c ↔ cz_nu og c ≤ K r (og c) ∧ cz_al m og S (cz_QA s a e) (K r) (og c) (cz_nu og c) := by
  rw [cz_st_n Y hr hc, cz_al_c (Q' := cz_QA s a e)]
  intro d
  unfold cz_kl cz_QA
  rw [he]
  constructor
  · intro z
    rcases z with z | z | z
    · exact Or.inl z
    · exact Or.inr z.2
    · exact absurd z.1 (cz_ne 0 2 h0 (by decide))
  · intro z
    rcases z with z | z
    · exact Or.inl z
    · exact Or.inr (Or.inl ⟨h0, z⟩)
/-- a standing assign -/
theorem cz_st_S (Y : cz_Y m og S K yo yp yk) (hr : r < 3) (hc : c < m) (h2 : s c = 2) :
    cz_st m s a yp yk r c ↔ cz_nu og c ≤ K r (og c) ∧ cz_al m og S (cz_QS s) (K r) (og c) (cz_nu og c) := by
  rw [cz_st_n Y hr hc, cz_al_c (Q' := cz_QS s)]
  intro d
  unfold cz_kl cz_QS
  constructor
  · intro z
    rcases z with z | z | z
    · exact Or.inl z
    · exact absurd z.1 (cz_ne 2 0 h2 (by decide))
    · exact Or.inr z.2
  · intro z
    rcases z with z | z
    · exact Or.inl z
    · exact Or.inr (Or.inr ⟨h2, z⟩)
/-- a standing count -/
theorem cz_st_C (G : cz_G m s a og S K C LA L) (Y : cz_Y m og S K yo yp yk) (hr : r < 3) (hc : c < m) (h3 : s c = 3) :
    cz_st m s a yp yk r c ↔ C r (og c) < cz_nu og c ∧ cz_nu og c ≤ K r (og c) := by
  rw [cz_st_n Y hr hc, cz_al_c (Q' := cz_QR s)]
  · have q := G.2.2.2.2.2.2.2.1 r hr (og c) (G.2.1 c hc) (cz_cn og (og c) c)
    rw [← cz_nu_d] at q
    have p := cz_nu_d og c
    rw [q]
    omega
  · intro d
    unfold cz_kl cz_QR
    constructor
    · intro z
      rcases z with z | z | z
      · exact z
      · exact absurd z.1 (cz_ne 3 0 h3 (by decide))
      · exact absurd z.1 (cz_ne 3 2 h3 (by decide))
    · intro z
      exact Or.inl z
/-- the standing assigns are those that are kept -/
theorem cz_st_L (G : cz_G m s a og S K C LA L) (Y : cz_Y m og S K yo yp yk) (hr : r < 3) (hc : c < m) :
    (s c = 2 ∧ cz_st m s a yp yk r c) ↔ L r (og c) = cz_nu og c := by
  have ho := G.2.1 c hc
  have H := G.2.2.2.2.2.2.2.2.2 r hr (og c) ho
  constructor
  · intro z
    have q := (cz_st_S Y hr hc z.1).mp z.2
    have l := H.2 c hc rfl z.1 q.1 q.2
    have p := cz_nu_pos og c
    obtain ⟨d, hd, eo, en, h2, hk, ha⟩ := H.1 (by omega)
    have w := q.2 d hd (Or.inr h2) (by rw [en, eo]; exact hk)
    have g4 := G.2.2.2.1 d hd
    rw [eo] at g4
    omega
  · intro z
    have p := cz_nu_pos og c
    obtain ⟨d, hd, eo, en, h2, hk, ha⟩ := H.1 (by omega)
    have e : d = c := cz_nu_inj eo (by omega)
    subst e
    refine ⟨h2, (cz_st_S Y hr hc h2).mpr ⟨by omega, ?_⟩⟩
    rw [← z]
    exact ha
/-- the value of an origin's kept assign -/
def cz_V (a xc : Nat → Int32) (l : Nat → Nat) (o : Nat) : Int32 := a (xc (49 * o + l o)).toNatClampNeg
theorem cz_V_c {xb xc xm : Nat → Int32} (hm : m ≤ 48) (X : cz_X1 m s a og xb xc xm) (hc : c < m) (h : L r (og c) = cz_nu og c) : cz_V a xc (L r) (og c) = a c := by
  unfold cz_V
  rw [h, X.2.1 c hc, nI_clamp (by omega)]
theorem cz_L_c (G : cz_G m s a og S K C LA L) (hr : r < 3) {o : Nat} (ho : o < 3) (h : L r o ≠ 0) : ∃ c, c < m ∧ og c = o ∧ L r (og c) = cz_nu og c := by
  obtain ⟨d, hd, eo, en, h2, hk, ha⟩ := (G.2.2.2.2.2.2.2.2.2 r hr o ho).1 h
  exact ⟨d, hd, eo, by rw [eo, en]⟩
theorem cz_V_x {xb xc xm : Nat → Int32} (G : cz_G m s a og S K C LA L) (X : cz_X1 m s a og xb xc xm) (hr : r < 3) :
    ∀ o, o < 3 → L r o ≠ 0 → ∃ c, c < 48 ∧ xc (49 * o + L r o) = nI c ∧ a c = cz_V a xc (L r) o := by
  intro o ho h
  have hm := G.1
  obtain ⟨c, hc, eo, en⟩ := cz_L_c G hr ho h
  refine ⟨c, by omega, ?_, ?_⟩
  · have := X.2.1 c hc
    rw [← en, eo] at this
    exact this
  · rw [← eo, cz_V_c hm X hc en]
theorem cz_L_cn (G : cz_G m s a og S K C LA L) (hr : r < 3) {o : Nat} (ho : o < 3) : L r o ≤ cz_cn og o m :=
  Nat.le_trans (cz_L_le (G.2.2.2.2.2.2.2.2.2 r hr o ho)) (G.2.2.2.2.1 r hr o ho)
/-- how many are under a value -/
theorem cz_und {xb xc xm : Nat → Int32} (G : cz_G m s a og S K C LA L) (X : cz_X1 m s a og xb xc xm) (Y : cz_Y m og S K yo yp yk) (hr : r < 3) (v f : Int32) (R : Nat → Prop)
    (hR : ∀ o, R o ↔ (cz_V a xc (L r) o < v ∨ (¬ f = 0 ∧ cz_V a xc (L r) o = v))) :
    cz_ct (cz_un m s a yp yk r v f) m = cz_b (L r 0 ≠ 0 ∧ R 0) + cz_b (L r 1 ≠ 0 ∧ R 1) + cz_b (L r 2 ≠ 0 ∧ R 2) := by
  refine cz_ct3' (l := L r) G.2.1 (fun o ho => cz_L_cn G hr ho) (fun c hc => ?_)
  unfold cz_un
  rw [hR]
  constructor
  · intro z
    have q := (cz_st_L G Y hr hc).mp ⟨z.1, z.2.2⟩
    rw [cz_V_c G.1 X hc q]
    exact ⟨q, z.2.1⟩
  · intro z
    have q := (cz_st_L G Y hr hc).mpr z.1
    have w := z.2
    rw [cz_V_c G.1 X hc z.1] at w
    exact ⟨q.1, w, q.2⟩
theorem cz_und0 {xb xc xm : Nat → Int32} (G : cz_G m s a og S K C LA L) (X : cz_X1 m s a og xb xc xm) (Y : cz_Y m og S K yo yp yk) (hr : r < 3) (v : Int32) :
    cz_ct (cz_un m s a yp yk r v 0) m = cz_lo (fun o => L r o ≠ 0) (cz_V a xc (L r)) v :=
  cz_und G X Y hr v 0 (fun o => cz_V a xc (L r) o < v) (fun o => ⟨Or.inl, fun z => z.elim id (fun w => absurd rfl w.1)⟩)
theorem cz_und1 {xb xc xm : Nat → Int32} (G : cz_G m s a og S K C LA L) (X : cz_X1 m s a og xb xc xm) (Y : cz_Y m og S K yo yp yk) (hr : r < 3) (v : Int32) :
    cz_ct (cz_un m s a yp yk r v 1) m = cz_hi (fun o => L r o ≠ 0) (cz_V a xc (L r)) v :=
  cz_und G X Y hr v 1 (fun o => cz_V a xc (L r) o < v ∨ cz_V a xc (L r) o = v) (fun o => ⟨fun z => z.elim Or.inl (fun w => Or.inr ⟨cz_10, w⟩), fun z => z.elim Or.inl (fun w => Or.inr w.2)⟩)
end
theorem cz_pI {n : Nat} {p : Int32} (h : n < 2 ^ 31) : nI n = p ↔ (n : Int) = p.toInt := by
  rw [← Int32.toInt_inj, nI_toInt h]
theorem cz_pL {n : Nat} {p : Int32} (h : n < 2 ^ 31) : ¬ p < nI n ↔ (n : Int) ≤ p.toInt := by
  rw [Int32.lt_iff_toInt_lt, nI_toInt h]; omega
theorem cz_pH {n : Nat} {p : Int32} (h : n < 2 ^ 31) : ¬ nI n ≤ p ↔ p.toInt < (n : Int) := by
  rw [Int32.le_iff_toInt_le, nI_toInt h]; omega
theorem i_vc_has {k : Nat} {u : SX} {v : SY} (I : i_Rel k u v) (hk : k + 3 ≤ 1536) (v1 : Int32) (v2 : Int32) : wpX_has (fun r => wpY_has (fun r' => r' = r ∧ i_Rel (k + 3) u v) v v1 v2) u v1 v2 := by
  refine cz_el (P := fun u v => wpX_has (fun r => wpY_has (fun r' => r' = r ∧ i_Rel (k + 3) u v) v v1 v2) u v1 v2) ?_ I
  intro m s a og S K C LA L xs xb xc xm xk xv xa xl yo yp yk hR
  have hR' := hR
  obtain ⟨G, hd, X, ds, dk, dv, da, dl, Y⟩ := hR
  have R0 : i_Rel (k + 3) (nI m, s, a, xs, xb, xc, xm, xk, xv, xa, xl) (nI m, s, a, yo, yp, yk) := cz_in_R hR'
  have hm := G.1
  rcases cz_rep v1 with ⟨r, hr, e1⟩ | hx
  · obtain ⟨e, he, e2⟩ := cz_a7 v2
    refine cz_whas e1 e2 hr he (fun o ho => cz_bA G hr he ho) da (fun o ho hn => ?_) (fun h0 => ?_)
    · refine cz_wyhas e1 hm hr e2 (fun _ _ _ _ _ => ⟨rfl, R0⟩) (fun z => ?_)
      obtain ⟨c, hc, eo, en, hp, hk', ha⟩ := (G.2.2.2.2.2.2.2.2.1 r hr e he o ho).1 hn
      refine absurd ((cz_st_A Y hr hc hp.1 hp.2).mpr ⟨?_, ?_⟩) (z c hc hp.1 hp.2)
      · rw [eo, en]; exact hk'
      · rw [eo, en]; exact ha
    · refine cz_wyhas e1 hm hr e2 (fun c hc c0 ce cs => ?_) (fun _ => ⟨rfl, R0⟩)
      have q := (cz_st_A Y hr hc c0 ce).mp cs
      have l := (G.2.2.2.2.2.2.2.2.1 r hr e he (og c) (G.2.1 c hc)).2 c hc rfl ⟨c0, ce⟩ q.1 q.2
      have p := cz_nu_pos og c
      have w := h0 (og c) (G.2.1 c hc)
      omega
  · unfold wpX_has
    dsimp only
    refine cz_rf hx (br_t rfl ?_)
    unfold wpY_has
    dsimp only
    exact cz_bt1 hx (br_f cz_10 ⟨rfl, R0⟩)
theorem i_vc_values {k : Nat} {u : SX} {v : SY} (I : i_Rel k u v) (hk : k + 3 ≤ 1536) (v1 : Int32) : wpX_values (fun r => wpY_values (fun r' => r' = r ∧ i_Rel (k + 3) u v) v v1) u v1 := by
  refine cz_el (P := fun u v => wpX_values (fun r => wpY_values (fun r' => r' = r ∧ i_Rel (k + 3) u v) v v1) u v1) ?_ I
  intro m s a og S K C LA L xs xb xc xm xk xv xa xl yo yp yk hR
  have hR' := hR
  obtain ⟨G, hd, X, ds, dk, dv, da, dl, Y⟩ := hR
  have R0 : i_Rel (k + 3) (nI m, s, a, xs, xb, xc, xm, xk, xv, xa, xl) (nI m, s, a, yo, yp, yk) := cz_in_R hR'
  have hm := G.1
  rcases cz_rep v1 with ⟨r, hr, e1⟩ | hx
  · refine cz_wvals e1 hr (fun o ho => cz_bL G hr ho) dl ?_
    refine cz_wyvals e1 hm hr ⟨congrArg nI ?_, R0⟩
    rw [cz_ct3' (l := L r) (R := fun _ => True) G.2.1 (fun o ho => cz_L_cn G hr ho) (fun c hc => by rw [cz_st_L G Y hr hc]; exact ⟨fun z => ⟨z, trivial⟩, fun z => z.1⟩)]
    rw [cz_ct_s, cz_ct_s, cz_ct_s]
    show _ = 0 + _ + _ + _
    rw [Nat.zero_add]
    have key : ∀ o, cz_b (L r o ≠ 0 ∧ True) = cz_b (L r o ≠ 0) := fun o => cz_b_c ⟨fun z => z.1, fun z => ⟨z, trivial⟩⟩
    rw [key, key, key]
  · unfold wpX_values
    dsimp only
    refine cz_rf hx (br_t rfl ?_)
    unfold wpY_values
    dsimp only
    exact cz_bt1 hx (br_f cz_10 ⟨rfl, R0⟩)
theorem i_vc_value {k : Nat} {u : SX} {v : SY} (I : i_Rel k u v) (hk : k + 3 ≤ 1536) (v1 : Int32) (v2 : Int32) : wpX_value (fun r => wpY_value (fun r' => r' = r ∧ i_Rel (k + 3) u v) v v1 v2) u v1 v2 := by
  refine cz_el (P := fun u v => wpX_value (fun r => wpY_value (fun r' => r' = r ∧ i_Rel (k + 3) u v) v v1 v2) u v1 v2) ?_ I
  intro m s a og S K C LA L xs xb xc xm xk xv xa xl yo yp yk hR
  have hR' := hR
  obtain ⟨G, hd, X, ds, dk, dv, da, dl, Y⟩ := hR
  have R0 : i_Rel (k + 3) (nI m, s, a, xs, xb, xc, xm, xk, xv, xa, xl) (nI m, s, a, yo, yp, yk) := cz_in_R hR'
  have hm := G.1
  rcases cz_rep v1 with ⟨r, hr, e1⟩ | hx
  · have bct : ∀ f x, cz_ct (cz_un m s a yp yk r x f) m < 2 ^ 31 := by
      intro f x
      have := cz_ct_le (cz_un m s a yp yk r x f) m
      omega
    have bpc : ∀ o, cz_pc (fun i => L r i ≠ 0) (cz_V a xc (L r)) o < 2 ^ 31 := by
      intro o
      have h0 := cz_b_le (cz_pl (fun i => L r i ≠ 0) (cz_V a xc (L r)) o 0)
      have h1 := cz_b_le (cz_pl (fun i => L r i ≠ 0) (cz_V a xc (L r)) o 1)
      have h2 := cz_b_le (cz_pl (fun i => L r i ≠ 0) (cz_V a xc (L r)) o 2)
      unfold cz_pc
      omega
    have wi : ∀ c, cz_wi m s a yp yk r v2 c ↔ ((cz_lo (fun i => L r i ≠ 0) (cz_V a xc (L r)) (a c) : Nat) : Int) ≤ v2.toInt ∧ v2.toInt < ((cz_hi (fun i => L r i ≠ 0) (cz_V a xc (L r)) (a c) : Nat) : Int) := by
      intro c
      unfold cz_wi
      rw [cz_pL (bct 0 (a c)), cz_pH (bct 1 (a c)), cz_und0 G X Y hr, cz_und1 G X Y hr]
    refine cz_wvalue (V := cz_V a xc (L r)) e1 hr (fun o ho => cz_bL G hr ho) dl (cz_V_x G X hr) (fun o ho hl hp => ?_) (fun h0 => ?_)
    · rw [cz_pI (bpc o)] at hp
      have b := cz_v1 (b := fun i => L r i ≠ 0) (V := cz_V a xc (L r)) ho hl
      refine cz_wyvalue e1 hm hr (fun c hc c2 cs cw => ⟨?_, R0⟩) (fun z => ?_)
      · have cw := (wi c).mp cw
        exact cz_v2 (b := fun i => L r i ≠ 0) (V := cz_V a xc (L r)) cw.1 cw.2 (by omega) (by omega)
      · obtain ⟨c, hc, eo, en⟩ := cz_L_c G hr ho hl
        have q := (cz_st_L G Y hr hc).mpr en
        have ev := cz_V_c hm X hc en
        rw [eo] at ev
        refine absurd ((wi c).mpr ?_) (z c hc q.1 q.2)
        rw [← ev]
        omega
    · refine cz_wyvalue e1 hm hr (fun c hc c2 cs cw => ?_) (fun _ => ⟨rfl, R0⟩)
      have cw := (wi c).mp cw
      obtain ⟨o, ho, hl, hp⟩ := cz_v3 (b := fun i => L r i ≠ 0) (V := cz_V a xc (L r)) cw.1 cw.2
      exact absurd ((cz_pI (bpc o)).mpr hp) (h0 o ho hl)
  · unfold wpX_value
    dsimp only
    refine cz_rf hx (br_t rfl ?_)
    unfold wpY_value
    dsimp only
    exact cz_bt1 hx (br_f cz_10 ⟨rfl, R0⟩)
noncomputable def cz_f (p : Prop) (x : Int32) : Int32 := @ite Int32 p (Classical.propDecidable p) x 0
theorem cz_f_t {p : Prop} {x : Int32} (h : p) : cz_f p x = x := if_pos h
theorem cz_f_f {p : Prop} {x : Int32} (h : ¬ p) : cz_f p x = 0 := if_neg h
theorem i_vc_total {k : Nat} {u : SX} {v : SY} (I : i_Rel k u v) (hk : k + 3 ≤ 1536) (v1 : Int32) : wpX_total (fun r => wpY_total (fun r' => r' = r ∧ i_Rel (k + 3) u v) v v1) u v1 := by
  refine cz_el (P := fun u v => wpX_total (fun r => wpY_total (fun r' => r' = r ∧ i_Rel (k + 3) u v) v v1) u v1) ?_ I
  intro m s a og S K C LA L xs xb xc xm xk xv xa xl yo yp yk hR
  have hR' := hR
  obtain ⟨G, hd, X, ds, dk, dv, da, dl, Y⟩ := hR
  have R0 : i_Rel (k + 3) (nI m, s, a, xs, xb, xc, xm, xk, xv, xa, xl) (nI m, s, a, yo, yp, yk) := cz_in_R hR'
  have hm := G.1
  rcases cz_rep v1 with ⟨r, hr, e1⟩ | hx
  · refine cz_wtot e1 hr (fun o ho => cz_bK G hr ho) (fun o ho => cz_bC G hr ho) dk dv ?_
    refine cz_wytot (f := fun c => cz_f (s c = 3 ∧ cz_st m s a yp yk r c) (a c)) e1 hm hr (fun c _ z => cz_f_t z) (fun c _ z => cz_f_f z) ⟨?_, R0⟩
    have hC : ∀ o, o < 3 → C r o ≤ K r o := fun o ho => cz_Cv_le (G.2.2.2.2.2.1 r hr) ho (G.2.2.2.2.2.2.2.1 r hr o ho)
    have hK : ∀ o, o < 3 → K r o ≤ cz_cn og o m := fun o ho => G.2.2.2.2.1 r hr o ho
    have xk1 : ∀ o, o < 3 → xm (49 * o + K r o) = cz_T og (cz_w s a) o (K r o) m := fun o ho => X.2.2 o ho _ (hK o ho)
    have xc1 : ∀ o, o < 3 → xm (49 * o + C r o) = cz_T og (cz_w s a) o (C r o) m := fun o ho => X.2.2 o ho _ (Nat.le_trans (hC o ho) (hK o ho))
    rw [cz_tot (og := og) (w := cz_w s a) (K := K r) (C := C r) m G.2.1 hC (fun c hc z => ?_) (fun c hc z => ?_)]
    · rw [cz_sm_s, cz_sm_s, cz_sm_s]
      show _ = (0 : Int32) + _ + _ + _
      rw [Int32.zero_add, ← xk1 0 (by omega), ← xk1 1 (by omega), ← xk1 2 (by omega), ← xc1 0 (by omega), ← xc1 1 (by omega), ← xc1 2 (by omega)]
    · show cz_f _ _ = cz_w s a c
      unfold cz_w
      by_cases h3 : s c = 3
      · rw [if_pos h3, cz_f_t ⟨h3, (cz_st_C G Y hr hc h3).mpr z⟩]
      · rw [if_neg h3, cz_f_f (fun w => h3 w.1)]
    · show cz_f _ _ = 0
      exact cz_f_f (fun w => z ((cz_st_C G Y hr hc w.1).mp w.2))
  · unfold wpX_total
    dsimp only
    refine cz_rf hx (br_t rfl ?_)
    unfold wpY_total
    dsimp only
    exact cz_bt1 hx (br_f cz_10 ⟨rfl, R0⟩)
theorem i_vc_known {k : Nat} {u : SX} {v : SY} (I : i_Rel k u v) (hk : k + 3 ≤ 1536) (v1 : Int32) (v2 : Int32) : wpX_known (fun r => wpY_known (fun r' => r' = r ∧ i_Rel (k + 3) u v) v v1 v2) u v1 v2 := by
  refine cz_el (P := fun u v => wpX_known (fun r => wpY_known (fun r' => r' = r ∧ i_Rel (k + 3) u v) v v1 v2) u v1 v2) ?_ I
  intro m s a og S K C LA L xs xb xc xm xk xv xa xl yo yp yk hR
  have hR' := hR
  obtain ⟨G, hd, X, ds, dk, dv, da, dl, Y⟩ := hR
  have R0 : i_Rel (k + 3) (nI m, s, a, xs, xb, xc, xm, xk, xv, xa, xl) (nI m, s, a, yo, yp, yk) := cz_in_R hR'
  have hm := G.1
  unfold wpX_known
  dsimp only
  rcases cz_rep v1 with ⟨r, hr, e1⟩ | hx
  · rcases cz_rep v2 with ⟨o, ho, e2⟩ | hx2
    · refine cz_rt r hr e1 (br_f cz_10 (cz_rt o ho e2 (br_f cz_10 ?_)))
      rw [e1, e2, cz_i3, nI_clamp (show 3 * r + o < 2 ^ 31 by omega), dk r hr o ho]
      refine ⟨vp_in_nI (by omega) (by omega), ?_⟩
      refine cz_wyknown rfl rfl hm hr ho ⟨congrArg nI ?_, R0⟩
      have hK := G.2.2.2.2.1 r hr o ho
      rw [cz_ct_c (q := fun c => og c = o ∧ cz_nu og c ≤ K r o) m (fun c hc => ?_), cz_ctk]
      · omega
      · have h3 := G.2.1 c hc
        rw [Y.1 c hc, nI_eq (by omega) (by omega), Y.2.2 r hr c]
        constructor
        · intro z
          refine ⟨z.1, ?_⟩
          have := z.2.2
          rw [z.1] at this
          exact this
        · intro z
          refine ⟨z.1, hc, ?_⟩
          rw [z.1]
          exact z.2
    · refine cz_rt r hr e1 (br_f cz_10 (cz_rf hx2 (br_t rfl ?_)))
      unfold wpY_known
      dsimp only
      exact cz_bf r hr e1 (br_t rfl (cz_bt1 hx2 (br_f cz_10 ⟨rfl, R0⟩)))
  · refine cz_rf hx (br_t rfl ?_)
    unfold wpY_known
    dsimp only
    exact cz_bt1 hx (br_f cz_10 ⟨rfl, R0⟩)
end
