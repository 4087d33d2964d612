section
theorem pk_us {f : Nat → Int32} {k : Nat} {x : Int32} : upd f k x k = x := if_pos rfl
theorem pk_un {f : Nat → Int32} {k j : Nat} {x : Int32} (h : j ≠ k) : upd f k x j = f j := if_neg h
theorem pk_uLs {f : Nat → Int64} {k : Nat} {x : Int64} : vp_updL f k x k = x := if_pos rfl
theorem pk_uLn {f : Nat → Int64} {k j : Nat} {x : Int64} (h : j ≠ k) : vp_updL f k x j = f j := if_neg h
theorem pk_sub {a b : Nat} (h : b ≤ a) : nI a - nI b = nI (a - b) := by
  obtain ⟨c, rfl⟩ : ∃ c, a = c + b := ⟨a - b, by omega⟩
  rw [← nI_add, Int32.add_sub_cancel, Nat.add_sub_cancel]
theorem pk_m1 (n : Nat) : nI (n + 1) + (-1) = nI n := by
  rw [← nI_1, Int32.add_assoc, show (1 : Int32) + (-1) = 0 from rfl, Int32.add_zero]
theorem pk_mul (a b : Nat) : nI a * nI b = nI (a * b) := (Int32.ofNat_mul a b).symm
theorem pk_sub_toInt {a b : Nat} (ha : a < 2 ^ 30) (hb : b < 2 ^ 30) : (nI a - nI b).toInt = (a : Int) - b := by
  rw [Int32.toInt_sub, nI_toInt (by omega), nI_toInt (by omega)]
  exact Int.bmod_eq_of_le (by omega) (by omega)
theorem pk_sneg {a b : Nat} (hb : b < 2 ^ 30) (h : a < b) : nI a - nI b < 0 := by
  rw [Int32.lt_iff_toInt_lt, pk_sub_toInt (by omega) hb, show (0 : Int32).toInt = 0 from by decide]
  omega
theorem pk_ix (x : Int32) {n : Nat} (hn : n < 2 ^ 31) : x < 0 ∨ nI n ≤ x ∨ ∃ j : Nat, j < n ∧ x = nI j := by
  by_cases h : x < 0
  · exact Or.inl h
  · obtain ⟨j, hj, rfl⟩ := nI_of h
    by_cases h2 : j < n
    · exact Or.inr (Or.inr ⟨j, h2, rfl⟩)
    · exact Or.inr (Or.inl (nI_le (by omega) hj))
theorem pk_le {x y : Int32} {A B : Prop} (a b : Nat) (f : a ≤ b → A) (g : b < a → B) (hx : x = nI a := by rfl) (hy : y = nI b := by rfl) (ha : a < 2 ^ 31 := by omega) (hb : b < 2 ^ 31 := by omega) : (x ≤ y → A) ∧ (¬ x ≤ y → B) := by
  subst hx hy
  rw [nI_leI ha hb]
  exact ⟨f, fun z => g (by omega)⟩
theorem pk_lt {x y : Int32} {A B : Prop} (a b : Nat) (f : a < b → A) (g : b ≤ a → B) (hx : x = nI a := by rfl) (hy : y = nI b := by rfl) (ha : a < 2 ^ 31 := by omega) (hb : b < 2 ^ 31 := by omega) : (x < y → A) ∧ (¬ x < y → B) := by
  subst hx hy
  rw [nI_ltI ha hb]
  exact ⟨f, fun z => g (by omega)⟩
theorem pk_eq {x y : Int32} {A B : Prop} (a b : Nat) (f : a = b → A) (g : a ≠ b → B) (hx : x = nI a := by rfl) (hy : y = nI b := by rfl) (ha : a < 2 ^ 31 := by omega) (hb : b < 2 ^ 31 := by omega) : (x = y → A) ∧ (¬ x = y → B) := by
  subst hx hy
  rw [nI_eq ha hb]
  exact ⟨f, g⟩
theorem pk_in {x : Int32} (n N : Nat) (h : n < N) (hx : x = nI n := by rfl) (hN : N < 2 ^ 31 := by omega) : vp_in x N := by
  subst hx
  exact vp_in_nI h hN
theorem pk_cl {x : Int32} (n : Nat) (hx : x = nI n := by rfl) (h : n < 2 ^ 31 := by omega) : x.toNatClampNeg = n := by
  subst hx
  exact nI_clamp h
theorem pk_tn {n : Nat} (h : n < 2 ^ 32) : (nI n).toBitVec.toNat = n := Nat.mod_eq_of_lt h
theorem pk_and (x : Int32) {m : Int32} (k : Nat) (hm : m.toBitVec.toNat = 2 ^ k - 1) : x &&& m = nI (x.toBitVec.toNat % 2 ^ k) := by
  apply Int32.toBitVec_inj.mp
  apply BitVec.eq_of_toNat_eq
  rw [Int32.toBitVec_and, BitVec.toNat_and, hm, Nat.and_two_pow_sub_one_eq_mod]
  show _ = (BitVec.ofNat 32 _).toNat
  rw [BitVec.toNat_ofNat]
  exact (Nat.mod_eq_of_lt (Nat.lt_of_le_of_lt (Nat.mod_le _ _) x.toBitVec.isLt)).symm
theorem pk_andN {n : Nat} (h : n < 2 ^ 32) {m : Int32} (k : Nat) (hm : m.toBitVec.toNat = 2 ^ k - 1) : nI n &&& m = nI (n % 2 ^ k) := by
  rw [pk_and _ k hm, pk_tn h]
theorem pk_andE (x : Int32) {m : Int32} (k : Nat) (hm : m.toBitVec.toNat = 2 ^ k - 1) : ∃ j : Nat, j < 2 ^ k ∧ x &&& m = nI j := ⟨_, Nat.mod_lt _ (Nat.two_pow_pos k), pk_and x k hm⟩
theorem pk_andIn (x : Int32) {m : Int32} (k : Nat) (hm : m.toBitVec.toNat = 2 ^ k - 1) (hk : k ≤ 30) : vp_in (x &&& m) (2 ^ k) := by
  obtain ⟨j, hj, e⟩ := pk_andE x k hm
  rw [e]
  exact vp_in_nI hj (Nat.lt_of_le_of_lt (Nat.pow_le_pow_right (by decide) hk) (by decide))
theorem pk_shl (a s : Int32) (k : Nat) (hs : (s.toBitVec.smod 32).toNat = k) : (a <<< s).toBitVec.toNat = a.toBitVec.toNat * 2 ^ k % 2 ^ 32 := by
  show (a.toBitVec <<< (s.toBitVec.smod 32).toNat).toNat = _
  rw [hs, BitVec.toNat_shiftLeft, Nat.shiftLeft_eq]
theorem pk_shlN {n : Nat} (s : Int32) (k : Nat) (hs : (s.toBitVec.smod 32).toNat = k) (h : n * 2 ^ k < 2 ^ 32) : nI n <<< s = nI (n * 2 ^ k) := by
  apply Int32.toBitVec_inj.mp
  apply BitVec.eq_of_toNat_eq
  have hn : n < 2 ^ 32 := Nat.lt_of_le_of_lt (Nat.le_mul_of_pos_right n (Nat.two_pow_pos k)) h
  rw [pk_shl _ _ k hs, pk_tn hn, pk_tn h, Nat.mod_eq_of_lt h]
end
section
/-! plain numbers, counts, sums, lists -/
theorem vq_us2 {f : Nat → Int32} {k : Nat} {x y : Int32} : upd (upd f k x) k y = upd f k y := by
  funext j
  by_cases h : j = k
  · simp only [upd, h, if_true]
  · simp only [upd, h, if_false]
theorem vq_m1 (n : Nat) (h : n < 2 ^ 31) : ¬ (-1 : Int32) = nI n := by
  intro e
  have := nI_pos (n := n) h
  rw [← e] at this
  exact this (by decide)
theorem vq_m1' (n : Nat) (h : n < 2 ^ 31) : ¬ nI n = (-1 : Int32) := fun e => vq_m1 n h e.symm
theorem vq_le0 {a : Nat} (h : a < 2 ^ 31) : nI a ≤ 0 ↔ a = 0 := by
  rw [← nI_0, nI_leI h (by omega)]; omega
theorem vq_eq0 {a : Nat} (h : a < 2 ^ 31) : nI a = 0 ↔ a = 0 := by
  rw [← nI_0, nI_eq h (by omega)]
theorem vq_inj {a b : Nat} (h : nI a = nI b) (ha : a < 2 ^ 31) (hb : b < 2 ^ 31) : a = b := (nI_eq ha hb).mp h
def vq_cn (P : Nat → Bool) : Nat → Nat
  | 0 => 0
  | n + 1 => vq_cn P n + (if P n = true then 1 else 0)
theorem vq_cn_t {P : Nat → Bool} {n : Nat} (h : P n = true) : vq_cn P (n + 1) = vq_cn P n + 1 := by
  simp only [vq_cn, h, if_true]
theorem vq_cn_f {P : Nat → Bool} {n : Nat} (h : ¬ P n = true) : vq_cn P (n + 1) = vq_cn P n := by
  simp only [vq_cn, h]; rfl
theorem vq_cn_le (P : Nat → Bool) : ∀ n, vq_cn P n ≤ n := by
  intro n
  induction n with
  | zero => exact Nat.le_refl _
  | succ n ih => simp only [vq_cn]; split <;> omega
theorem vq_cn_range (P : Nat → Bool) : ∀ n, vq_cn P n = (List.range n).countP P := by
  intro n
  induction n with
  | zero => rfl
  | succ n ih => rw [List.range_succ, List.countP_append, List.countP_singleton, vq_cn, ih]
theorem vq_cn_cg {P Q : Nat → Bool} {n : Nat} (h : ∀ c, c < n → P c = Q c) : vq_cn P n = vq_cn Q n := by
  induction n with
  | zero => rfl
  | succ n ih => rw [vq_cn, vq_cn, ih (fun c hc => h c (by omega)), h n (by omega)]
def vq_sm (f : Nat → Nat) : Nat → Nat
  | 0 => 0
  | n + 1 => vq_sm f n + f n
theorem vq_sm_cg {f g : Nat → Nat} {n : Nat} (h : ∀ c, c < n → f c = g c) : vq_sm f n = vq_sm g n := by
  induction n with
  | zero => rfl
  | succ n ih => rw [vq_sm, vq_sm, ih (fun c hc => h c (by omega)), h n (by omega)]
theorem vq_sm_one {f g : Nat → Nat} {n c : Nat} (hc : c < n) (h : ∀ j, j < n → j ≠ c → f j = g j) : vq_sm f n + g c = vq_sm g n + f c := by
  induction n with
  | zero => omega
  | succ n ih =>
    rw [vq_sm, vq_sm]
    by_cases e : c = n
    · subst e
      have := vq_sm_cg (f := f) (g := g) (n := c) (fun j hj => h j (by omega) (by omega))
      omega
    · have := ih (by omega) (fun j hj hn => h j (by omega) hn)
      have := h n (by omega) (fun z => e z.symm)
      omega
theorem vq_sm_mono {f : Nat → Nat} {n m : Nat} (h : n ≤ m) : vq_sm f n ≤ vq_sm f m := by
  induction m with
  | zero => rw [show n = 0 by omega]; exact Nat.le_refl _
  | succ m ih =>
    by_cases e : n = m + 1
    · rw [e]; exact Nat.le_refl _
    · have := ih (by omega)
      rw [vq_sm]; omega
theorem vq_cnt_mem {l : List Nat} {n : Nat} {P : Nat → Bool} (hn : l.Nodup) (hm : ∀ c, c ∈ l ↔ c < n ∧ P c = true) : vq_cn P n = l.length := by
  have h : ((List.range n).filter P).Perm l := by
    rw [List.perm_ext_iff_of_nodup (List.Nodup.sublist List.filter_sublist List.nodup_range) hn]
    intro a
    rw [List.mem_filter, List.mem_range, hm]
  rw [vq_cn_range, List.countP_eq_length_filter, h.length_eq]
theorem vq_rank_l {s : Nat → Int} : ∀ (l : List Nat) (i c : Nat), l.Pairwise (fun a b => s a < s b) → l[i]? = some c → l.countP (fun d => decide (s d < s c)) = i := by
  intro l
  induction l with
  | nil => intro i c _ h; simp at h
  | cons a l ih =>
    intro i c hp hi
    rw [List.pairwise_cons] at hp
    cases i with
    | zero =>
      have e : a = c := by simpa using hi
      subst e
      rw [List.countP_eq_zero]
      intro b hb
      rw [List.mem_cons] at hb
      rcases hb with rfl | hb
      · simp
      · have := hp.1 b hb
        simp; omega
    | succ i =>
      have e : l[i]? = some c := by simpa using hi
      rw [List.countP_cons, ih i c hp.2 e]
      have := hp.1 c (List.mem_of_getElem? e)
      simp [this]
theorem vq_nodup {s : Nat → Int} {l : List Nat} (h : l.Pairwise (fun a b => s a < s b)) : l.Nodup := by
  refine List.Pairwise.imp ?_ h
  intro a b hab e
  rw [e] at hab
  omega
theorem vq_rank {l : List Nat} {n : Nat} {P : Nat → Bool} {s : Nat → Int} (hs : l.Pairwise (fun a b => s a < s b)) (hm : ∀ c, c ∈ l ↔ c < n ∧ P c = true) {i c : Nat} (hi : l[i]? = some c) : vq_cn (fun d => decide (s d < s c) && P d) n = i := by
  have h : ((List.range n).filter P).Perm l := by
    rw [List.perm_ext_iff_of_nodup (List.Nodup.sublist List.filter_sublist List.nodup_range) (vq_nodup hs)]
    intro a
    rw [List.mem_filter, List.mem_range, hm]
  rw [vq_cn_range, ← List.countP_filter, h.countP_eq]
  exact vq_rank_l l i c hs hi
def vq_gs {α : Type} (f : Nat → α) (k : Nat) (x : α) : Nat → α := fun j => if j = k then x else f j
theorem vq_gss {α : Type} {f : Nat → α} {k : Nat} {x : α} : vq_gs f k x k = x := if_pos rfl
theorem vq_gsn {α : Type} {f : Nat → α} {k j : Nat} {x : α} (h : j ≠ k) : vq_gs f k x j = f j := if_neg h
theorem vq_mem_er {l : List Nat} {i c c' : Nat} (hn : l.Nodup) (hi : l[i]? = some c) : c' ∈ l.eraseIdx i ↔ c' ∈ l ∧ c' ≠ c := by
  rw [List.mem_eraseIdx_iff_getElem?]
  constructor
  · rintro ⟨j, hj, e⟩
    refine ⟨List.mem_of_getElem? e, ?_⟩
    intro h
    subst h
    have hl : j < l.length := (List.getElem?_eq_some_iff.mp e).1
    exact hj ((List.getElem?_inj hl hn).mp (by rw [e, hi]))
  · rintro ⟨hm, hne⟩
    obtain ⟨j, e⟩ := List.mem_iff_getElem?.mp hm
    refine ⟨j, ?_, e⟩
    intro h
    subst h
    rw [hi] at e
    exact hne (Option.some.inj e).symm
end
section
/-! the reference's stages as lists; the pools -/
def vq_L (at' : Nat → Int32) (si : Nat → Int64) (clk : Int64) (L : Nat → List Nat) (K : Nat) : Prop :=
  (∀ c, c < 18 → at' c = -1 ∨ ∃ q, q < 7 ∧ at' c = nI q) ∧
  (∀ q, q < 7 → ∀ c, c ∈ L q ↔ c < 18 ∧ at' c = nI q) ∧
  (∀ q, q < 7 → (L q).Pairwise (fun a b => (si a).toInt < (si b).toInt)) ∧
  (∀ c, c < 18 → (si c).toInt ≤ clk.toInt) ∧ 0 ≤ clk.toInt ∧ clk.toInt ≤ (K : Int)
theorem vq_L_up {at' : Nat → Int32} {si : Nat → Int64} {clk : Int64} {L : Nat → List Nat} {K K' : Nat} (h : vq_L at' si clk L K) (hk : K ≤ K') : vq_L at' si clk L K' :=
  ⟨h.1, h.2.1, h.2.2.1, h.2.2.2.1, h.2.2.2.2.1, by have := h.2.2.2.2.2; omega⟩
theorem vq_L_nd {at' : Nat → Int32} {si : Nat → Int64} {clk : Int64} {L : Nat → List Nat} {K : Nat} (h : vq_L at' si clk L K) {q : Nat} (hq : q < 7) : (L q).Nodup := vq_nodup (s := fun a => (si a).toInt) (h.2.2.1 q hq)
theorem vq_L_at {at' : Nat → Int32} {si : Nat → Int64} {clk : Int64} {L : Nat → List Nat} {K : Nat} (h : vq_L at' si clk L K) {q i c : Nat} (hq : q < 7) (hi : (L q)[i]? = some c) : c < 18 ∧ at' c = nI q := (h.2.1 q hq c).mp (List.mem_of_getElem? hi)
theorem vq_L_len {at' : Nat → Int32} {si : Nat → Int64} {clk : Int64} {L : Nat → List Nat} {K : Nat} (h : vq_L at' si clk L K) {q : Nat} (hq : q < 7) : vq_cn (fun c => decide (at' c = nI q)) 18 = (L q).length :=
  vq_cnt_mem (vq_L_nd h hq) (fun c => by rw [h.2.1 q hq c, decide_eq_true_eq])
theorem vq_L_le {at' : Nat → Int32} {si : Nat → Int64} {clk : Int64} {L : Nat → List Nat} {K : Nat} (h : vq_L at' si clk L K) {q : Nat} (hq : q < 7) : (L q).length ≤ 18 := by
  rw [← vq_L_len h hq]
  exact vq_cn_le _ _
theorem vq_L_rk {at' : Nat → Int32} {si : Nat → Int64} {clk : Int64} {L : Nat → List Nat} {K : Nat} (h : vq_L at' si clk L K) {q : Nat} (hq : q < 7) {i c : Nat} (hi : (L q)[i]? = some c) : vq_cn (fun d => decide ((si d).toInt < (si c).toInt) && decide (at' d = nI q)) 18 = i :=
  vq_rank (s := fun d => (si d).toInt) (P := fun d => decide (at' d = nI q)) (h.2.2.1 q hq) (fun c => by rw [h.2.1 q hq c, decide_eq_true_eq]) hi
theorem vq_L_rem {at' : Nat → Int32} {si : Nat → Int64} {clk : Int64} {L : Nat → List Nat} {K q i c : Nat} (h : vq_L at' si clk L K) (hq : q < 7) (hi : (L q)[i]? = some c) : vq_L (upd at' c (-1)) si clk (vq_gs L q ((L q).eraseIdx i)) K := by
  obtain ⟨hc, ha⟩ := vq_L_at h hq hi
  refine ⟨?_, ?_, ?_, h.2.2.2⟩
  · intro c' hc'
    by_cases e : c' = c
    · left; rw [e]; exact pk_us
    · rw [pk_un e]; exact h.1 c' hc'
  · intro q' hq' c'
    by_cases e : q' = q
    · subst e
      rw [vq_gss, vq_mem_er (vq_L_nd h hq) hi, h.2.1 q' hq' c']
      by_cases e' : c' = c
      · subst e'
        rw [pk_us]
        exact ⟨fun z => absurd rfl z.2, fun z => absurd z.2 (vq_m1 q' (by omega))⟩
      · rw [pk_un e']
        exact ⟨fun z => z.1, fun z => ⟨z, e'⟩⟩
    · rw [vq_gsn e, h.2.1 q' hq' c']
      by_cases e' : c' = c
      · subst e'
        rw [pk_us, ha]
        exact ⟨fun z => absurd (vq_inj z.2 (by omega) (by omega)) (fun y => e y.symm), fun z => absurd z.2 (vq_m1 q' (by omega))⟩
      · rw [pk_un e']
  · intro q' hq'
    by_cases e : q' = q
    · subst e
      rw [vq_gss]
      exact List.Pairwise.eraseIdx i (h.2.2.1 q' hq')
    · rw [vq_gsn e]
      exact h.2.2.1 q' hq'
theorem vq_clk {clk : Int64} {K : Nat} (h0 : 0 ≤ clk.toInt) (h1 : clk.toInt ≤ (K : Int)) (hK : K < 2 ^ 40) : (clk + 1).toInt = clk.toInt + 1 := by
  rw [Int64.toInt_add, show (1 : Int64).toInt = 1 from by decide]
  exact Int.bmod_eq_of_le (by omega) (by omega)
theorem vq_L_ins {at' : Nat → Int32} {si : Nat → Int64} {clk : Int64} {L : Nat → List Nat} {K q c : Nat} (h : vq_L at' si clk L K) (hK : K < 2 ^ 40) (hq : q < 7) (hc : c < 18) (ha : at' c = -1) : vq_L (upd at' c (nI q)) (vp_updL si c (clk + 1)) (clk + 1) (vq_gs L q (L q ++ [c])) (K + 1) := by
  have hk := vq_clk h.2.2.2.2.1 h.2.2.2.2.2 hK
  have hm : ∀ q', q' < 7 → ¬ c ∈ L q' := by
    intro q' hq' z
    have := ((h.2.1 q' hq' c).mp z).2
    rw [ha] at this
    exact vq_m1 q' (by omega) this
  have hp : ∀ q', q' < 7 → (L q').Pairwise (fun a b => (vp_updL si c (clk + 1) a).toInt < (vp_updL si c (clk + 1) b).toInt) := by
    intro q' hq'
    refine List.Pairwise.imp_of_mem ?_ (h.2.2.1 q' hq')
    intro a b h1 h2 h3
    rw [pk_uLn (j := a) (k := c) (fun z => hm q' hq' (z ▸ h1)), pk_uLn (j := b) (k := c) (fun z => hm q' hq' (z ▸ h2))]
    exact h3
  refine ⟨?_, ?_, ?_, ?_, ?_, ?_⟩
  · intro c' hc'
    by_cases e : c' = c
    · right; rw [e]; exact ⟨q, hq, pk_us⟩
    · rw [pk_un e]; exact h.1 c' hc'
  · intro q' hq' c'
    by_cases e : q' = q
    · subst e
      rw [vq_gss, List.mem_append, List.mem_singleton, h.2.1 q' hq' c']
      by_cases e' : c' = c
      · subst e'
        rw [pk_us]
        exact ⟨fun _ => ⟨hc, rfl⟩, fun _ => Or.inr rfl⟩
      · rw [pk_un e']
        exact ⟨fun z => z.resolve_right e', fun z => Or.inl z⟩
    · rw [vq_gsn e, h.2.1 q' hq' c']
      by_cases e' : c' = c
      · subst e'
        rw [pk_us, ha]
        exact ⟨fun z => absurd z.2 (vq_m1 q' (by omega)), fun z => absurd (vq_inj z.2 (by omega) (by omega)) (fun y => e y.symm)⟩
      · rw [pk_un e']
  · intro q' hq'
    by_cases e : q' = q
    · subst e
      rw [vq_gss, List.pairwise_append]
      refine ⟨hp q' hq', List.pairwise_singleton _ _, ?_⟩
      intro a ha' b hb
      rw [List.mem_singleton] at hb
      subst hb
      rw [pk_uLs, pk_uLn (j := a) (k := b) (fun z => hm q' hq' (z ▸ ha')), hk]
      have := h.2.2.2.1 a ((h.2.1 q' hq' a).mp ha').1
      omega
    · rw [vq_gsn e]
      exact hp q' hq'
  · intro c' hc'
    by_cases e : c' = c
    · rw [e, pk_uLs]; exact Int.le_refl _
    · rw [pk_uLn e, hk]
      have := h.2.2.2.1 c' hc'
      omega
  · rw [hk]; have := h.2.2.2.2.1; omega
  · rw [hk]; have := h.2.2.2.2.2; omega
/-- from one stage to the end of another -/
theorem vq_L_mv {at' : Nat → Int32} {si : Nat → Int64} {clk : Int64} {L : Nat → List Nat} {K q q' i c : Nat} (h : vq_L at' si clk L K) (hK : K < 2 ^ 40) (hq : q < 7) (hq' : q' < 7) (hne : q' ≠ q) (hi : (L q)[i]? = some c) : vq_L (upd at' c (nI q')) (vp_updL si c (clk + 1)) (clk + 1) (vq_gs (vq_gs L q ((L q).eraseIdx i)) q' (L q' ++ [c])) (K + 1) := by
  have h2 := vq_L_ins (vq_L_rem h hq hi) hK hq' (vq_L_at h hq hi).1 pk_us
  rw [vq_us2, vq_gsn hne] at h2
  exact h2
/-- a pool of numbers below n, in lists that are linked by nx -/
def vq_K (nx : Nat → Int32) (D : Nat → List Nat) (n : Nat) : Prop :=
  (∀ c, (D c).Nodup) ∧ (∀ c d, d ∈ D c → d < n) ∧ (∀ c c' d, d ∈ D c → d ∈ D c' → c = c') ∧
  (∀ c i d e, (D c)[i]? = some d → (D c)[i + 1]? = some e → nx d = nI e)
theorem vq_K_alloc {nx nx' : Nat → Int32} {D : Nat → List Nat} {n c d : Nat} {F : List Nat} (h : vq_K nx D n) (hF : D 18 = d :: F) (hc : c ≠ 18)
    (h1 : ∀ j, j ≠ d → (D c).getLast? ≠ some j → nx' j = nx j) (h2 : ∀ j, (D c).getLast? = some j → nx' j = nI d) :
    vq_K nx' (vq_gs (vq_gs D 18 F) c (D c ++ [d])) n := by
  have hd : d ∈ D 18 := by rw [hF]; exact List.mem_cons_self
  have hn18 := h.1 18
  rw [hF, List.nodup_cons] at hn18
  have hdc : ∀ c', c' ≠ 18 → ¬ d ∈ D c' := fun c' hne z => hne (h.2.2.1 c' 18 d z hd)
  have hsub : ∀ e, e ∈ F → e ∈ D 18 := fun e he => by rw [hF]; exact List.mem_cons_of_mem _ he
  have key : ∀ c' e, e ∈ vq_gs (vq_gs D 18 F) c (D c ++ [d]) c' → (e ∈ D c' ∧ e ≠ d) ∨ (e = d ∧ c' = c) := by
    intro c' e he
    by_cases e1 : c' = c
    · subst e1
      rw [vq_gss, List.mem_append, List.mem_singleton] at he
      rcases he with he | he
      · exact Or.inl ⟨he, fun z => hdc c' hc (z ▸ he)⟩
      · exact Or.inr ⟨he, rfl⟩
    · rw [vq_gsn e1] at he
      by_cases e2 : c' = 18
      · subst e2
        rw [vq_gss] at he
        exact Or.inl ⟨hsub e he, fun z => hn18.1 (z ▸ he)⟩
      · rw [vq_gsn e2] at he
        exact Or.inl ⟨he, fun z => hdc c' e2 (z ▸ he)⟩
  refine ⟨?_, ?_, ?_, ?_⟩
  · intro c'
    by_cases e1 : c' = c
    · subst e1
      rw [vq_gss, List.nodup_append]
      refine ⟨h.1 c', List.pairwise_singleton _ _, ?_⟩
      intro a ha b hb
      rw [List.mem_singleton] at hb
      subst hb
      exact fun z => hdc c' hc (z ▸ ha)
    · rw [vq_gsn e1]
      by_cases e2 : c' = 18
      · subst e2
        rw [vq_gss]
        exact hn18.2
      · rw [vq_gsn e2]
        exact h.1 c'
  · intro c' e he
    rcases key c' e he with z | z
    · exact h.2.1 c' e z.1
    · rw [z.1]; exact h.2.1 18 d hd
  · intro c1 c2 e he1 he2
    rcases key c1 e he1 with z1 | z1 <;> rcases key c2 e he2 with z2 | z2
    · exact h.2.2.1 c1 c2 e z1.1 z2.1
    · exact absurd z2.1 z1.2
    · exact absurd z1.1 z2.2
    · rw [z1.2, z2.2]
  · intro c' i a b ha hb
    by_cases e1 : c' = c
    · subst e1
      rw [vq_gss] at ha hb
      have hl := (List.getElem?_eq_some_iff.mp hb).1
      rw [List.length_append, List.length_singleton] at hl
      rw [List.getElem?_append_left (by omega)] at ha
      by_cases e2 : i + 1 = (D c').length
      · rw [List.getElem?_append_right (by omega), show i + 1 - (D c').length = 0 by omega] at hb
        have eb : d = b := by simpa using hb
        subst eb
        apply h2
        rw [List.getLast?_eq_getElem?, ← e2]
        exact ha
      · rw [List.getElem?_append_left (by omega)] at hb
        rw [h1 a (fun z => hdc c' hc (z ▸ List.mem_of_getElem? ha)) ?_]
        · exact h.2.2.2 c' i a b ha hb
        · intro z
          rw [List.getLast?_eq_getElem?] at z
          have := (List.getElem?_inj (i := i) (j := (D c').length - 1) (by omega) (h.1 c')).mp (by rw [ha, z])
          omega
    · rw [vq_gsn e1] at ha hb
      have hno : ∀ j, j ∈ D c' → (D c).getLast? ≠ some j := by
        intro j hj z
        exact e1 (h.2.2.1 c' c j hj (List.mem_of_getLast? z))
      by_cases e2 : c' = 18
      · subst e2
        rw [vq_gss] at ha hb
        have ha' : (D 18)[i + 1]? = some a := by rw [hF, List.getElem?_cons_succ]; exact ha
        have hb' : (D 18)[i + 1 + 1]? = some b := by rw [hF, List.getElem?_cons_succ]; exact hb
        rw [h1 a (fun z => hn18.1 (z ▸ List.mem_of_getElem? ha)) (hno a (List.mem_of_getElem? ha'))]
        exact h.2.2.2 18 (i + 1) a b ha' hb'
      · rw [vq_gsn e2] at ha hb
        rw [h1 a (fun z => hdc c' e2 (z ▸ List.mem_of_getElem? ha)) (hno a (List.mem_of_getElem? ha))]
        exact h.2.2.2 c' i a b ha hb
theorem vq_K_free {nx : Nat → Int32} {D : Nat → List Nat} {n c l : Nat} {x : Int32} (h : vq_K nx D n) (hc : c ≠ 18) (hl : (D c).getLast? = some l) (hx : ∀ e, (D 18)[0]? = some e → x = nI e) :
    vq_K (upd nx l x) (vq_gs (vq_gs D c []) 18 (D c ++ D 18)) n := by
  have hlm := List.mem_of_getLast? hl
  have key : ∀ c' e, e ∈ vq_gs (vq_gs D c []) 18 (D c ++ D 18) c' → (e ∈ D c' ∧ c' ≠ c) ∨ (e ∈ D c ∧ c' = 18) := by
    intro c' e he
    by_cases e1 : c' = 18
    · subst e1
      rw [vq_gss, List.mem_append] at he
      rcases he with he | he
      · exact Or.inr ⟨he, rfl⟩
      · exact Or.inl ⟨he, fun z => hc z.symm⟩
    · rw [vq_gsn e1] at he
      by_cases e2 : c' = c
      · subst e2
        rw [vq_gss] at he
        exact absurd he List.not_mem_nil
      · rw [vq_gsn e2] at he
        exact Or.inl ⟨he, e2⟩
  refine ⟨?_, ?_, ?_, ?_⟩
  · intro c'
    by_cases e1 : c' = 18
    · subst e1
      rw [vq_gss, List.nodup_append]
      refine ⟨h.1 c, h.1 18, ?_⟩
      intro a ha b hb z
      subst z
      exact hc (h.2.2.1 c 18 a ha hb)
    · rw [vq_gsn e1]
      by_cases e2 : c' = c
      · subst e2; rw [vq_gss]; exact List.nodup_nil
      · rw [vq_gsn e2]; exact h.1 c'
  · intro c' e he
    rcases key c' e he with z | z
    · exact h.2.1 c' e z.1
    · exact h.2.1 c e z.1
  · intro c1 c2 e he1 he2
    rcases key c1 e he1 with z1 | z1 <;> rcases key c2 e he2 with z2 | z2
    · exact h.2.2.1 c1 c2 e z1.1 z2.1
    · exact absurd (h.2.2.1 c1 c e z1.1 z2.1) z1.2
    · exact absurd (h.2.2.1 c2 c e z2.1 z1.1) z2.2
    · rw [z1.2, z2.2]
  · intro c' i a b ha hb
    by_cases e1 : c' = 18
    · subst e1
      rw [vq_gss] at ha hb
      have hll : (D c)[(D c).length - 1]? = some l := by rw [← List.getLast?_eq_getElem?]; exact hl
      have hlen := (List.getElem?_eq_some_iff.mp hll).1
      by_cases e2 : i + 1 < (D c).length
      · rw [List.getElem?_append_left (by omega)] at ha hb
        rw [pk_un ?_]
        · exact h.2.2.2 c i a b ha hb
        · intro z
          have := (List.getElem?_inj (i := i) (j := (D c).length - 1) (by omega) (h.1 c)).mp (by rw [ha, hll, z])
          omega
      · rw [List.getElem?_append_right (by omega)] at hb
        by_cases e3 : i + 1 = (D c).length
        · rw [List.getElem?_append_left (by omega), show i = (D c).length - 1 by omega, hll] at ha
          rw [← Option.some.inj ha, pk_us]
          apply hx
          rw [show i + 1 - (D c).length = 0 by omega] at hb
          exact hb
        · rw [List.getElem?_append_right (by omega)] at ha
          rw [pk_un ?_]
          · exact h.2.2.2 18 (i - (D c).length) a b ha (by rw [show i - (D c).length + 1 = i + 1 - (D c).length by omega]; exact hb)
          · intro z
            subst z
            exact hc (h.2.2.1 c 18 a hlm (List.mem_of_getElem? ha))
    · rw [vq_gsn e1] at ha hb
      by_cases e2 : c' = c
      · subst e2
        rw [vq_gss] at ha
        simp at ha
      · rw [vq_gsn e2] at ha hb
        rw [pk_un ?_]
        · exact h.2.2.2 c' i a b ha hb
        · intro z
          subst z
          exact e2 (h.2.2.1 c' c a (List.mem_of_getElem? ha) hlm)
end
section
/-! one chain: places of its cells, its data on both sides -/
def vq_pl (Dc Tc : List Nat) (i : Nat) : Nat := if i < Dc.length - Tc.length then Dc.getD i 0 else 16 + 8 * Tc.getD 0 0 + (i - (Dc.length - Tc.length))
def vq_PL (Dc Tc : List Nat) (p : Nat) : Prop := p ∈ Dc ∨ ∃ t, t ∈ Tc ∧ 16 + 8 * t ≤ p ∧ p < 24 + 8 * t
def vq_sh0 (Dc Tc : List Nat) (sc : Nat) : Prop := (Tc = [] ∧ Dc.length = sc) ∨ ∃ t, Tc = [t]
def vq_shape (Dc Tc : List Nat) (sc : Nat) (dr : Int32) : Prop :=
  (Tc = [] ∧ dr = -1 ∧ Dc.length = sc) ∨ ∃ t, Tc = [t] ∧ 1 ≤ Dc.length ∧ Dc.length ≤ sc + 1 ∧ dr = nI (Dc.length - 1)
def vq_tv (Tc : List Nat) : Int32 := match Tc with
  | [] => -1
  | t :: _ => nI t
theorem vq_shape0 {Dc Tc : List Nat} {sc : Nat} {dr : Int32} (h : vq_shape Dc Tc sc dr) : vq_sh0 Dc Tc sc := by
  rcases h with h | ⟨t, h, _⟩
  · exact Or.inl ⟨h.1, h.2.2⟩
  · exact Or.inr ⟨t, h⟩
theorem vq_getD {l : List Nat} {i d : Nat} (h : l[i]? = some d) : l.getD i 0 = d := by
  rw [List.getD_eq_getElem?_getD, h]; rfl
theorem vq_gq {l : List Nat} {i : Nat} (h : i < l.length) : l[i]? = some (l.getD i 0) := by
  rw [List.getD_eq_getElem?_getD, List.getElem?_eq_getElem h]; rfl
theorem vq_pl_lo {Dc Tc : List Nat} {i d : Nat} (h : i < Dc.length - Tc.length) (hd : Dc[i]? = some d) : vq_pl Dc Tc i = d := by
  rw [vq_pl, if_pos h, vq_getD hd]
theorem vq_pl_hi {Dc : List Nat} {t i : Nat} (h : Dc.length - 1 ≤ i) : vq_pl Dc [t] i = 16 + 8 * t + (i - (Dc.length - 1)) := by
  rw [vq_pl, if_neg (by rw [List.length_singleton]; omega)]; rfl
theorem vq_pl_4 (i : Nat) : vq_pl [] [4] i = 48 + i := by
  rw [vq_pl_hi (by simp)]; simp
theorem vq_pl_PL {Dc Tc : List Nat} {sc i : Nat} (h : vq_sh0 Dc Tc sc) (h8 : sc ≤ 8) (hi : i < sc) : vq_PL Dc Tc (vq_pl Dc Tc i) := by
  rcases h with ⟨rfl, h⟩ | ⟨t, rfl⟩
  · have hl : i < Dc.length - ([] : List Nat).length := by rw [List.length_nil]; omega
    rw [vq_pl_lo hl (vq_gq (by omega))]
    exact Or.inl (List.mem_of_getElem? (vq_gq (by omega)))
  · by_cases hl : i < Dc.length - 1
    · rw [vq_pl_lo (by rw [List.length_singleton]; exact hl) (vq_gq (by omega))]
      exact Or.inl (List.mem_of_getElem? (vq_gq (by omega)))
    · rw [vq_pl_hi (by omega)]
      exact Or.inr ⟨t, List.mem_singleton.mpr rfl, by omega, by omega⟩
theorem vq_PL_lt {Dc Tc : List Nat} {p : Nat} (hD : ∀ d, d ∈ Dc → d < 16) (hT : ∀ t, t ∈ Tc → t < 5) (h : vq_PL Dc Tc p) : p < 56 := by
  rcases h with h | ⟨t, h, h1, h2⟩
  · have := hD p h; omega
  · have := hT t h; omega
theorem vq_pl_inj {Dc Tc : List Nat} {sc i j : Nat} (h : vq_sh0 Dc Tc sc) (hn : Dc.Nodup) (hD : ∀ d, d ∈ Dc → d < 16) (hi : i < sc) (hj : j < sc) (e : vq_pl Dc Tc i = vq_pl Dc Tc j) : i = j := by
  rcases h with ⟨rfl, h⟩ | ⟨t, rfl⟩
  · rw [vq_pl_lo (by rw [List.length_nil]; omega) (vq_gq (by omega)), vq_pl_lo (by rw [List.length_nil]; omega) (vq_gq (by omega))] at e
    exact (List.getElem?_inj (by omega) hn).mp (by rw [vq_gq (i := i) (by omega), vq_gq (i := j) (by omega), e])
  · by_cases h1 : i < Dc.length - 1 <;> by_cases h2 : j < Dc.length - 1
    · rw [vq_pl_lo (by rw [List.length_singleton]; omega) (vq_gq (by omega)), vq_pl_lo (by rw [List.length_singleton]; omega) (vq_gq (by omega))] at e
      exact (List.getElem?_inj (by omega) hn).mp (by rw [vq_gq (i := i) (by omega), vq_gq (i := j) (by omega), e])
    · rw [vq_pl_lo (by rw [List.length_singleton]; omega) (vq_gq (by omega)), vq_pl_hi (by omega)] at e
      have := hD _ (List.mem_of_getElem? (vq_gq (l := Dc) (i := i) (by omega)))
      omega
    · rw [vq_pl_hi (by omega), vq_pl_lo (by rw [List.length_singleton]; omega) (vq_gq (by omega))] at e
      have := hD _ (List.mem_of_getElem? (vq_gq (l := Dc) (i := j) (by omega)))
      omega
    · rw [vq_pl_hi (by omega), vq_pl_hi (by omega)] at e
      omega
theorem vq_16le {p : Nat} (h : 16 ≤ p) (hp : p < 2 ^ 31) : (16 : Int32) ≤ nI p := nI_le (a := 16) h hp
theorem vq_n16le {p : Nat} (h : p < 16) : ¬ (16 : Int32) ≤ nI p := nI_ge (b := 16) h (by decide)
theorem vq_lt16 {p : Nat} (h : p < 16) : nI p < (16 : Int32) := nI_lt (b := 16) h (by decide)
theorem vq_nlt16 {p : Nat} (h : 16 ≤ p) (hp : p < 2 ^ 31) : ¬ nI p < (16 : Int32) := nI_nlt (b := 16) h hp
/-- the component's enter and after -/
def vq_ent (tO : Nat → Int32) (p : Int32) : Int32 := if p < 0 then p else if 16 ≤ p then p else if tO p.toNatClampNeg < 0 then p else 16 + tO p.toNatClampNeg * 8
def vq_aft (nx tO : Nat → Int32) (p : Int32) : Int32 := if 0 ≤ p then (if p < 16 then vq_ent tO (nx p.toNatClampNeg) else p + 1) else -1
def vq_wk (nx tO : Nat → Int32) (h : Int32) (g : Nat → Nat) (sc : Nat) : Prop :=
  (0 < sc → vq_ent tO h = nI (g 0)) ∧ (∀ i, i + 1 < sc → vq_aft nx tO (nI (g i)) = nI (g (i + 1))) ∧ ∀ i, i < sc → g i < 56
def vq_tos (tO : Nat → Int32) (Dc Tc : List Nat) : Prop := ∀ i d, Dc[i]? = some d → tO d = if i + 1 = Dc.length then vq_tv Tc else -1
theorem vq_ent_hi {tO : Nat → Int32} {p : Nat} (h : 16 ≤ p) (hp : p < 2 ^ 31) : vq_ent tO (nI p) = nI p := by
  rw [vq_ent, if_neg (nI_pos hp), if_pos (vq_16le h hp)]
theorem vq_ent_lo {tO : Nat → Int32} {p : Nat} (h : p < 16) : vq_ent tO (nI p) = if tO p < 0 then nI p else 16 + tO p * 8 := by
  rw [vq_ent, if_neg (nI_pos (by omega)), if_neg (vq_n16le h), nI_clamp (by omega)]
theorem vq_ent_pl {tO : Nat → Int32} {Dc Tc : List Nat} {sc i d : Nat} (hs : vq_sh0 Dc Tc sc) (hD : ∀ d, d ∈ Dc → d < 16) (hT : ∀ t, t ∈ Tc → t < 5) (ht : vq_tos tO Dc Tc) (hd : Dc[i]? = some d) : vq_ent tO (nI d) = nI (vq_pl Dc Tc i) := by
  have hl := (List.getElem?_eq_some_iff.mp hd).1
  rw [vq_ent_lo (hD d (List.mem_of_getElem? hd)), ht i d hd]
  rcases hs with ⟨rfl, h⟩ | ⟨t, rfl⟩
  · rw [vq_pl_lo (by rw [List.length_nil]; omega) hd]
    have e : (if i + 1 = Dc.length then vq_tv [] else (-1 : Int32)) = -1 := by split <;> rfl
    rw [e, if_pos (by decide)]
  · have h5 := hT t (List.mem_singleton.mpr rfl)
    by_cases h1 : i + 1 = Dc.length
    · rw [if_pos h1]
      show (if nI t < 0 then nI d else 16 + nI t * 8) = _
      rw [if_neg (nI_pos (by omega)), vq_pl_hi (by omega), show (8 : Int32) = nI 8 from rfl, show (16 : Int32) = nI 16 from rfl, pk_mul, nI_add]
      exact congrArg nI (by omega)
    · rw [if_neg h1, if_pos (by decide), vq_pl_lo (by rw [List.length_singleton]; omega) hd]
theorem vq_wk_live {nx tO : Nat → Int32} {h : Int32} {Dc Tc : List Nat} {sc : Nat} (hs : vq_sh0 Dc Tc sc) (h8 : sc ≤ 8) (hD : ∀ d, d ∈ Dc → d < 16) (hT : ∀ t, t ∈ Tc → t < 5) (ht : vq_tos tO Dc Tc)
    (hl : ∀ i d e, Dc[i]? = some d → Dc[i + 1]? = some e → nx d = nI e) (hne : Dc ≠ []) (hh : ∀ e, Dc[0]? = some e → h = nI e) : vq_wk nx tO h (vq_pl Dc Tc) sc := by
  refine ⟨?_, ?_, ?_⟩
  · intro _
    have h0 : 0 < Dc.length := List.length_pos_iff.mpr hne
    rw [hh _ (vq_gq h0)]
    exact vq_ent_pl hs hD hT ht (vq_gq h0)
  · intro i hi
    by_cases h1 : i < Dc.length - Tc.length
    · have h2 : i + 1 < Dc.length := by
        rcases hs with ⟨rfl, h⟩ | ⟨t, rfl⟩
        · omega
        · rw [List.length_singleton] at h1; omega
      have hd := hD _ (List.mem_of_getElem? (vq_gq (l := Dc) (i := i) (by omega)))
      rw [vq_pl_lo h1 (vq_gq (by omega)), vq_aft, if_pos (nI_pos' (by omega)), if_pos (vq_lt16 hd), nI_clamp (by omega), hl i _ _ (vq_gq (by omega)) (vq_gq h2)]
      exact vq_ent_pl hs hD hT ht (vq_gq h2)
    · rcases hs with ⟨rfl, h⟩ | ⟨t, rfl⟩
      · rw [List.length_nil] at h1; omega
      · rw [List.length_singleton] at h1
        have h5 := hT t (List.mem_singleton.mpr rfl)
        rw [vq_pl_hi (by omega), vq_pl_hi (by omega), vq_aft, if_pos (nI_pos' (by omega)), if_neg (vq_nlt16 (by omega) (by omega)), nI_1]
        exact congrArg nI (by omega)
  · intro i hi
    exact vq_PL_lt hD hT (vq_pl_PL hs h8 hi)
theorem vq_wk_rc (nx tO : Nat → Int32) {sc : Nat} (h8 : sc ≤ 8) : vq_wk nx tO 48 (vq_pl [] [4]) sc := by
  refine ⟨?_, ?_, ?_⟩
  · intro _
    rw [vq_pl_4]
    exact vq_ent_hi (p := 48) (by omega) (by omega)
  · intro i hi
    rw [vq_pl_4, vq_pl_4, vq_aft, if_pos (nI_pos' (by omega)), if_neg (vq_nlt16 (by omega) (by omega)), nI_1]
    exact congrArg nI (by omega)
  · intro i hi
    rw [vq_pl_4]; omega
def vq_dat (tX sX oX dX wX tY sY dY wY : Nat → Int32) (x c oc sc : Nat) : Prop :=
  tX x = tY c ∧ sX x = nI sc ∧ sY c = nI sc ∧ oX x = nI oc ∧ dX x = dY c ∧ wX x = wY c
def vq_cel (me va kn : Nat → Int32) (Dc Tc : List Nat) (c oc sc : Nat) : Prop :=
  oc ≤ sc ∧ sc ≤ 8 ∧ ∀ i, i < sc → me (vq_pl Dc Tc i) = va (c * 8 + i) ∧ kn (c * 8 + i) = if i < oc then 0 else 1
def vq_lnk (hX lX tO dY : Nat → Int32) (Dc Tc : List Nat) (x c sc : Nat) : Prop :=
  vq_shape Dc Tc sc (dY c) ∧ (Dc = [] → hX x = -1 ∧ lX x = -1) ∧ (∀ e, Dc[0]? = some e → hX x = nI e) ∧ (∀ e, Dc.getLast? = some e → lX x = nI e) ∧ vq_tos tO Dc Tc
def vq_sub (a : Int32) : Prop := ∃ q, 1 ≤ q ∧ q ≤ 5 ∧ a = nI q
def vq_C1 (me tO tX sX oX dX wX hX lX tY sY dY wY va kn : Nat → Int32) (a : Int32) (Dc Tc : List Nat) (c oc sc : Nat) : Prop :=
  (a = -1 → Dc = [] ∧ Tc = []) ∧
  (a = 6 → Dc = [] ∧ Tc = [] ∧ hX 17 = 48 ∧ vq_dat tX sX oX dX wX tY sY dY wY 17 c oc sc ∧ vq_cel me va kn [] [4] c oc sc) ∧
  (a = 0 → vq_dat tX sX oX dX wX tY sY dY wY 16 c oc sc ∧ vq_cel me va kn Dc Tc c oc sc ∧ vq_lnk hX lX tO dY Dc Tc 16 c sc) ∧
  (vq_sub a → 1 ≤ sc ∧ Dc ≠ [] ∧ vq_dat tX sX oX dX wX tY sY dY wY (Dc.headD 0) c oc sc ∧ vq_cel me va kn Dc Tc c oc sc ∧ vq_lnk hX lX tO dY Dc Tc (Dc.headD 0) c sc)
def vq_isx (a : Int32) (Dc : List Nat) (x : Nat) : Prop := (a = 0 ∧ x = 16) ∨ (a = 6 ∧ x = 17) ∨ (vq_sub a ∧ x = Dc.headD 0)
def vq_PA (a : Int32) (Dc Tc : List Nat) (p : Nat) : Prop := vq_PL Dc Tc p ∨ (a = 6 ∧ vq_PL [] [4] p)
section vq_fr
variable {me tO tX sX oX dX wX hX lX tY sY dY wY va kn me' tO' tX' sX' oX' dX' wX' hX' lX' tY' sY' dY' wY' va' kn' : Nat → Int32} {a : Int32} {Dc Tc : List Nat} {x c oc sc : Nat}
theorem vq_dat_fr (h : vq_dat tX sX oX dX wX tY sY dY wY x c oc sc) (hx : tX' x = tX x ∧ sX' x = sX x ∧ oX' x = oX x ∧ dX' x = dX x ∧ wX' x = wX x ∧ hX' x = hX x ∧ lX' x = lX x)
    (hy : tY' c = tY c ∧ sY' c = sY c ∧ dY' c = dY c ∧ wY' c = wY c) : vq_dat tX' sX' oX' dX' wX' tY' sY' dY' wY' x c oc sc := by
  obtain ⟨h1, h2, h3, h4, h5, h6⟩ := h
  obtain ⟨x1, x2, x3, x4, x5, _, _⟩ := hx
  obtain ⟨y1, y2, y3, y4⟩ := hy
  exact ⟨by rw [x1, y1, h1], by rw [x2, h2], by rw [y2, h3], by rw [x3, h4], by rw [x4, y3, h5], by rw [x5, y4, h6]⟩
theorem vq_cel_fr (h : vq_cel me va kn Dc Tc c oc sc) (hs : vq_sh0 Dc Tc sc) (hm : ∀ p, vq_PL Dc Tc p → me' p = me p) (hv : ∀ i, i < 8 → va' (c * 8 + i) = va (c * 8 + i) ∧ kn' (c * 8 + i) = kn (c * 8 + i)) : vq_cel me' va' kn' Dc Tc c oc sc := by
  obtain ⟨h1, h2, h3⟩ := h
  refine ⟨h1, h2, fun i hi => ?_⟩
  rw [hm _ (vq_pl_PL hs h2 hi), (hv i (by omega)).1, (hv i (by omega)).2]
  exact h3 i hi
theorem vq_lnk_fr (h : vq_lnk hX lX tO dY Dc Tc x c sc) (hx : hX' x = hX x ∧ lX' x = lX x) (ht : ∀ d, d ∈ Dc → tO' d = tO d) (hy : dY' c = dY c) : vq_lnk hX' lX' tO' dY' Dc Tc x c sc := by
  obtain ⟨h1, h2, h3, h4, h5⟩ := h
  refine ⟨by rw [hy]; exact h1, ?_, ?_, ?_, ?_⟩
  · rw [hx.1, hx.2]; exact h2
  · rw [hx.1]; exact h3
  · rw [hx.2]; exact h4
  · intro i d hd
    rw [ht d (List.mem_of_getElem? hd)]
    exact h5 i d hd
theorem vq_C1_fr (h : vq_C1 me tO tX sX oX dX wX hX lX tY sY dY wY va kn a Dc Tc c oc sc)
    (hx : ∀ x, vq_isx a Dc x → tX' x = tX x ∧ sX' x = sX x ∧ oX' x = oX x ∧ dX' x = dX x ∧ wX' x = wX x ∧ hX' x = hX x ∧ lX' x = lX x)
    (hm : ∀ p, vq_PA a Dc Tc p → me' p = me p) (ht : ∀ d, d ∈ Dc → tO' d = tO d)
    (hy : tY' c = tY c ∧ sY' c = sY c ∧ dY' c = dY c ∧ wY' c = wY c)
    (hv : ∀ i, i < 8 → va' (c * 8 + i) = va (c * 8 + i) ∧ kn' (c * 8 + i) = kn (c * 8 + i)) :
    vq_C1 me' tO' tX' sX' oX' dX' wX' hX' lX' tY' sY' dY' wY' va' kn' a Dc Tc c oc sc := by
  obtain ⟨h1, h2, h3, h4⟩ := h
  refine ⟨h1, ?_, ?_, ?_⟩
  · intro e
    obtain ⟨z1, z2, z3, z4, z5⟩ := h2 e
    have hx' := hx 17 (Or.inr (Or.inl ⟨e, rfl⟩))
    exact ⟨z1, z2, by rw [hx'.2.2.2.2.2.1]; exact z3, vq_dat_fr z4 hx' hy, vq_cel_fr z5 (Or.inr ⟨4, rfl⟩) (fun p hp => hm p (Or.inr ⟨e, hp⟩)) hv⟩
  · intro e
    obtain ⟨z4, z5, z6⟩ := h3 e
    have hx' := hx 16 (Or.inl ⟨e, rfl⟩)
    exact ⟨vq_dat_fr z4 hx' hy, vq_cel_fr z5 (vq_shape0 z6.1) (fun p hp => hm p (Or.inl hp)) hv, vq_lnk_fr z6 hx'.2.2.2.2.2 ht hy.2.2.1⟩
  · intro e
    obtain ⟨z1, z2, z4, z5, z6⟩ := h4 e
    have hx' := hx (Dc.headD 0) (Or.inr (Or.inr ⟨e, rfl⟩))
    exact ⟨z1, z2, vq_dat_fr z4 hx' hy, vq_cel_fr z5 (vq_shape0 z6.1) (fun p hp => hm p (Or.inl hp)) hv, vq_lnk_fr z6 hx'.2.2.2.2.2 ht hy.2.2.1⟩
end vq_fr
end
section
/-! sizes, rings, the relation's groups -/
def vq_N (N M TT : Nat) : Prop := (N = 4 ∨ N = 8 ∨ N = 16) ∧ (M = 8 ∨ M = 16 ∨ M = 32 ∨ M = 64 ∨ M = 128 ∨ M = 256) ∧ 2 * N ≤ M ∧ TT ≤ 4
theorem vq_mm {N M TT : Nat} (h : vq_N N M TT) (p : Nat) : p % M % N = p % N := by
  obtain ⟨h1, h2, h3, _⟩ := h
  apply Nat.mod_mod_of_dvd
  apply Nat.dvd_of_mod_eq_zero
  rcases h1 with rfl | rfl | rfl <;> rcases h2 with rfl | rfl | rfl | rfl | rfl | rfl <;> first | rfl | omega
theorem vq_andI (x : Int32) {M : Nat} (hM : M = 4 ∨ M = 8 ∨ M = 16 ∨ M = 32 ∨ M = 64 ∨ M = 128 ∨ M = 256) : x &&& nI (M - 1) = nI (x.toInt % (M : Int)).toNat := by
  have key : ∀ k, k ≤ 8 → x &&& nI (2 ^ k - 1) = nI (x.toBitVec.toNat % 2 ^ k) := by
    intro k hk
    apply pk_and
    apply pk_tn
    have := Nat.pow_le_pow_right (n := 2) (by decide) hk
    omega
  have e : x.toInt = x.toBitVec.toInt := rfl
  rw [e, BitVec.toInt_eq_toNat_cond]
  have hlt := x.toBitVec.isLt
  rcases hM with rfl | rfl | rfl | rfl | rfl | rfl | rfl
  · refine (key 2 (by omega)).trans (congrArg nI ?_); split <;> omega
  · refine (key 3 (by omega)).trans (congrArg nI ?_); split <;> omega
  · refine (key 4 (by omega)).trans (congrArg nI ?_); split <;> omega
  · refine (key 5 (by omega)).trans (congrArg nI ?_); split <;> omega
  · refine (key 6 (by omega)).trans (congrArg nI ?_); split <;> omega
  · refine (key 7 (by omega)).trans (congrArg nI ?_); split <;> omega
  · refine (key 8 (by omega)).trans (congrArg nI ?_); split <;> omega
theorem vq_andM {N M TT : Nat} (h : vq_N N M TT) (x : Int32) : x &&& nI (M - 1) = nI (x.toInt % (M : Int)).toNat := vq_andI x (by have := h.2.1; omega)
theorem vq_andNn {N M TT : Nat} (h : vq_N N M TT) {n : Nat} (hn : n < 2 ^ 31) : nI n &&& nI (N - 1) = nI (n % N) := by
  rw [vq_andI (nI n) (M := N) (by have := h.1; omega), nI_toInt hn]
  exact congrArg nI (by omega)
theorem vq_andMn {N M TT : Nat} (h : vq_N N M TT) {n : Nat} (hn : n < 2 ^ 31) : nI n &&& nI (M - 1) = nI (n % M) := by
  rw [vq_andM h, nI_toInt hn]
  exact congrArg nI (by omega)
theorem vq_andMs {N M TT : Nat} (h : vq_N N M TT) {a b : Nat} (ha : a < M) (hb : b ≤ M) : (nI a - nI b) &&& nI (M - 1) = nI ((a + M - b) % M) := by
  have h2 := h.2.1
  rw [vq_andM h, pk_sub_toInt (by omega) (by omega)]
  congr 1
  rcases h2 with rfl | rfl | rfl | rfl | rfl | rfl <;> omega
def vq_rg (N M : Nat) (D : Nat → List Nat) (sl : Nat → Int32) (b : Nat) (se ix un : Int32) (W U : List Nat) : Prop :=
  ∃ p, p < M ∧ se = nI p ∧ ix = nI ((p + W.length) % M) ∧ un = nI U.length ∧ ∀ i c, (W ++ U)[i]? = some c → sl (b + (p + i) % N) = nI ((D c).headD 0)
theorem vq_rg_cg {N M : Nat} {D D' : Nat → List Nat} {sl : Nat → Int32} {b : Nat} {se ix un : Int32} {W U : List Nat} (h : vq_rg N M D sl b se ix un W U) (hd : ∀ c, c ∈ W ∨ c ∈ U → (D' c).headD 0 = (D c).headD 0) : vq_rg N M D' sl b se ix un W U := by
  obtain ⟨p, h1, h2, h3, h4, h5⟩ := h
  refine ⟨p, h1, h2, h3, h4, fun i c hi => ?_⟩
  rw [hd c (List.mem_append.mp (List.mem_of_getElem? hi))]
  exact h5 i c hi
theorem vq_rg_sl {N M : Nat} {D : Nat → List Nat} {sl sl' : Nat → Int32} {b : Nat} {se ix un : Int32} {W U : List Nat} (h : vq_rg N M D sl b se ix un W U) (hd : ∀ j, j < N → sl' (b + j) = sl (b + j)) (hN : 0 < N) : vq_rg N M D sl' b se ix un W U := by
  obtain ⟨p, h1, h2, h3, h4, h5⟩ := h
  refine ⟨p, h1, h2, h3, h4, fun i c hi => ?_⟩
  rw [hd _ (Nat.mod_lt _ hN)]
  exact h5 i c hi
theorem vq_rg_push {N M TT : Nat} {D : Nat → List Nat} {sl : Nat → Int32} {b : Nat} {se ix un : Int32} {W U : List Nat} {c : Nat} (hN : vq_N N M TT) (h : vq_rg N M D sl b se ix un W U) (hl : W.length + U.length < N) :
    ∃ j, j < N ∧ (ix + un) &&& nI (N - 1) = nI j ∧ vq_rg N M D (upd sl (b + j) (nI ((D c).headD 0))) b se ix (un + 1) W (U ++ [c]) := by
  obtain ⟨p, h1, h2, h3, h4, h5⟩ := h
  obtain ⟨hn1, hn2, hn3, hn4⟩ := id hN
  have hN0 : 0 < N := by omega
  have hM0 : 0 < M := by omega
  have hb := Nat.mod_lt (p + W.length) hM0
  refine ⟨(p + (W.length + U.length)) % N, Nat.mod_lt _ hN0, ?_, p, h1, h2, h3, ?_, ?_⟩
  · rw [h3, h4, nI_add, vq_andNn hN (by omega)]
    congr 1
    rw [Nat.add_mod, vq_mm hN, ← Nat.add_mod]
    congr 1
    omega
  · rw [h4, nI_1, List.length_append, List.length_singleton]
  · intro i c' hi
    have hli := (List.getElem?_eq_some_iff.mp hi).1
    rw [← List.append_assoc] at hi
    simp only [List.length_append, List.length_singleton] at hli
    by_cases e : i = W.length + U.length
    · rw [List.getElem?_append_right (by rw [List.length_append]; omega), List.length_append, show i - (W.length + U.length) = 0 by omega] at hi
      have ec : c = c' := by simpa using hi
      rw [e, pk_us, ec]
    · rw [List.getElem?_append_left (by rw [List.length_append]; omega)] at hi
      rw [pk_un ?_]
      · exact h5 i c' hi
      · intro z
        have z2 : (p + i) % N = (p + (W.length + U.length)) % N := by omega
        rcases hn1 with rfl | rfl | rfl <;> omega
theorem vq_rg_take {N M TT : Nat} {D : Nat → List Nat} {sl : Nat → Int32} {b : Nat} {se ix un : Int32} {W U : List Nat} {c : Nat} (hN : vq_N N M TT) (h : vq_rg N M D sl b se ix un (c :: W) U) :
    ∃ j, j < N ∧ se &&& nI (N - 1) = nI j ∧ sl (b + j) = nI ((D c).headD 0) ∧ vq_rg N M D sl b ((se + 1) &&& nI (M - 1)) ix un W U := by
  obtain ⟨p, h1, h2, h3, h4, h5⟩ := h
  obtain ⟨hn1, hn2, hn3, hn4⟩ := id hN
  have hN0 : 0 < N := by omega
  have hM0 : 0 < M := by omega
  refine ⟨p % N, Nat.mod_lt _ hN0, ?_, ?_, (p + 1) % M, Nat.mod_lt _ hM0, ?_, ?_, h4, ?_⟩
  · rw [h2, vq_andNn hN (by omega)]
  · exact h5 0 c rfl
  · rw [h2, nI_1, vq_andMn hN (by omega)]
  · rw [h3, List.length_cons]
    congr 1
    rw [Nat.add_mod ((p + 1) % M), Nat.mod_mod, ← Nat.add_mod]
    congr 1
    omega
  · intro i c' hi
    have h6 := h5 (i + 1) c' (by rw [List.cons_append, List.getElem?_cons_succ]; exact hi)
    rw [← h6]
    congr 2
    rw [Nat.add_mod, vq_mm hN, ← Nat.add_mod]
    congr 1
    omega
theorem vq_rg_pub {N M TT : Nat} {D : Nat → List Nat} {sl : Nat → Int32} {b : Nat} {se ix un : Int32} {W U : List Nat} (hN : vq_N N M TT) (h : vq_rg N M D sl b se ix un W U) (hU : U.length ≤ 18) :
    vq_rg N M D sl b se ((ix + un) &&& nI (M - 1)) 0 (W ++ U) [] := by
  obtain ⟨p, h1, h2, h3, h4, h5⟩ := h
  obtain ⟨hn1, hn2, hn3, hn4⟩ := id hN
  have hM0 : 0 < M := by omega
  have hb := Nat.mod_lt (p + W.length) hM0
  refine ⟨p, h1, h2, ?_, rfl, ?_⟩
  · rw [h3, h4, nI_add, vq_andMn hN (by omega)]
    congr 1
    rw [Nat.add_mod, Nat.mod_mod, ← Nat.add_mod, List.length_append]
    congr 1
    omega
  · intro i c hi
    rw [List.append_nil] at hi
    exact h5 i c hi
theorem vq_rg_wait {N M TT : Nat} {D : Nat → List Nat} {sl : Nat → Int32} {b : Nat} {se ix un : Int32} {W U : List Nat} (hN : vq_N N M TT) (h : vq_rg N M D sl b se ix un W U) (hW : W.length ≤ N) :
    (ix - se) &&& nI (M - 1) = nI W.length := by
  obtain ⟨p, h1, h2, h3, h4, h5⟩ := h
  obtain ⟨hn1, hn2, hn3, hn4⟩ := id hN
  have hM0 : 0 < M := by omega
  have hb := Nat.mod_lt (p + W.length) hM0
  rw [h2, h3, vq_andMs hN hb (by omega)]
  congr 1
  rcases hn2 with rfl | rfl | rfl | rfl | rfl | rfl <;> omega
theorem vq_bnd {at' : Nat → Int32} {si : Nat → Int64} {clk : Int64} {L D : Nat → List Nat} {K N : Nat} (h : vq_L at' si clk L K) (hC : ∀ c, c < 18 → vq_sub (at' c) → D c ≠ []) (hN : vq_sm (fun c => (D c).length) 19 = N) :
    (L 1).length + (L 2).length + (L 3).length + (L 4).length + (L 5).length + (D 18).length ≤ N := by
  have key : ∀ n, n ≤ 18 → vq_cn (fun c => decide (at' c = nI 1)) n + vq_cn (fun c => decide (at' c = nI 2)) n + vq_cn (fun c => decide (at' c = nI 3)) n + vq_cn (fun c => decide (at' c = nI 4)) n + vq_cn (fun c => decide (at' c = nI 5)) n ≤ vq_sm (fun c => (D c).length) n := by
    intro n
    induction n with
    | zero => intro _; exact Nat.le_refl _
    | succ n ih =>
      intro hn
      have ih := ih (by omega)
      by_cases hs : vq_sub (at' n)
      · have hd := List.length_pos_iff.mpr (hC n (by omega) hs)
        obtain ⟨q, h1, h2, h3⟩ := hs
        have hq : q = 1 ∨ q = 2 ∨ q = 3 ∨ q = 4 ∨ q = 5 := by omega
        have hz : (if decide (at' n = nI 1) = true then 1 else 0) + (if decide (at' n = nI 2) = true then 1 else 0) + (if decide (at' n = nI 3) = true then 1 else 0) + (if decide (at' n = nI 4) = true then 1 else 0) + (if decide (at' n = nI 5) = true then 1 else 0) = 1 := by
          rw [h3]
          rcases hq with rfl | rfl | rfl | rfl | rfl <;> decide
        simp only [vq_cn, vq_sm]
        omega
      · have hz : ∀ q, 1 ≤ q → q ≤ 5 → (if decide (at' n = nI q) = true then 1 else 0) = 0 := by
          intro q h1 h2
          rw [if_neg]
          rw [decide_eq_true_eq]
          exact fun z => hs ⟨q, h1, h2, z⟩
        have z1 := hz 1 (by omega) (by omega)
        have z2 := hz 2 (by omega) (by omega)
        have z3 := hz 3 (by omega) (by omega)
        have z4 := hz 4 (by omega) (by omega)
        have z5 := hz 5 (by omega) (by omega)
        simp only [vq_cn, vq_sm]
        omega
  have k := key 18 (by omega)
  rw [vq_L_len h (by omega), vq_L_len h (by omega), vq_L_len h (by omega), vq_L_len h (by omega), vq_L_len h (by omega)] at k
  rw [vq_sm] at hN
  omega
def vq_G1 (N M TT : Nat) (f_slotMask f_indexMask g_descriptors g_modulus g_allTables : Int32) : Prop :=
  vq_N N M TT ∧ f_slotMask = nI (N - 1) ∧ f_indexMask = nI (M - 1) ∧ g_descriptors = nI N ∧ g_modulus = nI M ∧ g_allTables = nI TT
def vq_G3 (a_next a_tableNext : Nat → Int32) (D T : Nat → List Nat) (N TT : Nat) : Prop :=
  vq_K a_next D 16 ∧ vq_K a_tableNext T 4 ∧ vq_sm (fun c => (D c).length) 19 = N ∧ vq_sm (fun c => (T c).length) 19 = TT
def vq_G4 (f_freeHead f_freeCount f_freeTableHead f_freeTableCount : Int32) (D T : Nat → List Nat) : Prop :=
  (∀ e, (D 18)[0]? = some e → f_freeHead = nI e) ∧ f_freeCount = nI (D 18).length ∧ (∀ e, (T 18)[0]? = some e → f_freeTableHead = nI e) ∧ f_freeTableCount = nI (T 18).length
def vq_G5 (f_openCount f_receiptCount : Int32) (L : Nat → List Nat) : Prop :=
  f_openCount = nI (L 0).length ∧ (L 0).length ≤ 1 ∧ f_receiptCount = nI (L 6).length ∧ (L 6).length ≤ 1
def vq_G7 (f_heldCount : Int32) (a_held : Nat → Int32) (L D : Nat → List Nat) : Prop :=
  f_heldCount = nI (L 3).length ∧ ∀ i c, (L 3)[i]? = some c → a_held i = nI ((D c).headD 0)
def vq_G8 (N M : Nat) (D L : Nat → List Nat) (a_slots a_seen a_index a_unpublished : Nat → Int32) : Prop :=
  vq_rg N M D a_slots 0 (a_seen 1) (a_index 0) (a_unpublished 0) (L 2) (L 1) ∧ vq_rg N M D a_slots 16 (a_seen 0) (a_index 1) (a_unpublished 1) (L 5) (L 4)
def vq_G9 (M : Nat) (a_state a_pending a_index a_event a_unchecked b_state b_pending b_index b_event b_unchecked : Nat → Int32) : Prop :=
  a_state = b_state ∧ a_pending = b_pending ∧ a_index = b_index ∧ a_event = b_event ∧ a_unchecked = b_unchecked ∧ ∀ s, s < 2 → (∃ e, e < M ∧ a_event s = nI e) ∧ ∃ u, u ≤ M ∧ a_unchecked s = nI u
def vq_G6 (b_at a_memory a_tableOf a_tags a_sizes a_outs a_directs a_writtens a_heads a_tails b_tags b_size b_direct b_written b_values b_kinds : Nat → Int32) (D T : Nat → List Nat) (o sz : Nat → Nat) : Prop :=
  ∀ c, c < 18 → vq_C1 a_memory a_tableOf a_tags a_sizes a_outs a_directs a_writtens a_heads a_tails b_tags b_size b_direct b_written b_values b_kinds (b_at c) (D c) (T c) c (o c) (sz c)
def vq_RR (k : Nat) (N M TT : Nat) (L D T : Nat → List Nat) (o sz : Nat → Nat) (u : SX) (v : SY) : Prop := match u, v with
  | (f_ringRoom, f_tableBase, f_receiptBase, f_openChain, f_receiptChain, f_slotMask, f_indexMask, f_freeHead, f_freeCount, f_freeTableHead, f_freeTableCount, f_openCount, f_receiptCount, f_heldCount, a_memory, a_next, a_tableOf, a_tableNext, a_tags, a_sizes, a_outs, a_directs, a_writtens, a_heads, a_tails, a_held, a_slots, a_unpublished, a_index, a_unchecked, a_seen, a_event, a_state, a_pending), (g_clock, g_descriptors, g_modulus, g_allTables, b_at, b_since, b_tags, b_size, b_direct, b_written, b_values, b_kinds, b_state, b_pending, b_index, b_event, b_unchecked) =>
    vq_G1 N M TT f_slotMask f_indexMask g_descriptors g_modulus g_allTables ∧
    vq_L b_at b_since g_clock L (5 * k) ∧
    vq_G3 a_next a_tableNext D T N TT ∧
    vq_G4 f_freeHead f_freeCount f_freeTableHead f_freeTableCount D T ∧
    vq_G5 f_openCount f_receiptCount L ∧
    vq_G6 b_at a_memory a_tableOf a_tags a_sizes a_outs a_directs a_writtens a_heads a_tails b_tags b_size b_direct b_written b_values b_kinds D T o sz ∧
    vq_G7 f_heldCount a_held L D ∧
    vq_G8 N M D L a_slots a_seen a_index a_unpublished ∧
    vq_G9 M a_state a_pending a_index a_event a_unchecked b_state b_pending b_index b_event b_unchecked
/-- the relation at the head of a turn whose first cell is k -/
def i_Rel (k : Nat) (u : SX) (v : SY) : Prop := ∃ (N M TT : Nat) (L D T : Nat → List Nat) (o sz : Nat → Nat), vq_RR k N M TT L D T o sz u v
theorem i_up {k : Nat} {u : SX} {v : SY} (h : i_Rel k u v) : i_Rel (k + 4) u v := by
  obtain ⟨f_ringRoom, f_tableBase, f_receiptBase, f_openChain, f_receiptChain, f_slotMask, f_indexMask, f_freeHead, f_freeCount, f_freeTableHead, f_freeTableCount, f_openCount, f_receiptCount, f_heldCount, a_memory, a_next, a_tableOf, a_tableNext, a_tags, a_sizes, a_outs, a_directs, a_writtens, a_heads, a_tails, a_held, a_slots, a_unpublished, a_index, a_unchecked, a_seen, a_event, a_state, a_pending⟩ := u
  obtain ⟨g_clock, g_descriptors, g_modulus, g_allTables, b_at, b_since, b_tags, b_size, b_direct, b_written, b_values, b_kinds, b_state, b_pending, b_index, b_event, b_unchecked⟩ := v
  obtain ⟨N, M, TT, L, D, T, o, sz, h1, h2, h3⟩ := h
  exact ⟨N, M, TT, L, D, T, o, sz, h1, vq_L_up h2 (by omega), h3⟩
end
section
/-! the reference's small methods -/
def vq_rk (at' : Nat → Int32) (si : Nat → Int64) (s : Int32) (c j : Nat) : Nat := vq_cn (fun d => decide ((si d).toInt < (si c).toInt) && decide (at' d = s)) j
def vq_fr1 (a dr si : Int32) (d t : Nat) : Prop :=
  ((a < 0 ∨ 5 < a) → d = 0 ∧ t = 0) ∧ (¬ a < 0 → ¬ 5 < a → (0 ≤ dr → dr + 1 = nI d ∧ t = 1) ∧ (¬ 0 ≤ dr → si = nI d ∧ t = 0))
section vq_Y
variable {g_clock : Int64} {g_descriptors g_modulus g_allTables : Int32} {b_since : Nat → Int64} {b_at b_tags b_size b_direct b_written b_values b_kinds b_state b_pending b_index b_event b_unchecked : Nat → Int32}
theorem vq_y_count_l {post : Int32 → Prop} {s : Int32} (hp : post (nI (vq_cn (fun c => decide (b_at c = s)) 18))) : ∀ n j, j ≤ 18 → 18 - j < n → wY_count_16 post s g_clock g_descriptors g_modulus g_allTables b_at b_since b_tags b_size b_direct b_written b_values b_kinds b_state b_pending b_index b_event b_unchecked n (nI (vq_cn (fun c => decide (b_at c = s)) j)) (nI j) := by
  intro n
  induction n with
  | zero => intro j _ h; omega
  | succ n ih =>
    intro j hj hn
    by_cases e : j = 18
    · subst e
      exact br_t (nI_le (a := 18) (b := 18) (by omega) (by omega)) hp
    · refine br_f (nI_ge (b := 18) (by omega) (by decide)) ⟨vp_in_nI (by omega) (by decide), ?_⟩
      rw [nI_clamp (by omega)]
      by_cases hs : b_at j = s
      · refine br_t hs ?_
        intro x2 e2 x3 e3
        have := ih (j + 1) (by omega) (by omega)
        rw [vq_cn_t (by rw [decide_eq_true_eq]; exact hs)] at this
        rw [e2, e3, nI_1, nI_1]
        exact this
      · refine br_f hs ?_
        intro x3 e3
        have := ih (j + 1) (by omega) (by omega)
        rw [vq_cn_f (by rw [decide_eq_true_eq]; exact hs)] at this
        rw [e3, nI_1]
        exact this
theorem vq_y_count {post : Int32 → Prop} {q K : Nat} {L : Nat → List Nat} (hL : vq_L b_at b_since g_clock L K) (hq : q < 7) (hp : post (nI (L q).length)) : wpY_count post (g_clock, g_descriptors, g_modulus, g_allTables, b_at, b_since, b_tags, b_size, b_direct, b_written, b_values, b_kinds, b_state, b_pending, b_index, b_event, b_unchecked) (nI q) := by
  rw [← vq_L_len hL hq] at hp
  exact br_f (nI_pos (by omega)) (br_t (nI_le (b := 6) (by omega) (by decide)) ⟨19, vq_y_count_l hp 19 0 (by omega) (by omega)⟩)
theorem vq_y_find_i {post : Int32 → Prop} {J : Int32 → Prop} {s p : Int32} {c : Nat} (hc : c < 18)
    (h1 : b_at c = s → nI (vq_rk b_at b_since s c 18) = p → post (nI c)) (h2 : ¬ (b_at c = s ∧ nI (vq_rk b_at b_since s c 18) = p) → J (nI (c + 1))) :
    ∀ n j, j ≤ 18 → 18 - j < n → wY_find_26 post J s p (nI c) g_clock g_descriptors g_modulus g_allTables b_at b_since b_tags b_size b_direct b_written b_values b_kinds b_state b_pending b_index b_event b_unchecked n (nI (vq_rk b_at b_since s c j)) (nI j) := by
  intro n
  induction n with
  | zero => intro j _ h; omega
  | succ n ih =>
    intro j hj hn
    have cc : (nI c).toNatClampNeg = c := nI_clamp (by omega)
    by_cases e : j = 18
    · subst e
      refine br_t (nI_le (a := 18) (b := 18) (by omega) (by omega)) ⟨vp_in_nI hc (by decide), ?_⟩
      rw [cc]
      by_cases ha : b_at c = s
      · refine br_t ha ?_
        by_cases hr : nI (vq_rk b_at b_since s c 18) = p
        · exact br_t hr (h1 ha hr)
        · refine br_f hr ?_
          intro x e
          rw [e, nI_1]
          exact h2 (fun z => hr z.2)
      · refine br_f ha ?_
        intro x e
        rw [e, nI_1]
        exact h2 (fun z => ha z.1)
    · refine br_f (nI_ge (b := 18) (by omega) (by decide)) ⟨vp_in_nI (by omega) (by decide), ?_⟩
      rw [nI_clamp (n := j) (by omega), cc]
      have ih := ih (j + 1) (by omega) (by omega)
      by_cases hs : b_at j = s
      · refine br_t hs ⟨vp_in_nI (by omega) (by decide), vp_in_nI hc (by decide), ?_⟩
        by_cases hl : b_since c ≤ b_since j
        · refine br_t hl ?_
          intro x e
          rw [e, nI_1]
          rw [Int64.le_iff_toInt_le] at hl
          rw [vq_rk, vq_cn_f (by simp; intro z; omega)] at ih
          exact ih
        · refine br_f hl ?_
          intro x4 e4 x e
          rw [e, e4, nI_1, nI_1]
          rw [Int64.le_iff_toInt_le] at hl
          rw [vq_rk, vq_cn_t (by simp [hs]; omega)] at ih
          exact ih
      · refine br_f hs ?_
        intro x e
        rw [e, nI_1]
        rw [vq_rk, vq_cn_f (by simp [hs])] at ih
        exact ih
theorem vq_y_find_o {post : Int32 → Prop} {s p : Int32} (h1 : ∀ c, c < 18 → b_at c = s → nI (vq_rk b_at b_since s c 18) = p → post (nI c))
    (h2 : (∀ c, c < 18 → ¬ (b_at c = s ∧ nI (vq_rk b_at b_since s c 18) = p)) → post (-1)) :
    ∀ n c, c ≤ 18 → 18 - c < n → (∀ c', c' < c → ¬ (b_at c' = s ∧ nI (vq_rk b_at b_since s c' 18) = p)) → wY_find_14 post s p g_clock g_descriptors g_modulus g_allTables b_at b_since b_tags b_size b_direct b_written b_values b_kinds b_state b_pending b_index b_event b_unchecked n (nI c) := by
  intro n
  induction n with
  | zero => intro j _ h; omega
  | succ n ih =>
    intro c hc hn hno
    by_cases e : c = 18
    · subst e
      exact br_t (nI_le (a := 18) (b := 18) (by omega) (by omega)) (h2 hno)
    · refine br_f (nI_ge (b := 18) (by omega) (by decide)) ⟨19, ?_⟩
      refine vq_y_find_i (by omega) (h1 c (by omega)) ?_ 19 0 (by omega) (by omega)
      intro hz
      refine ih (c + 1) (by omega) (by omega) ?_
      intro c' hc'
      by_cases e' : c' = c
      · rw [e']; exact hz
      · exact hno c' (by omega)
theorem vq_y_find {post : Int32 → Prop} {q K : Nat} {p : Int32} {L : Nat → List Nat} (hL : vq_L b_at b_since g_clock L K) (hq : q < 7)
    (h1 : ∀ i c, (L q)[i]? = some c → p = nI i → post (nI c)) (h2 : (∀ i, i < (L q).length → p ≠ nI i) → post (-1)) : wpY_find post (g_clock, g_descriptors, g_modulus, g_allTables, b_at, b_since, b_tags, b_size, b_direct, b_written, b_values, b_kinds, b_state, b_pending, b_index, b_event, b_unchecked) (nI q) p := by
  refine br_f (nI_pos (by omega)) (br_t (nI_le (b := 6) (by omega) (by decide)) ⟨19, ?_⟩)
  refine vq_y_find_o ?_ ?_ 19 0 (by omega) (by omega) (fun c' h => absurd h (by omega))
  · intro c hc ha hr
    obtain ⟨i, hi⟩ := List.mem_iff_getElem?.mp ((hL.2.1 q hq c).mpr ⟨hc, ha⟩)
    have := vq_L_rk hL hq hi
    rw [vq_rk, this] at hr
    exact h1 i c hi hr.symm
  · intro hno
    apply h2
    intro i hi e
    have hg := vq_gq hi
    have hk := vq_L_rk hL hq hg
    have ha := vq_L_at hL hq hg
    exact hno _ ha.1 ⟨ha.2, by rw [vq_rk, hk, e]⟩
theorem vq_y_find0 {post : Int32 → Prop} {q K : Nat} {L : Nat → List Nat} (hL : vq_L b_at b_since g_clock L K) (hq : q < 7)
    (h1 : ∀ c l, L q = c :: l → post (nI c)) (h2 : L q = [] → post (-1)) : wpY_find post (g_clock, g_descriptors, g_modulus, g_allTables, b_at, b_since, b_tags, b_size, b_direct, b_written, b_values, b_kinds, b_state, b_pending, b_index, b_event, b_unchecked) (nI q) 0 := by
  refine vq_y_find hL hq ?_ ?_
  · intro i c hi e
    have hl := (List.getElem?_eq_some_iff.mp hi).1
    have hl2 := vq_L_le hL hq
    have : 0 = i := vq_inj (a := 0) e (by omega) (by omega)
    subst this
    cases hLq : L q with
    | nil => rw [hLq] at hi; simp at hi
    | cons a l =>
      rw [hLq] at hi
      have ea : a = c := by simpa using hi
      rw [← ea]
      exact h1 a l hLq
  · intro hno
    apply h2
    cases hLq : L q with
    | nil => rfl
    | cons a l => exact absurd rfl (hno 0 (by rw [hLq]; simp))
theorem vq_y_find_b {post : Int32 → Prop} {s p : Int32} (hs : s < 0 ∨ ¬ s ≤ 6) (hp : post (-1)) : wpY_find post (g_clock, g_descriptors, g_modulus, g_allTables, b_at, b_since, b_tags, b_size, b_direct, b_written, b_values, b_kinds, b_state, b_pending, b_index, b_event, b_unchecked) s p := by
  refine br_c (fun _ => hp) (fun h => ?_)
  exact br_f (hs.resolve_left h) hp
theorem vq_y_count_b {post : Int32 → Prop} {s : Int32} (hs : s < 0 ∨ ¬ s ≤ 6) (hp : post (-1)) : wpY_count post (g_clock, g_descriptors, g_modulus, g_allTables, b_at, b_since, b_tags, b_size, b_direct, b_written, b_values, b_kinds, b_state, b_pending, b_index, b_event, b_unchecked) s := by
  refine br_c (fun _ => hp) (fun h => ?_)
  exact br_f (hs.resolve_left h) hp
theorem vq_y_move {post : SY → Prop} {c : Nat} {s : Int32} (hc : c < 18) (hp : post (g_clock + 1, g_descriptors, g_modulus, g_allTables, upd b_at c s, vp_updL b_since c (g_clock + 1), b_tags, b_size, b_direct, b_written, b_values, b_kinds, b_state, b_pending, b_index, b_event, b_unchecked)) : wpY_move post (g_clock, g_descriptors, g_modulus, g_allTables, b_at, b_since, b_tags, b_size, b_direct, b_written, b_values, b_kinds, b_state, b_pending, b_index, b_event, b_unchecked) (nI c) s := by
  refine br_f (nI_pos (by omega)) (br_t (nI_lt (b := 18) hc (by decide)) ?_)
  intro k ek
  refine ⟨vp_in_nI hc (by decide), ?_⟩
  intro s1 e1
  refine ⟨vp_in_nI hc (by decide), ?_⟩
  intro s2 e2
  rw [nI_clamp (by omega)] at e1 e2
  rw [e2, e1, ek]
  exact hp
theorem vq_y_cells_l {post : Int32 → Prop} {c sc : Nat} {kd : Int32} (hc : c < 18) (hs : b_size c = nI sc) (h8 : sc ≤ 8) (hp : post (nI (vq_cn (fun i => decide (b_kinds (c * 8 + i) = kd)) sc))) :
    ∀ n j, j ≤ sc → sc - j < n → wY_cellsOf_5 post (nI c) kd g_clock g_descriptors g_modulus g_allTables b_at b_since b_tags b_size b_direct b_written b_values b_kinds b_state b_pending b_index b_event b_unchecked n (nI (vq_cn (fun i => decide (b_kinds (c * 8 + i) = kd)) j)) (nI j) := by
  intro n
  induction n with
  | zero => intro j _ h; omega
  | succ n ih =>
    intro j hj hn
    refine ⟨vp_in_nI hc (by decide), ?_⟩
    rw [nI_clamp (n := c) (by omega), hs]
    by_cases e : j = sc
    · subst e
      exact br_t (nI_le (by omega) (by omega)) hp
    · refine br_f (nI_ge (by omega) (by omega)) ?_
      rw [show nI c * 8 + nI j = nI (c * 8 + j) from by rw [show (8 : Int32) = nI 8 from rfl, pk_mul, nI_add]]
      refine ⟨vp_in_nI (by omega) (by decide), ?_⟩
      rw [nI_clamp (n := c * 8 + j) (by omega)]
      have ih := ih (j + 1) (by omega) (by omega)
      by_cases hk : b_kinds (c * 8 + j) = kd
      · refine br_t hk ?_
        intro x3 e3 x4 e4
        rw [e3, e4, nI_1, nI_1]
        rw [vq_cn_t (by rw [decide_eq_true_eq]; exact hk)] at ih
        exact ih
      · refine br_f hk ?_
        intro x4 e4
        rw [e4, nI_1]
        rw [vq_cn_f (by rw [decide_eq_true_eq]; exact hk)] at ih
        exact ih
theorem vq_y_cells {post : Int32 → Prop} {c sc : Nat} {kd : Int32} (hc : c < 18) (hs : b_size c = nI sc) (h8 : sc ≤ 8) (hp : post (nI (vq_cn (fun i => decide (b_kinds (c * 8 + i) = kd)) sc))) :
    wpY_cellsOf post (g_clock, g_descriptors, g_modulus, g_allTables, b_at, b_since, b_tags, b_size, b_direct, b_written, b_values, b_kinds, b_state, b_pending, b_index, b_event, b_unchecked) (nI c) kd := ⟨9, vq_y_cells_l hc hs h8 hp 9 0 (by omega) (by omega)⟩
theorem vq_cn_out {kn : Nat → Int32} {c oc : Nat} : ∀ sc, (∀ i, i < sc → kn (c * 8 + i) = if i < oc then 0 else 1) → vq_cn (fun i => decide (kn (c * 8 + i) = 0)) sc = (if oc ≤ sc then oc else sc) ∧ vq_cn (fun i => decide (kn (c * 8 + i) = 1)) sc = sc - oc := by
  intro sc
  induction sc with
  | zero =>
    intro _
    refine ⟨?_, ?_⟩
    · show 0 = _
      split <;> omega
    · show 0 = _
      omega
  | succ n ih =>
    intro h
    obtain ⟨i1, i2⟩ := ih (fun i hi => h i (by omega))
    have hn := h n (by omega)
    by_cases e : n < oc
    · rw [if_pos e] at hn
      rw [vq_cn_t (by rw [decide_eq_true_eq]; exact hn), vq_cn_f (by rw [decide_eq_true_eq, hn]; decide), i1, i2]
      refine ⟨?_, by omega⟩
      split <;> split <;> omega
    · rw [if_neg e] at hn
      rw [vq_cn_f (by rw [decide_eq_true_eq, hn]; decide), vq_cn_t (by rw [decide_eq_true_eq]; exact hn), i1, i2]
      refine ⟨?_, by omega⟩
      split <;> split <;> omega
theorem vq_y_outs {post : Int32 → Prop} {c oc sc : Nat} (hc : c < 18) (hs : b_size c = nI sc) (h8 : sc ≤ 8) (ho : oc ≤ sc) (hk : ∀ i, i < sc → b_kinds (c * 8 + i) = if i < oc then 0 else 1) (hp : post (nI oc)) : wpY_cellsOf post (g_clock, g_descriptors, g_modulus, g_allTables, b_at, b_since, b_tags, b_size, b_direct, b_written, b_values, b_kinds, b_state, b_pending, b_index, b_event, b_unchecked) (nI c) 0 := by
  refine vq_y_cells hc hs h8 ?_
  rw [(vq_cn_out sc hk).1, if_pos ho]
  exact hp
theorem vq_y_ins {post : Int32 → Prop} {c oc sc : Nat} (hc : c < 18) (hs : b_size c = nI sc) (h8 : sc ≤ 8) (hk : ∀ i, i < sc → b_kinds (c * 8 + i) = if i < oc then 0 else 1) (hp : post (nI (sc - oc))) : wpY_cellsOf post (g_clock, g_descriptors, g_modulus, g_allTables, b_at, b_since, b_tags, b_size, b_direct, b_written, b_values, b_kinds, b_state, b_pending, b_index, b_event, b_unchecked) (nI c) 1 := by
  refine vq_y_cells hc hs h8 ?_
  rw [(vq_cn_out sc hk).2]
  exact hp
theorem vq_y_free_l {post : Int32 → Prop} {x : Int32} {N TT : Nat} {df tf : Nat → Nat} (hf : ∀ c, c < 18 → vq_fr1 (b_at c) (b_direct c) (b_size c) (df c) (tf c))
    (hN : vq_sm df 18 ≤ N) (hT : vq_sm tf 18 ≤ TT) (h0 : x = 0 → post (nI (N - vq_sm df 18))) (h1 : x = 1 → post (nI (TT - vq_sm tf 18))) (h2 : ¬ x = 0 → ¬ x = 1 → post (-1)) :
    ∀ n j, j ≤ 18 → 18 - j < n → wY_free_13 post x g_clock g_descriptors g_modulus g_allTables b_at b_since b_tags b_size b_direct b_written b_values b_kinds b_state b_pending b_index b_event b_unchecked n (nI (N - vq_sm df j)) (nI (TT - vq_sm tf j)) (nI j) := by
  intro n
  induction n with
  | zero => intro j _ h; omega
  | succ n ih =>
    intro j hj hn
    by_cases e : j = 18
    · subst e
      exact br_t (nI_le (a := 18) (b := 18) (by omega) (by omega)) (br_c h0 (fun z => br_c h1 (h2 z)))
    · refine br_f (nI_ge (b := 18) (by omega) (by decide)) ⟨vp_in_nI (by omega) (by decide), ?_⟩
      have cj : (nI j).toNatClampNeg = j := nI_clamp (by omega)
      have ih := ih (j + 1) (by omega) (by omega)
      obtain ⟨f1, f2⟩ := hf j (by omega)
      have hj1 := vq_sm_mono (f := df) (n := j + 1) (m := 18) (by omega)
      have hj2 := vq_sm_mono (f := tf) (n := j + 1) (m := 18) (by omega)
      rw [vq_sm] at hj1 hj2
      rw [vq_sm, vq_sm] at ih
      refine br_c (fun hneg => ?_) (fun hneg => ⟨vp_in_nI (by omega) (by decide), br_c (fun h5 => ?_) (fun h5 => ⟨vp_in_nI (by omega) (by decide), br_c (fun hd => ?_) (fun hd => ?_)⟩)⟩)
      · rw [cj] at hneg
        intro x4 e4
        rw [(f1 (Or.inl hneg)).1, (f1 (Or.inl hneg)).2] at ih
        rw [e4, nI_1]
        exact ih
      · rw [cj] at h5
        intro x4 e4
        rw [(f1 (Or.inr h5)).1, (f1 (Or.inr h5)).2] at ih
        rw [e4, nI_1]
        exact ih
      · rw [cj] at hneg h5 hd
        obtain ⟨g1, g2⟩ := (f2 hneg h5).1 hd
        refine ⟨vp_in_nI (by omega) (by decide), ?_⟩
        intro x2 e2
        rw [cj, g1, pk_sub (by omega)] at e2
        refine ⟨vp_in_nI (by omega) (by decide), br_t (by rw [cj]; exact hd) ?_⟩
        intro x3 e3 x4 e4
        rw [show (1 : Int32) = nI 1 from rfl, pk_sub (by omega)] at e3
        rw [e2, e3, e4, nI_1]
        rw [g2, show N - (vq_sm df j + df j) = N - vq_sm df j - df j by omega, show TT - (vq_sm tf j + 1) = TT - vq_sm tf j - 1 by omega] at ih
        exact ih
      · rw [cj] at hneg h5 hd
        obtain ⟨g1, g2⟩ := (f2 hneg h5).2 hd
        refine ⟨vp_in_nI (by omega) (by decide), ?_⟩
        intro x2 e2
        rw [cj, g1, pk_sub (by omega)] at e2
        refine ⟨vp_in_nI (by omega) (by decide), br_f (by rw [cj]; exact hd) ?_⟩
        intro x3 e3 x4 e4
        rw [show (0 : Int32) = nI 0 from rfl, pk_sub (by omega)] at e3
        rw [e2, e3, e4, nI_1]
        rw [g2, show N - (vq_sm df j + df j) = N - vq_sm df j - df j by omega, show TT - (vq_sm tf j + 0) = TT - vq_sm tf j - 0 by omega] at ih
        exact ih
theorem vq_y_free {post : Int32 → Prop} {x : Int32} {N TT : Nat} {df tf : Nat → Nat} (hf : ∀ c, c < 18 → vq_fr1 (b_at c) (b_direct c) (b_size c) (df c) (tf c)) (eN : g_descriptors = nI N) (eT : g_allTables = nI TT)
    (hN : vq_sm df 19 = N) (hT : vq_sm tf 19 = TT) (h0 : x = 0 → post (nI (df 18))) (h1 : x = 1 → post (nI (tf 18))) (h2 : ¬ x = 0 → ¬ x = 1 → post (-1)) : wpY_free post (g_clock, g_descriptors, g_modulus, g_allTables, b_at, b_since, b_tags, b_size, b_direct, b_written, b_values, b_kinds, b_state, b_pending, b_index, b_event, b_unchecked) x := by
  subst eN eT
  have sN : vq_sm df 19 = vq_sm df 18 + df 18 := rfl
  have sT : vq_sm tf 19 = vq_sm tf 18 + tf 18 := rfl
  refine ⟨19, vq_y_free_l (df := df) (tf := tf) (N := N) (TT := TT) hf (by omega) (by omega) ?_ ?_ h2 19 0 (by omega) (by omega)⟩
  · intro e; rw [show N - vq_sm df 18 = df 18 by omega]; exact h0 e
  · intro e; rw [show TT - vq_sm tf 18 = tf 18 by omega]; exact h1 e
theorem vq_y_clamp {post : Int32 → Prop} {a b c : Int32} (hp : post (if b ≤ a then (if a ≤ c then a else c) else b)) : wpY_clamp post (g_clock, g_descriptors, g_modulus, g_allTables, b_at, b_since, b_tags, b_size, b_direct, b_written, b_values, b_kinds, b_state, b_pending, b_index, b_event, b_unchecked) a b c := by
  refine br_c (fun h1 => br_c (fun h2 => ?_) (fun h2 => ?_)) (fun h1 => ?_)
  · rw [if_pos h1, if_pos h2] at hp; exact hp
  · rw [if_pos h1, if_neg h2] at hp; exact hp
  · rw [if_neg h1] at hp; exact hp
end vq_Y
end
section
/-! the component's small methods -/
section vq_X
variable {f_ringRoom f_tableBase f_receiptBase f_openChain f_receiptChain f_slotMask f_indexMask f_freeHead f_freeCount f_freeTableHead f_freeTableCount f_openCount f_receiptCount f_heldCount : Int32} {a_memory a_next a_tableOf a_tableNext a_tags a_sizes a_outs a_directs a_writtens a_heads a_tails a_held a_slots a_unpublished a_index a_unchecked a_seen a_event a_state a_pending : Nat → Int32}
theorem vq_x_clamp {post : Int32 → Prop} {a b c : Int32} (hp : post (if b ≤ a then (if a ≤ c then a else c) else b)) : wpX_clamp post (f_ringRoom, f_tableBase, f_receiptBase, f_openChain, f_receiptChain, f_slotMask, f_indexMask, f_freeHead, f_freeCount, f_freeTableHead, f_freeTableCount, f_openCount, f_receiptCount, f_heldCount, a_memory, a_next, a_tableOf, a_tableNext, a_tags, a_sizes, a_outs, a_directs, a_writtens, a_heads, a_tails, a_held, a_slots, a_unpublished, a_index, a_unchecked, a_seen, a_event, a_state, a_pending) a b c := by
  refine br_c (fun h1 => br_c (fun h2 => ?_) (fun h2 => ?_)) (fun h1 => ?_)
  · rw [if_pos h1, if_pos h2] at hp; exact hp
  · rw [if_pos h1, if_neg h2] at hp; exact hp
  · rw [if_neg h1] at hp; exact hp
theorem vq_x_side1 {post : Int32 → Prop} {s : Nat} (hs : s < 2) (hp : post 1) : wpX_isSide post (f_ringRoom, f_tableBase, f_receiptBase, f_openChain, f_receiptChain, f_slotMask, f_indexMask, f_freeHead, f_freeCount, f_freeTableHead, f_freeTableCount, f_openCount, f_receiptCount, f_heldCount, a_memory, a_next, a_tableOf, a_tableNext, a_tags, a_sizes, a_outs, a_directs, a_writtens, a_heads, a_tails, a_held, a_slots, a_unpublished, a_index, a_unchecked, a_seen, a_event, a_state, a_pending) (nI s) := by
  have : s = 0 ∨ s = 1 := by omega
  rcases this with rfl | rfl
  · exact br_t (by decide) hp
  · exact br_f (by decide) (br_t (by decide) hp)
theorem vq_x_side0 {post : Int32 → Prop} {p : Int32} (h0 : ¬ p = 0) (h1 : ¬ p = 1) (hp : post 0) : wpX_isSide post (f_ringRoom, f_tableBase, f_receiptBase, f_openChain, f_receiptChain, f_slotMask, f_indexMask, f_freeHead, f_freeCount, f_freeTableHead, f_freeTableCount, f_openCount, f_receiptCount, f_heldCount, a_memory, a_next, a_tableOf, a_tableNext, a_tags, a_sizes, a_outs, a_directs, a_writtens, a_heads, a_tails, a_held, a_slots, a_unpublished, a_index, a_unchecked, a_seen, a_event, a_state, a_pending) p := br_f h0 (br_f h1 hp)
theorem vq_x_wait {post : Int32 → Prop} {s t : Nat} (hs : s < 2) (ht : t = 1 - s) (hp : post ((a_index s - a_seen t) &&& f_indexMask)) : wpX_waiting post (f_ringRoom, f_tableBase, f_receiptBase, f_openChain, f_receiptChain, f_slotMask, f_indexMask, f_freeHead, f_freeCount, f_freeTableHead, f_freeTableCount, f_openCount, f_receiptCount, f_heldCount, a_memory, a_next, a_tableOf, a_tableNext, a_tags, a_sizes, a_outs, a_directs, a_writtens, a_heads, a_tails, a_held, a_slots, a_unpublished, a_index, a_unchecked, a_seen, a_event, a_state, a_pending) (nI s) := by
  have : s = 0 ∨ s = 1 := by omega
  rcases this with rfl | rfl
  · subst ht
    exact ⟨vp_in_nI (by omega) (by decide), vp_in_nI (n := 1) (by omega) (by decide), hp⟩
  · subst ht
    exact ⟨vp_in_nI (by omega) (by decide), vp_in_nI (n := 0) (by omega) (by decide), hp⟩
theorem vq_x_ent {post : Int32 → Prop} {p : Int32} (hp : post (vq_ent a_tableOf p)) : wpX_enter post (f_ringRoom, f_tableBase, f_receiptBase, f_openChain, f_receiptChain, f_slotMask, f_indexMask, f_freeHead, f_freeCount, f_freeTableHead, f_freeTableCount, f_openCount, f_receiptCount, f_heldCount, a_memory, a_next, a_tableOf, a_tableNext, a_tags, a_sizes, a_outs, a_directs, a_writtens, a_heads, a_tails, a_held, a_slots, a_unpublished, a_index, a_unchecked, a_seen, a_event, a_state, a_pending) p := by
  rw [vq_ent] at hp
  refine br_c (fun h1 => ?_) (fun h1 => br_c (fun h2 => ?_) (fun h2 => ?_))
  · rw [if_pos h1] at hp; exact hp
  · rw [if_neg h1, if_pos h2] at hp; exact hp
  · rw [if_neg h1, if_neg h2] at hp
    have hin : vp_in p 16 := by
      obtain ⟨j, hj, rfl⟩ := nI_of h1
      by_cases h : j < 16
      · exact vp_in_nI h (by decide)
      · exact absurd (nI_le (a := 16) (by omega) hj) h2
    refine ⟨hin, br_c (fun h3 => ?_) (fun h3 => ⟨hin, ?_⟩)⟩
    · rw [if_pos h3] at hp; exact hp
    · rw [if_neg h3] at hp; exact hp
theorem vq_x_aft {post : Int32 → Prop} {p : Int32} (hp : post (vq_aft a_next a_tableOf p)) : wpX_after post (f_ringRoom, f_tableBase, f_receiptBase, f_openChain, f_receiptChain, f_slotMask, f_indexMask, f_freeHead, f_freeCount, f_freeTableHead, f_freeTableCount, f_openCount, f_receiptCount, f_heldCount, a_memory, a_next, a_tableOf, a_tableNext, a_tags, a_sizes, a_outs, a_directs, a_writtens, a_heads, a_tails, a_held, a_slots, a_unpublished, a_index, a_unchecked, a_seen, a_event, a_state, a_pending) p := by
  rw [vq_aft] at hp
  refine br_c (fun h1 => br_c (fun h2 => ?_) (fun h2 => ?_)) (fun h1 => ?_)
  · rw [if_pos h1, if_pos h2] at hp
    have hin : vp_in p 16 := by
      obtain ⟨j, hj, rfl⟩ := nI_of (Int32.not_lt.mpr h1)
      exact vp_in_nI ((nI_ltI (b := 16) hj (by decide)).mp h2) (by decide)
    exact ⟨hin, vq_x_ent hp⟩
  · rw [if_pos h1, if_neg h2] at hp; exact hp
  · rw [if_neg h1] at hp; exact hp
theorem vq_x_copy {post : SX → Prop} {x y : Nat} (hx : x < 18) (hy : y < 18) (hp : post (f_ringRoom, f_tableBase, f_receiptBase, f_openChain, f_receiptChain, f_slotMask, f_indexMask, f_freeHead, f_freeCount, f_freeTableHead, f_freeTableCount, f_openCount, f_receiptCount, f_heldCount, a_memory, a_next, a_tableOf, a_tableNext, upd a_tags y (a_tags x), upd a_sizes y (a_sizes x), upd a_outs y (a_outs x), upd a_directs y (a_directs x), upd a_writtens y (a_writtens x), upd a_heads y (a_heads x), upd a_tails y (a_tails x), a_held, a_slots, a_unpublished, a_index, a_unchecked, a_seen, a_event, a_state, a_pending)) : wpX_copyChain post (f_ringRoom, f_tableBase, f_receiptBase, f_openChain, f_receiptChain, f_slotMask, f_indexMask, f_freeHead, f_freeCount, f_freeTableHead, f_freeTableCount, f_openCount, f_receiptCount, f_heldCount, a_memory, a_next, a_tableOf, a_tableNext, a_tags, a_sizes, a_outs, a_directs, a_writtens, a_heads, a_tails, a_held, a_slots, a_unpublished, a_index, a_unchecked, a_seen, a_event, a_state, a_pending) (nI x) (nI y) := by
  have cx : (nI x).toNatClampNeg = x := nI_clamp (by omega)
  have cy : (nI y).toNatClampNeg = y := nI_clamp (by omega)
  have ix : vp_in (nI x) 18 := vp_in_nI hx (by decide)
  have iy : vp_in (nI y) 18 := vp_in_nI hy (by decide)
  refine ⟨ix, iy, fun z1 e1 => ⟨ix, iy, fun z2 e2 => ⟨ix, iy, fun z3 e3 => ⟨ix, iy, fun z4 e4 => ⟨ix, iy, fun z5 e5 => ⟨ix, iy, fun z6 e6 => ⟨ix, iy, fun z7 e7 => ?_⟩⟩⟩⟩⟩⟩⟩
  rw [cx, cy] at e1 e2 e3 e4 e5 e6 e7
  rw [e1, e2, e3, e4, e5, e6, e7]
  exact hp
theorem vq_x_push {post : SX → Prop} {s j : Nat} {v : Int32} (hs : s < 2) (hj : (a_index s + a_unpublished s) &&& f_slotMask = nI j) (h16 : j < 16) (hp : post (f_ringRoom, f_tableBase, f_receiptBase, f_openChain, f_receiptChain, f_slotMask, f_indexMask, f_freeHead, f_freeCount, f_freeTableHead, f_freeTableCount, f_openCount, f_receiptCount, f_heldCount, a_memory, a_next, a_tableOf, a_tableNext, a_tags, a_sizes, a_outs, a_directs, a_writtens, a_heads, a_tails, a_held, upd a_slots (s * 16 + j) v, upd a_unpublished s (a_unpublished s + 1), a_index, a_unchecked, a_seen, a_event, a_state, a_pending)) : wpX_push post (f_ringRoom, f_tableBase, f_receiptBase, f_openChain, f_receiptChain, f_slotMask, f_indexMask, f_freeHead, f_freeCount, f_freeTableHead, f_freeTableCount, f_openCount, f_receiptCount, f_heldCount, a_memory, a_next, a_tableOf, a_tableNext, a_tags, a_sizes, a_outs, a_directs, a_writtens, a_heads, a_tails, a_held, a_slots, a_unpublished, a_index, a_unchecked, a_seen, a_event, a_state, a_pending) (nI s) v := by
  have cs : (nI s).toNatClampNeg = s := nI_clamp (by omega)
  have is : vp_in (nI s) 2 := vp_in_nI hs (by decide)
  refine ⟨is, is, ?_⟩
  rw [cs]
  have e : nI s * 16 + ((a_index s + a_unpublished s) &&& f_slotMask) = nI (s * 16 + j) := by
    rw [hj, show (16 : Int32) = nI 16 from rfl, pk_mul, nI_add]
  show vp_in (nI s * 16 + ((a_index s + a_unpublished s) &&& f_slotMask)) 32 ∧ _
  rw [e]
  refine ⟨vp_in_nI (by omega) (by decide), ?_⟩
  intro z1 e1
  refine ⟨is, is, ?_⟩
  intro z2 e2
  rw [nI_clamp (by omega)] at e1
  rw [e1, e2]
  exact hp
theorem vq_x_count {post : Int32 → Prop} {l : Nat → Nat} (h0 : f_openCount = nI (l 0)) (h1 : a_unpublished 0 = nI (l 1)) (h2 : (a_index 0 - a_seen 1) &&& f_indexMask = nI (l 2)) (h3 : f_heldCount = nI (l 3)) (h4 : a_unpublished 1 = nI (l 4)) (h5 : (a_index 1 - a_seen 0) &&& f_indexMask = nI (l 5)) (h6 : f_receiptCount = nI (l 6))
    {q : Nat} (hq : q < 7) (hp : post (nI (l q))) : wpX_count post (f_ringRoom, f_tableBase, f_receiptBase, f_openChain, f_receiptChain, f_slotMask, f_indexMask, f_freeHead, f_freeCount, f_freeTableHead, f_freeTableCount, f_openCount, f_receiptCount, f_heldCount, a_memory, a_next, a_tableOf, a_tableNext, a_tags, a_sizes, a_outs, a_directs, a_writtens, a_heads, a_tails, a_held, a_slots, a_unpublished, a_index, a_unchecked, a_seen, a_event, a_state, a_pending) (nI q) := by
  have : q = 0 ∨ q = 1 ∨ q = 2 ∨ q = 3 ∨ q = 4 ∨ q = 5 ∨ q = 6 := by omega
  refine br_f (nI_pos (by omega)) (br_f (nI_nlt (a := 6) (by omega) (by decide)) ?_)
  rcases this with rfl | rfl | rfl | rfl | rfl | rfl | rfl
  · rw [← h0] at hp
    exact br_t (by decide) hp
  · rw [← h1] at hp
    exact br_f (by decide) (br_t (by decide) hp)
  · rw [← h2] at hp
    exact br_f (by decide) (br_f (by decide) (br_t (by decide) (vq_x_wait (s := 0) (t := 1) (by omega) rfl hp)))
  · rw [← h3] at hp
    exact br_f (by decide) (br_f (by decide) (br_f (by decide) (br_t (by decide) hp)))
  · rw [← h4] at hp
    exact br_f (by decide) (br_f (by decide) (br_f (by decide) (br_f (by decide) (br_t (by decide) hp))))
  · rw [← h5] at hp
    exact br_f (by decide) (br_f (by decide) (br_f (by decide) (br_f (by decide) (br_f (by decide) (br_t (by decide) (vq_x_wait (s := 1) (t := 0) (by omega) rfl hp))))))
  · rw [← h6] at hp
    exact br_f (by decide) (br_f (by decide) (br_f (by decide) (br_f (by decide) (br_f (by decide) (br_f (by decide) (br_t (by decide) hp))))))
theorem vq_x_count_b {post : Int32 → Prop} {s : Int32} (hs : s < 0 ∨ ¬ s ≤ 6) (hp : post (-1)) : wpX_count post (f_ringRoom, f_tableBase, f_receiptBase, f_openChain, f_receiptChain, f_slotMask, f_indexMask, f_freeHead, f_freeCount, f_freeTableHead, f_freeTableCount, f_openCount, f_receiptCount, f_heldCount, a_memory, a_next, a_tableOf, a_tableNext, a_tags, a_sizes, a_outs, a_directs, a_writtens, a_heads, a_tails, a_held, a_slots, a_unpublished, a_index, a_unchecked, a_seen, a_event, a_state, a_pending) s := by
  refine br_c (fun _ => hp) (fun h => ?_)
  exact br_t (Int32.not_le.mp (hs.resolve_left h)) hp
theorem vq_x_chain_b {post : Int32 → Prop} {s p : Int32} (hs : s < 0 ∨ ¬ s ≤ 6) (hp : post (-1)) : wpX_chainAt post (f_ringRoom, f_tableBase, f_receiptBase, f_openChain, f_receiptChain, f_slotMask, f_indexMask, f_freeHead, f_freeCount, f_freeTableHead, f_freeTableCount, f_openCount, f_receiptCount, f_heldCount, a_memory, a_next, a_tableOf, a_tableNext, a_tags, a_sizes, a_outs, a_directs, a_writtens, a_heads, a_tails, a_held, a_slots, a_unpublished, a_index, a_unchecked, a_seen, a_event, a_state, a_pending) s p := by
  refine br_c (fun _ => hp) (fun h => ?_)
  refine vq_x_count_b hs ?_
  refine br_f ?_ hp
  intro z
  exact h (Int32.lt_trans z (by decide))
end vq_X
def vq_xid (q : Nat) (D : Nat → List Nat) (c : Nat) : Nat := if q = 0 then 16 else if q = 6 then 17 else (D c).headD 0
theorem vq_rg_U {N M TT : Nat} {D : Nat → List Nat} {sl : Nat → Int32} {b : Nat} {se ix un : Int32} {W U : List Nat} (hN : vq_N N M TT) (h : vq_rg N M D sl b se ix un W U) {i c : Nat} (hi : U[i]? = some c) (hU : U.length ≤ 18) :
    ∃ j, j < 16 ∧ (ix + nI i) &&& nI (N - 1) = nI j ∧ sl (b + j) = nI ((D c).headD 0) := by
  obtain ⟨p, h1, h2, h3, h4, h5⟩ := h
  obtain ⟨hn1, hn2, hn3, hn4⟩ := id hN
  have hM0 : 0 < M := by omega
  have hN0 : 0 < N := by omega
  have hb := Nat.mod_lt (p + W.length) hM0
  have hl := (List.getElem?_eq_some_iff.mp hi).1
  have hm := Nat.mod_lt (p + (W.length + i)) hN0
  refine ⟨(p + (W.length + i)) % N, by omega, ?_, ?_⟩
  · rw [h3, nI_add, vq_andNn hN (by omega)]
    congr 1
    rw [Nat.add_mod, vq_mm hN, ← Nat.add_mod]
    congr 1
    omega
  · apply h5
    rw [List.getElem?_append_right (by omega), show W.length + i - W.length = i by omega]
    exact hi
theorem vq_rg_W {N M TT : Nat} {D : Nat → List Nat} {sl : Nat → Int32} {b : Nat} {se ix un : Int32} {W U : List Nat} (hN : vq_N N M TT) (h : vq_rg N M D sl b se ix un W U) {i c : Nat} (hi : W[i]? = some c) (hW : W.length ≤ 18) :
    ∃ j, j < 16 ∧ (se + nI i) &&& nI (N - 1) = nI j ∧ sl (b + j) = nI ((D c).headD 0) := by
  obtain ⟨p, h1, h2, h3, h4, h5⟩ := h
  obtain ⟨hn1, hn2, hn3, hn4⟩ := id hN
  have hN0 : 0 < N := by omega
  have hl := (List.getElem?_eq_some_iff.mp hi).1
  have hm := Nat.mod_lt (p + i) hN0
  refine ⟨(p + i) % N, by omega, ?_, ?_⟩
  · rw [h2, nI_add, vq_andNn hN (by omega)]
  · apply h5
    rw [List.getElem?_append_left hl]
    exact hi
section vq_X2
variable {f_ringRoom f_tableBase f_receiptBase f_openChain f_receiptChain f_slotMask f_indexMask f_freeHead f_freeCount f_freeTableHead f_freeTableCount f_openCount f_receiptCount f_heldCount : Int32} {a_memory a_next a_tableOf a_tableNext a_tags a_sizes a_outs a_directs a_writtens a_heads a_tails a_held a_slots a_unpublished a_index a_unchecked a_seen a_event a_state a_pending : Nat → Int32} {g_clock : Int64} {g_descriptors g_modulus g_allTables : Int32} {b_since : Nat → Int64} {b_at b_tags b_size b_direct b_written b_values b_kinds b_state b_pending b_index b_event b_unchecked : Nat → Int32} {N M TT K : Nat} {L D T : Nat → List Nat} {o sz : Nat → Nat}
theorem vq_cnts (g1 : vq_G1 N M TT f_slotMask f_indexMask g_descriptors g_modulus g_allTables) (gL : vq_L b_at b_since g_clock L K) (hb : (L 1).length + (L 2).length + (L 3).length + (L 4).length + (L 5).length ≤ N) (g5 : vq_G5 f_openCount f_receiptCount L) (g7 : vq_G7 f_heldCount a_held L D) (g8 : vq_G8 N M D L a_slots a_seen a_index a_unpublished)
    {post : Int32 → Prop} {q : Nat} (hq : q < 7) (hp : post (nI (L q).length)) : wpX_count post (f_ringRoom, f_tableBase, f_receiptBase, f_openChain, f_receiptChain, f_slotMask, f_indexMask, f_freeHead, f_freeCount, f_freeTableHead, f_freeTableCount, f_openCount, f_receiptCount, f_heldCount, a_memory, a_next, a_tableOf, a_tableNext, a_tags, a_sizes, a_outs, a_directs, a_writtens, a_heads, a_tails, a_held, a_slots, a_unpublished, a_index, a_unchecked, a_seen, a_event, a_state, a_pending) (nI q) := by
  obtain ⟨hN, e1, e2, _⟩ := g1
  obtain ⟨r0, r1⟩ := g8
  refine vq_x_count (l := fun q => (L q).length) g5.1 ?_ ?_ g7.1 ?_ ?_ g5.2.2.1 hq hp
  · exact r0.choose_spec.2.2.2.1
  · rw [e2]; exact vq_rg_wait hN r0 (by omega)
  · exact r1.choose_spec.2.2.2.1
  · rw [e2]; exact vq_rg_wait hN r1 (by omega)
theorem vq_chain (g1 : vq_G1 N M TT f_slotMask f_indexMask g_descriptors g_modulus g_allTables) (gL : vq_L b_at b_since g_clock L K) (hb : (L 1).length + (L 2).length + (L 3).length + (L 4).length + (L 5).length ≤ N) (g5 : vq_G5 f_openCount f_receiptCount L) (g7 : vq_G7 f_heldCount a_held L D) (g8 : vq_G8 N M D L a_slots a_seen a_index a_unpublished)
    {post : Int32 → Prop} {q i c : Nat} (hq : q < 7) (hi : (L q)[i]? = some c) (hp : post (nI (vq_xid q D c))) : wpX_chainAt post (f_ringRoom, f_tableBase, f_receiptBase, f_openChain, f_receiptChain, f_slotMask, f_indexMask, f_freeHead, f_freeCount, f_freeTableHead, f_freeTableCount, f_openCount, f_receiptCount, f_heldCount, a_memory, a_next, a_tableOf, a_tableNext, a_tags, a_sizes, a_outs, a_directs, a_writtens, a_heads, a_tails, a_held, a_slots, a_unpublished, a_index, a_unchecked, a_seen, a_event, a_state, a_pending) (nI q) (nI i) := by
  obtain ⟨hN, e1, e2, e3⟩ := id g1
  have hl := (List.getElem?_eq_some_iff.mp hi).1
  have hl2 := vq_L_le gL hq
  have hN16 : N ≤ 16 := by have := hN.1; omega
  refine br_f (nI_pos (by omega)) ?_
  refine vq_cnts g1 gL hb g5 g7 g8 hq ?_
  refine br_t (nI_lt hl (by omega)) ?_
  have : q = 0 ∨ q = 1 ∨ q = 2 ∨ q = 3 ∨ q = 4 ∨ q = 5 ∨ q = 6 := by omega
  rcases this with rfl | rfl | rfl | rfl | rfl | rfl | rfl
  · exact br_f (by decide) (br_f (by decide) (br_t (by decide) hp))
  · refine br_f (by decide) (br_f (by decide) (br_f (by decide) (br_t (by decide) ?_)))
    obtain ⟨j, h16, hj, hv⟩ := vq_rg_U hN g8.1 hi hl2
    show vp_in (0 * 16 + ((a_index 0 + nI i) &&& f_slotMask)) 32 ∧ post (a_slots (0 * 16 + ((a_index 0 + nI i) &&& f_slotMask)).toNatClampNeg)
    rw [e1, hj, show (0 : Int32) * 16 + nI j = nI (0 + j) from nI_add 0 j, nI_clamp (by omega), hv]
    exact ⟨vp_in_nI (by omega) (by decide), hp⟩
  · refine br_f (by decide) (br_f (by decide) (br_f (by decide) (br_f (by decide) (br_t (by decide) ?_))))
    obtain ⟨j, h16, hj, hv⟩ := vq_rg_W hN g8.1 hi hl2
    show vp_in (0 * 16 + ((a_seen 1 + nI i) &&& f_slotMask)) 32 ∧ post (a_slots (0 * 16 + ((a_seen 1 + nI i) &&& f_slotMask)).toNatClampNeg)
    rw [e1, hj, show (0 : Int32) * 16 + nI j = nI (0 + j) from nI_add 0 j, nI_clamp (by omega), hv]
    exact ⟨vp_in_nI (by omega) (by decide), hp⟩
  · refine br_f (by decide) (br_f (by decide) (br_f (by decide) (br_f (by decide) (br_f (by decide) (br_t (by decide) ?_)))))
    refine ⟨vp_in_nI (by omega) (by decide), ?_⟩
    rw [nI_clamp (by omega), g7.2 i c hi]
    exact hp
  · refine br_f (by decide) (br_f (by decide) (br_f (by decide) (br_f (by decide) (br_f (by decide) (br_f (by decide) (br_t (by decide) ?_))))))
    obtain ⟨j, h16, hj, hv⟩ := vq_rg_U hN g8.2 hi hl2
    show vp_in (1 * 16 + ((a_index 1 + nI i) &&& f_slotMask)) 32 ∧ post (a_slots (1 * 16 + ((a_index 1 + nI i) &&& f_slotMask)).toNatClampNeg)
    rw [e1, hj, show (1 : Int32) * 16 + nI j = nI (16 + j) from nI_add 16 j, nI_clamp (by omega), hv]
    exact ⟨vp_in_nI (by omega) (by decide), hp⟩
  · refine br_f (by decide) (br_f (by decide) (br_f (by decide) (br_f (by decide) (br_f (by decide) (br_f (by decide) (br_f (by decide) (br_t (by decide) ?_)))))))
    obtain ⟨j, h16, hj, hv⟩ := vq_rg_W hN g8.2 hi hl2
    show vp_in (1 * 16 + ((a_seen 0 + nI i) &&& f_slotMask)) 32 ∧ post (a_slots (1 * 16 + ((a_seen 0 + nI i) &&& f_slotMask)).toNatClampNeg)
    rw [e1, hj, show (1 : Int32) * 16 + nI j = nI (16 + j) from nI_add 16 j, nI_clamp (by omega), hv]
    exact ⟨vp_in_nI (by omega) (by decide), hp⟩
  · exact br_f (by decide) (br_t (by decide) hp)
theorem vq_chain_no (g1 : vq_G1 N M TT f_slotMask f_indexMask g_descriptors g_modulus g_allTables) (gL : vq_L b_at b_since g_clock L K) (hb : (L 1).length + (L 2).length + (L 3).length + (L 4).length + (L 5).length ≤ N) (g5 : vq_G5 f_openCount f_receiptCount L) (g7 : vq_G7 f_heldCount a_held L D) (g8 : vq_G8 N M D L a_slots a_seen a_index a_unpublished)
    {post : Int32 → Prop} {q : Nat} {p : Int32} (hq : q < 7) (hno : ∀ i, i < (L q).length → p ≠ nI i) (hp : post (-1)) : wpX_chainAt post (f_ringRoom, f_tableBase, f_receiptBase, f_openChain, f_receiptChain, f_slotMask, f_indexMask, f_freeHead, f_freeCount, f_freeTableHead, f_freeTableCount, f_openCount, f_receiptCount, f_heldCount, a_memory, a_next, a_tableOf, a_tableNext, a_tags, a_sizes, a_outs, a_directs, a_writtens, a_heads, a_tails, a_held, a_slots, a_unpublished, a_index, a_unchecked, a_seen, a_event, a_state, a_pending) (nI q) p := by
  refine br_c (fun _ => hp) (fun h => ?_)
  refine vq_cnts g1 gL hb g5 g7 g8 hq ?_
  refine br_f ?_ hp
  intro z
  obtain ⟨j, hj, rfl⟩ := nI_of h
  have hl2 := vq_L_le gL hq
  rw [nI_ltI hj (by omega)] at z
  exact hno j z rfl
end vq_X2
end
section
/-! opening the relation; the calls that only read -/
theorem vq_el {k : Nat} {P : SX → SY → Prop} {u : SX} {v : SY} (I : i_Rel k u v)
    (h : ∀ (f_ringRoom f_tableBase f_receiptBase f_openChain f_receiptChain f_slotMask f_indexMask f_freeHead f_freeCount f_freeTableHead f_freeTableCount f_openCount f_receiptCount f_heldCount : Int32) (a_memory a_next a_tableOf a_tableNext a_tags a_sizes a_outs a_directs a_writtens a_heads a_tails a_held a_slots a_unpublished a_index a_unchecked a_seen a_event a_state a_pending : Nat → Int32) (g_clock : Int64) (g_descriptors g_modulus g_allTables : Int32) (b_at : Nat → Int32) (b_since : Nat → Int64) (b_tags b_size b_direct b_written b_values b_kinds b_state b_pending b_index b_event b_unchecked : Nat → Int32) (N M TT : Nat) (L D T : Nat → List Nat) (o sz : Nat → Nat),
      vq_G1 N M TT f_slotMask f_indexMask g_descriptors g_modulus g_allTables →
      vq_L b_at b_since g_clock L (5 * k) →
      vq_G3 a_next a_tableNext D T N TT →
      vq_G4 f_freeHead f_freeCount f_freeTableHead f_freeTableCount D T →
      vq_G5 f_openCount f_receiptCount L →
      vq_G6 b_at a_memory a_tableOf a_tags a_sizes a_outs a_directs a_writtens a_heads a_tails b_tags b_size b_direct b_written b_values b_kinds D T o sz →
      vq_G7 f_heldCount a_held L D →
      vq_G8 N M D L a_slots a_seen a_index a_unpublished →
      vq_G9 M a_state a_pending a_index a_event a_unchecked b_state b_pending b_index b_event b_unchecked →
      (L 1).length + (L 2).length + (L 3).length + (L 4).length + (L 5).length + (D 18).length ≤ N →
      P (f_ringRoom, f_tableBase, f_receiptBase, f_openChain, f_receiptChain, f_slotMask, f_indexMask, f_freeHead, f_freeCount, f_freeTableHead, f_freeTableCount, f_openCount, f_receiptCount, f_heldCount, a_memory, a_next, a_tableOf, a_tableNext, a_tags, a_sizes, a_outs, a_directs, a_writtens, a_heads, a_tails, a_held, a_slots, a_unpublished, a_index, a_unchecked, a_seen, a_event, a_state, a_pending) (g_clock, g_descriptors, g_modulus, g_allTables, b_at, b_since, b_tags, b_size, b_direct, b_written, b_values, b_kinds, b_state, b_pending, b_index, b_event, b_unchecked)) : P u v := by
  obtain ⟨f_ringRoom, f_tableBase, f_receiptBase, f_openChain, f_receiptChain, f_slotMask, f_indexMask, f_freeHead, f_freeCount, f_freeTableHead, f_freeTableCount, f_openCount, f_receiptCount, f_heldCount, a_memory, a_next, a_tableOf, a_tableNext, a_tags, a_sizes, a_outs, a_directs, a_writtens, a_heads, a_tails, a_held, a_slots, a_unpublished, a_index, a_unchecked, a_seen, a_event, a_state, a_pending⟩ := u
  obtain ⟨g_clock, g_descriptors, g_modulus, g_allTables, b_at, b_since, b_tags, b_size, b_direct, b_written, b_values, b_kinds, b_state, b_pending, b_index, b_event, b_unchecked⟩ := v
  obtain ⟨N, M, TT, L, D, T, o, sz, g1, gL, g3, g4, g5, g6, g7, g8, g9⟩ := I
  exact h f_ringRoom f_tableBase f_receiptBase f_openChain f_receiptChain f_slotMask f_indexMask f_freeHead f_freeCount f_freeTableHead f_freeTableCount f_openCount f_receiptCount f_heldCount a_memory a_next a_tableOf a_tableNext a_tags a_sizes a_outs a_directs a_writtens a_heads a_tails a_held a_slots a_unpublished a_index a_unchecked a_seen a_event a_state a_pending g_clock g_descriptors g_modulus g_allTables b_at b_since b_tags b_size b_direct b_written b_values b_kinds b_state b_pending b_index b_event b_unchecked N M TT L D T o sz g1 gL g3 g4 g5 g6 g7 g8 g9 (vq_bnd gL (fun c hc hs => ((g6 c hc).2.2.2 hs).2.1) g3.2.2.1)
section vq_Q
variable {f_ringRoom f_tableBase f_receiptBase f_openChain f_receiptChain f_slotMask f_indexMask f_freeHead f_freeCount f_freeTableHead f_freeTableCount f_openCount f_receiptCount f_heldCount : Int32} {a_memory a_next a_tableOf a_tableNext a_tags a_sizes a_outs a_directs a_writtens a_heads a_tails a_held a_slots a_unpublished a_index a_unchecked a_seen a_event a_state a_pending : Nat → Int32} {g_clock : Int64} {g_descriptors g_modulus g_allTables : Int32} {b_since : Nat → Int64} {b_at b_tags b_size b_direct b_written b_values b_kinds b_state b_pending b_index b_event b_unchecked : Nat → Int32} {N M TT K : Nat} {L D T : Nat → List Nat} {o sz : Nat → Nat}
theorem vq_fr_of (gL : vq_L b_at b_since g_clock L K) (g6 : vq_G6 b_at a_memory a_tableOf a_tags a_sizes a_outs a_directs a_writtens a_heads a_tails b_tags b_size b_direct b_written b_values b_kinds D T o sz) :
    ∀ c, c < 18 → vq_fr1 (b_at c) (b_direct c) (b_size c) (D c).length (T c).length := by
  intro c hc
  obtain ⟨h1, h2, h3, h4⟩ := g6 c hc
  have live : vq_shape (D c) (T c) (sz c) (b_direct c) → b_size c = nI (sz c) → ∀ q, q ≤ 5 → b_at c = nI q → vq_fr1 (b_at c) (b_direct c) (b_size c) (D c).length (T c).length := by
    intro hs e q hq ha
    refine ⟨?_, ?_⟩
    · intro z
      rw [ha] at z
      rcases z with z | z
      · exact absurd z (nI_pos (by omega))
      · exact absurd z (nI_nlt (a := 5) hq (by decide))
    · intro _ _
      rcases hs with ⟨t1, t2, t3⟩ | ⟨t, t1, t2, t3, t4⟩
      · refine ⟨fun z => ?_, fun _ => ⟨by rw [e, t3], by rw [t1]; rfl⟩⟩
        rw [t2] at z
        exact absurd z (by decide)
      · have hl : (D c).length - 1 + 1 = (D c).length := by omega
        refine ⟨fun _ => ⟨by rw [t4, nI_1, hl], by rw [t1]; rfl⟩, fun z => ?_⟩
        rw [t4] at z
        have h8 : sz c ≤ 8 := by
          by_cases hq0 : q = 0
          · subst hq0; exact (h3 ha).2.1.2.1
          · exact (h4 ⟨q, by omega, hq, ha⟩).2.2.2.1.2.1
        exact absurd (nI_pos' (by omega)) z
  rcases gL.1 c hc with ha | ⟨q, hq, ha⟩
  · obtain ⟨e1, e2⟩ := h1 ha
    refine ⟨fun _ => ⟨by rw [e1]; rfl, by rw [e2]; rfl⟩, fun z => ?_⟩
    rw [ha] at z
    exact absurd (by decide) z
  · by_cases hq6 : q = 6
    · subst hq6
      obtain ⟨e1, e2, _⟩ := h2 ha
      refine ⟨fun _ => ⟨by rw [e1]; rfl, by rw [e2]; rfl⟩, fun _ z => ?_⟩
      rw [ha] at z
      exact absurd (by decide) z
    · by_cases hq0 : q = 0
      · subst hq0
        obtain ⟨z1, z2, z3⟩ := h3 ha
        exact live z3.1 z1.2.2.1 0 (by omega) ha
      · obtain ⟨z0, z00, z1, z2, z3⟩ := h4 ⟨q, by omega, by omega, ha⟩
        exact live z3.1 z1.2.2.1 q (by omega) ha
theorem vq_at (gL : vq_L b_at b_since g_clock L K) (g3 : vq_G3 a_next a_tableNext D T N TT) (g6 : vq_G6 b_at a_memory a_tableOf a_tags a_sizes a_outs a_directs a_writtens a_heads a_tails b_tags b_size b_direct b_written b_values b_kinds D T o sz)
    {q i c : Nat} (hq : q < 7) (hi : (L q)[i]? = some c) :
    ∃ Dl Tl : List Nat, vq_dat a_tags a_sizes a_outs a_directs a_writtens b_tags b_size b_direct b_written (vq_xid q D c) c (o c) (sz c) ∧ vq_cel a_memory b_values b_kinds Dl Tl c (o c) (sz c) ∧
      vq_xid q D c < 18 ∧ (0 < sz c → vq_wk a_next a_tableOf (a_heads (vq_xid q D c)) (vq_pl Dl Tl) (sz c)) := by
  obtain ⟨hc, ha⟩ := vq_L_at gL hq hi
  obtain ⟨h1, h2, h3, h4⟩ := g6 c hc
  have hD := g3.1.2.1 c
  have hT := g3.2.1.2.1 c
  have hT5 : ∀ t, t ∈ T c → t < 5 := fun t ht => by have := hT t ht; omega
  have hlk := g3.1.2.2.2 c
  by_cases e0 : q = 0
  · subst e0
    obtain ⟨z1, z2, z3⟩ := h3 ha
    refine ⟨D c, T c, z1, z2, (by decide : (16 : Nat) < 18), fun hs => ?_⟩
    refine vq_wk_live (vq_shape0 z3.1) z2.2.1 hD hT5 z3.2.2.2.2 hlk ?_ z3.2.2.1
    intro e
    rcases z3.1 with ⟨t1, t2, t3⟩ | ⟨t, t1, t2, t3⟩
    · rw [e] at t3; simp at t3; omega
    · rw [e] at t2; simp at t2
  · by_cases e6 : q = 6
    · subst e6
      obtain ⟨_, _, z0, z1, z2⟩ := h2 ha
      refine ⟨[], [4], z1, z2, (by decide : (17 : Nat) < 18), fun _ => ?_⟩
      show vq_wk a_next a_tableOf (a_heads 17) _ _
      rw [z0]
      exact vq_wk_rc _ _ z2.2.1
    · obtain ⟨_, hne, z1, z2, z3⟩ := h4 ⟨q, by omega, by omega, ha⟩
      have ex : vq_xid q D c = (D c).headD 0 := by rw [vq_xid, if_neg e0, if_neg e6]
      rw [ex]
      refine ⟨D c, T c, z1, z2, ?_, fun _ => vq_wk_live (vq_shape0 z3.1) z2.2.1 hD hT5 z3.2.2.2.2 hlk hne z3.2.2.1⟩
      cases hd : D c with
      | nil => exact absurd hd hne
      | cons a l =>
        have := hD a (by rw [hd]; exact List.mem_cons_self)
        show a < 18
        omega
theorem vq_x_cell_l {post : Int32 → Prop} {h : Int32} {g : Nat → Nat} {sc i : Nat} (hw : vq_wk a_next a_tableOf h g sc) (hi : i < sc) (h8 : sc ≤ 8) (hp : post (a_memory (g i))) :
    ∀ n k, k ≤ i → i - k < n → wX_cell_46 post (nI i) f_ringRoom f_tableBase f_receiptBase f_openChain f_receiptChain f_slotMask f_indexMask f_freeHead f_freeCount f_freeTableHead f_freeTableCount f_openCount f_receiptCount f_heldCount a_memory a_next a_tableOf a_tableNext a_tags a_sizes a_outs a_directs a_writtens a_heads a_tails a_held a_slots a_unpublished a_index a_unchecked a_seen a_event a_state a_pending n (nI (g k)) (nI k) := by
  intro n
  induction n with
  | zero => intro k _ h; omega
  | succ n ih =>
    intro k hk hn
    have hg := hw.2.2 k (by omega)
    by_cases e : k = i
    · subst e
      refine br_t (nI_le (by omega) (by omega)) ⟨vp_in_nI hg (by decide), ?_⟩
      rw [nI_clamp (by omega)]
      exact hp
    · refine br_f (nI_ge (by omega) (by omega)) ?_
      refine vq_x_aft ?_
      rw [hw.2.1 k (by omega)]
      intro x6 e6
      rw [e6, nI_1]
      exact ih (k + 1) (by omega) (by omega)
end vq_Q
theorem vq_stage (s : Int32) : (s < 0 ∨ ¬ s ≤ 6) ∨ ∃ q, q < 7 ∧ s = nI q := by
  by_cases h : s < 0 ∨ ¬ s ≤ 6
  · exact Or.inl h
  · right
    have h1 : ¬ s < 0 := fun z => h (Or.inl z)
    have h2 : s ≤ 6 := by
      by_cases z : s ≤ 6
      · exact z
      · exact absurd (Or.inr z) h
    obtain ⟨j, hj, e⟩ := nI_of2 (M := 6) (n := 6) (by decide) h1 h2
    exact ⟨j, by omega, e⟩
theorem vq_pos (p : Int32) (l : List Nat) : (∃ i c, l[i]? = some c ∧ p = nI i) ∨ ∀ i, i < l.length → p ≠ nI i := by
  by_cases h : ∃ i, i < l.length ∧ p = nI i
  · obtain ⟨i, hi, e⟩ := h
    exact Or.inl ⟨i, _, vq_gq hi, e⟩
  · exact Or.inr (fun i hi e => h ⟨i, hi, e⟩)
theorem i_vc_count {k : Nat} {u : SX} {v : SY} (I : i_Rel k u v) (hk : k + 4 ≤ 2052) (v1 : Int32) : wpX_count (fun r => wpY_count (fun r' => r' = r ∧ i_Rel (k + 4) u v) v v1) u v1 := by
  refine vq_el (P := fun u v => wpX_count (fun r => wpY_count (fun r' => r' = r ∧ i_Rel (k + 4) u v) v v1) u v1) I ?_
  intro f_ringRoom f_tableBase f_receiptBase f_openChain f_receiptChain f_slotMask f_indexMask f_freeHead f_freeCount f_freeTableHead f_freeTableCount f_openCount f_receiptCount f_heldCount a_memory a_next a_tableOf a_tableNext a_tags a_sizes a_outs a_directs a_writtens a_heads a_tails a_held a_slots a_unpublished a_index a_unchecked a_seen a_event a_state a_pending g_clock g_descriptors g_modulus g_allTables b_at b_since b_tags b_size b_direct b_written b_values b_kinds b_state b_pending b_index b_event b_unchecked N M TT L D T o sz g1 gL g3 g4 g5 g6 g7 g8 g9 hb
  have R : i_Rel (k + 4) (f_ringRoom, f_tableBase, f_receiptBase, f_openChain, f_receiptChain, f_slotMask, f_indexMask, f_freeHead, f_freeCount, f_freeTableHead, f_freeTableCount, f_openCount, f_receiptCount, f_heldCount, a_memory, a_next, a_tableOf, a_tableNext, a_tags, a_sizes, a_outs, a_directs, a_writtens, a_heads, a_tails, a_held, a_slots, a_unpublished, a_index, a_unchecked, a_seen, a_event, a_state, a_pending) (g_clock, g_descriptors, g_modulus, g_allTables, b_at, b_since, b_tags, b_size, b_direct, b_written, b_values, b_kinds, b_state, b_pending, b_index, b_event, b_unchecked) := i_up ⟨N, M, TT, L, D, T, o, sz, g1, gL, g3, g4, g5, g6, g7, g8, g9⟩
  rcases vq_stage v1 with hs | ⟨q, hq, rfl⟩
  · exact vq_x_count_b hs (vq_y_count_b hs ⟨rfl, R⟩)
  · exact vq_cnts g1 gL (by omega) g5 g7 g8 hq (vq_y_count gL hq ⟨rfl, R⟩)
theorem i_vc_free {k : Nat} {u : SX} {v : SY} (I : i_Rel k u v) (hk : k + 4 ≤ 2052) (v1 : Int32) : wpX_free (fun r => wpY_free (fun r' => r' = r ∧ i_Rel (k + 4) u v) v v1) u v1 := by
  refine vq_el (P := fun u v => wpX_free (fun r => wpY_free (fun r' => r' = r ∧ i_Rel (k + 4) u v) v v1) u v1) I ?_
  intro f_ringRoom f_tableBase f_receiptBase f_openChain f_receiptChain f_slotMask f_indexMask f_freeHead f_freeCount f_freeTableHead f_freeTableCount f_openCount f_receiptCount f_heldCount a_memory a_next a_tableOf a_tableNext a_tags a_sizes a_outs a_directs a_writtens a_heads a_tails a_held a_slots a_unpublished a_index a_unchecked a_seen a_event a_state a_pending g_clock g_descriptors g_modulus g_allTables b_at b_since b_tags b_size b_direct b_written b_values b_kinds b_state b_pending b_index b_event b_unchecked N M TT L D T o sz g1 gL g3 g4 g5 g6 g7 g8 g9 hb
  have R : i_Rel (k + 4) (f_ringRoom, f_tableBase, f_receiptBase, f_openChain, f_receiptChain, f_slotMask, f_indexMask, f_freeHead, f_freeCount, f_freeTableHead, f_freeTableCount, f_openCount, f_receiptCount, f_heldCount, a_memory, a_next, a_tableOf, a_tableNext, a_tags, a_sizes, a_outs, a_directs, a_writtens, a_heads, a_tails, a_held, a_slots, a_unpublished, a_index, a_unchecked, a_seen, a_event, a_state, a_pending) (g_clock, g_descriptors, g_modulus, g_allTables, b_at, b_since, b_tags, b_size, b_direct, b_written, b_values, b_kinds, b_state, b_pending, b_index, b_event, b_unchecked) := i_up ⟨N, M, TT, L, D, T, o, sz, g1, gL, g3, g4, g5, g6, g7, g8, g9⟩
  have hf := vq_fr_of gL g6
  refine br_c (fun h0 => ?_) (fun h0 => br_c (fun h1 => ?_) (fun h1 => ?_))
  · refine vq_y_free hf g1.2.2.2.1 g1.2.2.2.2.2 g3.2.2.1 g3.2.2.2 (fun _ => ⟨g4.2.1.symm, R⟩) (fun h1 => ?_) (fun h2 => absurd h0 h2)
    rw [h0] at h1
    exact absurd h1 (by decide)
  · exact vq_y_free hf g1.2.2.2.1 g1.2.2.2.2.2 g3.2.2.1 g3.2.2.2 (fun h2 => absurd h2 h0) (fun _ => ⟨g4.2.2.2.symm, R⟩) (fun _ h2 => absurd h1 h2)
  · exact vq_y_free hf g1.2.2.2.1 g1.2.2.2.2.2 g3.2.2.1 g3.2.2.2 (fun h2 => absurd h2 h0) (fun h2 => absurd h2 h1) (fun _ _ => ⟨rfl, R⟩)
theorem vq_sel5 {p : Int32} (h0 : ¬ p < 0) (h4 : ¬ 4 < p) : p = 0 ∨ p = 1 ∨ p = 2 ∨ p = 3 ∨ p = 4 := by
  obtain ⟨j, hj, rfl⟩ := nI_of2 (M := 4) (n := 4) (by decide) h0 (Int32.not_lt.mp h4)
  have : j = 0 ∨ j = 1 ∨ j = 2 ∨ j = 3 ∨ j = 4 := by omega
  rcases this with rfl | rfl | rfl | rfl | rfl
  · exact Or.inl rfl
  · exact Or.inr (Or.inl rfl)
  · exact Or.inr (Or.inr (Or.inl rfl))
  · exact Or.inr (Or.inr (Or.inr (Or.inl rfl)))
  · exact Or.inr (Or.inr (Or.inr (Or.inr rfl)))
theorem vq_out5 {p : Int32} (h : p < 0 ∨ 4 < p) : ¬ p = 0 ∧ ¬ p = 1 ∧ ¬ p = 2 ∧ ¬ p = 3 ∧ ¬ p = 4 := by
  refine ⟨?_, ?_, ?_, ?_, ?_⟩ <;> · intro e; subst e; revert h; decide
theorem i_vc_info {k : Nat} {u : SX} {v : SY} (I : i_Rel k u v) (hk : k + 4 ≤ 2052) (v1 : Int32) (v2 : Int32) (v3 : Int32) : wpX_info (fun r => wpY_info (fun r' => r' = r ∧ i_Rel (k + 4) u v) v v1 v2 v3) u v1 v2 v3 := by
  refine vq_el (P := fun u v => wpX_info (fun r => wpY_info (fun r' => r' = r ∧ i_Rel (k + 4) u v) v v1 v2 v3) u v1 v2 v3) I ?_
  intro f_ringRoom f_tableBase f_receiptBase f_openChain f_receiptChain f_slotMask f_indexMask f_freeHead f_freeCount f_freeTableHead f_freeTableCount f_openCount f_receiptCount f_heldCount a_memory a_next a_tableOf a_tableNext a_tags a_sizes a_outs a_directs a_writtens a_heads a_tails a_held a_slots a_unpublished a_index a_unchecked a_seen a_event a_state a_pending g_clock g_descriptors g_modulus g_allTables b_at b_since b_tags b_size b_direct b_written b_values b_kinds b_state b_pending b_index b_event b_unchecked N M TT L D T o sz g1 gL g3 g4 g5 g6 g7 g8 g9 hb
  have R : i_Rel (k + 4) (f_ringRoom, f_tableBase, f_receiptBase, f_openChain, f_receiptChain, f_slotMask, f_indexMask, f_freeHead, f_freeCount, f_freeTableHead, f_freeTableCount, f_openCount, f_receiptCount, f_heldCount, a_memory, a_next, a_tableOf, a_tableNext, a_tags, a_sizes, a_outs, a_directs, a_writtens, a_heads, a_tails, a_held, a_slots, a_unpublished, a_index, a_unchecked, a_seen, a_event, a_state, a_pending) (g_clock, g_descriptors, g_modulus, g_allTables, b_at, b_since, b_tags, b_size, b_direct, b_written, b_values, b_kinds, b_state, b_pending, b_index, b_event, b_unchecked) := i_up ⟨N, M, TT, L, D, T, o, sz, g1, gL, g3, g4, g5, g6, g7, g8, g9⟩
  unfold wpX_info wpY_info
  rcases vq_stage v1 with hs | ⟨q, hq, rfl⟩
  · refine vq_x_chain_b hs (br_f (by decide) ?_)
    exact vq_y_find_b hs (br_f (by decide) ⟨rfl, R⟩)
  · rcases vq_pos v2 (L q) with ⟨i, c, hi, rfl⟩ | hno
    · refine vq_chain g1 gL (by omega) g5 g7 g8 hq hi ?_
      obtain ⟨Dl, Tl, hd, hc, hx, _⟩ := vq_at gL g3 g6 hq hi
      have hc18 := (vq_L_at gL hq hi).1
      have hil := (List.getElem?_eq_some_iff.mp hi).1
      have hl2 := vq_L_le gL hq
      have fy : ∀ P : Int32 → Prop, P (nI c) → wpY_find P (g_clock, g_descriptors, g_modulus, g_allTables, b_at, b_since, b_tags, b_size, b_direct, b_written, b_values, b_kinds, b_state, b_pending, b_index, b_event, b_unchecked) (nI q) (nI i) := by
        intro P hP
        refine vq_y_find gL hq ?_ ?_
        · intro i' c' hi' e
          have hil' := (List.getElem?_eq_some_iff.mp hi').1
          have : i = i' := vq_inj e (by omega) (by omega)
          subst this
          rw [hi] at hi'
          rw [← Option.some.inj hi']
          exact hP
        · intro hno
          exact absurd rfl (hno i hil)
      obtain ⟨d1, d2, d3, d4, d5, d6⟩ := hd
      have inx : vp_in (nI (vq_xid q D c)) 18 := vp_in_nI hx (by decide)
      have iny : vp_in (nI c) 18 := vp_in_nI hc18 (by decide)
      have cx : (nI (vq_xid q D c)).toNatClampNeg = vq_xid q D c := nI_clamp (by omega)
      have cy : (nI c).toNatClampNeg = c := nI_clamp (by omega)
      refine br_t (nI_pos' (by omega)) (br_c (fun h1 => ?_) (fun h1 => br_c (fun h2 => ?_) (fun h2 => ?_)))
      · obtain ⟨w0, w1, w2, w3, w4⟩ := vq_out5 (Or.inl h1)
        exact fy _ (br_t (nI_pos' (by omega)) (br_f w0 (br_f w1 (br_f w2 (br_f w3 (br_f w4 ⟨rfl, R⟩))))))
      · obtain ⟨w0, w1, w2, w3, w4⟩ := vq_out5 (Or.inr h2)
        exact fy _ (br_t (nI_pos' (by omega)) (br_f w0 (br_f w1 (br_f w2 (br_f w3 (br_f w4 ⟨rfl, R⟩))))))
      · rcases vq_sel5 h1 h2 with rfl | rfl | rfl | rfl | rfl
        · refine br_t rfl ⟨inx, fy _ (br_t (nI_pos' (by omega)) (br_t rfl ⟨iny, ?_, R⟩))⟩
          rw [cx, cy, d1]
        · refine br_f (by decide) (br_t rfl ⟨inx, fy _ (br_t (nI_pos' (by omega)) (br_f (by decide) (br_t rfl ⟨iny, ?_, R⟩)))⟩)
          rw [cx, cy, d2, d3]
        · refine br_f (by decide) (br_f (by decide) (br_t rfl ⟨inx, fy _ (br_t (nI_pos' (by omega)) (br_f (by decide) (br_f (by decide) (br_t rfl ?_))))⟩))
          refine vq_y_outs hc18 d3 hc.2.1 hc.1 (fun i hi => (hc.2.2 i hi).2) ⟨?_, R⟩
          rw [cx, d4]
        · refine br_f (by decide) (br_f (by decide) (br_f (by decide) (br_t rfl ⟨inx, fy _ (br_t (nI_pos' (by omega)) (br_f (by decide) (br_f (by decide) (br_f (by decide) (br_t rfl ⟨iny, ?_, R⟩)))))⟩)))
          rw [cx, cy, d5]
        · refine br_f (by decide) (br_f (by decide) (br_f (by decide) (br_f (by decide) (br_t rfl ⟨inx, fy _ (br_t (nI_pos' (by omega)) (br_f (by decide) (br_f (by decide) (br_f (by decide) (br_f (by decide) (br_t rfl ⟨iny, ?_, R⟩))))))⟩))))
          rw [cx, cy, d6]
    · refine vq_chain_no g1 gL (by omega) g5 g7 g8 hq hno (br_f (by decide) ?_)
      refine vq_y_find gL hq (fun i c hi e => absurd e (hno i (List.getElem?_eq_some_iff.mp hi).1)) (fun _ => br_f (by decide) ⟨rfl, R⟩)
theorem i_vc_cell {k : Nat} {u : SX} {v : SY} (I : i_Rel k u v) (hk : k + 4 ≤ 2052) (v1 : Int32) (v2 : Int32) (v3 : Int32) : wpX_cell (fun r => wpY_cell (fun r' => r' = r ∧ i_Rel (k + 4) u v) v v1 v2 v3) u v1 v2 v3 := by
  refine vq_el (P := fun u v => wpX_cell (fun r => wpY_cell (fun r' => r' = r ∧ i_Rel (k + 4) u v) v v1 v2 v3) u v1 v2 v3) I ?_
  intro f_ringRoom f_tableBase f_receiptBase f_openChain f_receiptChain f_slotMask f_indexMask f_freeHead f_freeCount f_freeTableHead f_freeTableCount f_openCount f_receiptCount f_heldCount a_memory a_next a_tableOf a_tableNext a_tags a_sizes a_outs a_directs a_writtens a_heads a_tails a_held a_slots a_unpublished a_index a_unchecked a_seen a_event a_state a_pending g_clock g_descriptors g_modulus g_allTables b_at b_since b_tags b_size b_direct b_written b_values b_kinds b_state b_pending b_index b_event b_unchecked N M TT L D T o sz g1 gL g3 g4 g5 g6 g7 g8 g9 hb
  have R : i_Rel (k + 4) (f_ringRoom, f_tableBase, f_receiptBase, f_openChain, f_receiptChain, f_slotMask, f_indexMask, f_freeHead, f_freeCount, f_freeTableHead, f_freeTableCount, f_openCount, f_receiptCount, f_heldCount, a_memory, a_next, a_tableOf, a_tableNext, a_tags, a_sizes, a_outs, a_directs, a_writtens, a_heads, a_tails, a_held, a_slots, a_unpublished, a_index, a_unchecked, a_seen, a_event, a_state, a_pending) (g_clock, g_descriptors, g_modulus, g_allTables, b_at, b_since, b_tags, b_size, b_direct, b_written, b_values, b_kinds, b_state, b_pending, b_index, b_event, b_unchecked) := i_up ⟨N, M, TT, L, D, T, o, sz, g1, gL, g3, g4, g5, g6, g7, g8, g9⟩
  unfold wpX_cell wpY_cell
  rcases vq_stage v1 with hs | ⟨q, hq, rfl⟩
  · refine vq_x_chain_b hs (br_t (by decide) ?_)
    exact vq_y_find_b hs (br_t (by decide) ⟨rfl, R⟩)
  · rcases vq_pos v2 (L q) with ⟨i, c, hi, rfl⟩ | hno
    · refine vq_chain g1 gL (by omega) g5 g7 g8 hq hi ?_
      obtain ⟨Dl, Tl, hd, hc, hx, hw⟩ := vq_at gL g3 g6 hq hi
      have hc18 := (vq_L_at gL hq hi).1
      have hil := (List.getElem?_eq_some_iff.mp hi).1
      have hl2 := vq_L_le gL hq
      have fy : ∀ P : Int32 → Prop, P (nI c) → wpY_find P (g_clock, g_descriptors, g_modulus, g_allTables, b_at, b_since, b_tags, b_size, b_direct, b_written, b_values, b_kinds, b_state, b_pending, b_index, b_event, b_unchecked) (nI q) (nI i) := by
        intro P hP
        refine vq_y_find gL hq ?_ ?_
        · intro i' c' hi' e
          have hil' := (List.getElem?_eq_some_iff.mp hi').1
          have : i = i' := vq_inj e (by omega) (by omega)
          subst this
          rw [hi] at hi'
          rw [← Option.some.inj hi']
          exact hP
        · intro hno
          exact absurd rfl (hno i hil)
      obtain ⟨d1, d2, d3, d4, d5, d6⟩ := hd
      have inx : vp_in (nI (vq_xid q D c)) 18 := vp_in_nI hx (by decide)
      have iny : vp_in (nI c) 18 := vp_in_nI hc18 (by decide)
      have cx : (nI (vq_xid q D c)).toNatClampNeg = vq_xid q D c := nI_clamp (by omega)
      have cy : (nI c).toNatClampNeg = c := nI_clamp (by omega)
      have h8 := hc.2.1
      refine br_f (nI_pos (by omega)) (br_c (fun h1 => ?_) (fun h1 => ⟨inx, ?_⟩))
      · exact fy _ (br_f (nI_pos (by omega)) (br_t h1 ⟨rfl, R⟩))
      · rw [cx, d2]
        obtain ⟨j, hj, rfl⟩ := nI_of h1
        refine pk_lt j (sz c) (fun hlt => ⟨inx, ?_⟩) (fun hge => ?_)
        · refine vq_x_ent ?_
          have hw := hw (by omega)
          rw [hw.1 (by omega)]
          refine ⟨9, vq_x_cell_l hw hlt h8 ?_ 9 0 (by omega) (by omega)⟩
          refine fy _ (br_f (nI_pos (by omega)) (br_f h1 ⟨iny, ?_⟩))
          rw [cy, d3]
          refine br_t (nI_lt hlt (by omega)) ?_
          rw [show nI c * 8 + nI j = nI (c * 8 + j) from by rw [show (8 : Int32) = nI 8 from rfl, pk_mul, nI_add]]
          refine ⟨vp_in_nI (by omega) (by decide), ?_, R⟩
          rw [nI_clamp (by omega), (hc.2.2 j hlt).1]
        · refine fy _ (br_f (nI_pos (by omega)) (br_f h1 ⟨iny, ?_⟩))
          rw [cy, d3]
          exact br_f (nI_nlt hge (by omega)) ⟨rfl, R⟩
    · refine vq_chain_no g1 gL (by omega) g5 g7 g8 hq hno (br_t (by decide) ?_)
      refine vq_y_find gL hq (fun i c hi e => absurd e (hno i (List.getElem?_eq_some_iff.mp hi).1)) (fun _ => br_t (by decide) ⟨rfl, R⟩)
end
section
/-! ring, deliver, check -/
theorem vq_side (p : Int32) : (∃ s, s < 2 ∧ p = nI s) ∨ (¬ p = 0 ∧ ¬ p = 1) := by
  by_cases h0 : p = 0
  · exact Or.inl ⟨0, by omega, h0⟩
  · by_cases h1 : p = 1
    · exact Or.inl ⟨1, by omega, h1⟩
    · exact Or.inr ⟨h0, h1⟩
theorem vq_sd {s : Nat} {A B C : Prop} (hs : s < 2) (ha : A) (hb : B) : (nI s = 0 → A) ∧ (¬ nI s = 0 → (nI s = 1 → B) ∧ (¬ nI s = 1 → C)) := by
  have : s = 0 ∨ s = 1 := by omega
  rcases this with rfl | rfl
  · exact br_t rfl ha
  · exact br_f (by decide) (br_t rfl hb)
theorem vq_ot {s : Nat} (hs : s < 2) : (1 : Int32) - nI s = nI (1 - s) := by
  have : s = 0 ∨ s = 1 := by omega
  rcases this with rfl | rfl <;> rfl
theorem i_vc_ring {k : Nat} {u : SX} {v : SY} (I : i_Rel k u v) (hk : k + 4 ≤ 2052) (v1 : Int32) (v2 : Int32) : wpX_ring (fun r => wpY_ring (fun r' => r' = r ∧ i_Rel (k + 4) u v) v v1 v2) u v1 v2 := by
  refine vq_el (P := fun u v => wpX_ring (fun r => wpY_ring (fun r' => r' = r ∧ i_Rel (k + 4) u v) v v1 v2) u v1 v2) I ?_
  intro f_ringRoom f_tableBase f_receiptBase f_openChain f_receiptChain f_slotMask f_indexMask f_freeHead f_freeCount f_freeTableHead f_freeTableCount f_openCount f_receiptCount f_heldCount a_memory a_next a_tableOf a_tableNext a_tags a_sizes a_outs a_directs a_writtens a_heads a_tails a_held a_slots a_unpublished a_index a_unchecked a_seen a_event a_state a_pending g_clock g_descriptors g_modulus g_allTables b_at b_since b_tags b_size b_direct b_written b_values b_kinds b_state b_pending b_index b_event b_unchecked N M TT L D T o sz g1 gL g3 g4 g5 g6 g7 g8 g9 hb
  have R : i_Rel (k + 4) (f_ringRoom, f_tableBase, f_receiptBase, f_openChain, f_receiptChain, f_slotMask, f_indexMask, f_freeHead, f_freeCount, f_freeTableHead, f_freeTableCount, f_openCount, f_receiptCount, f_heldCount, a_memory, a_next, a_tableOf, a_tableNext, a_tags, a_sizes, a_outs, a_directs, a_writtens, a_heads, a_tails, a_held, a_slots, a_unpublished, a_index, a_unchecked, a_seen, a_event, a_state, a_pending) (g_clock, g_descriptors, g_modulus, g_allTables, b_at, b_since, b_tags, b_size, b_direct, b_written, b_values, b_kinds, b_state, b_pending, b_index, b_event, b_unchecked) := i_up ⟨N, M, TT, L, D, T, o, sz, g1, gL, g3, g4, g5, g6, g7, g8, g9⟩
  obtain ⟨rfl, rfl, rfl, rfl, rfl, h9⟩ := g9
  unfold wpX_ring
  rcases vq_side v1 with ⟨s, hs, rfl⟩ | ⟨h0, h1⟩
  · refine vq_x_side1 hs (br_f (by decide) ?_)
    have is : vp_in (nI s) 2 := vp_in_nI hs (by decide)
    have fy : ∀ P : Int32 → Prop, wY_ring_11 P (nI s) v2 g_clock g_descriptors g_modulus g_allTables b_at b_since b_tags b_size b_direct b_written b_values b_kinds a_state a_pending a_index a_event a_unchecked → wpY_ring P (g_clock, g_descriptors, g_modulus, g_allTables, b_at, b_since, b_tags, b_size, b_direct, b_written, b_values, b_kinds, a_state, a_pending, a_index, a_event, a_unchecked) (nI s) v2 := fun P h => vq_sd hs h h
    refine br_c (fun h1 => ?_) (fun h1 => br_c (fun h2 => ?_) (fun h2 => ?_))
    · obtain ⟨w0, w1, w2, w3, w4⟩ := vq_out5 (Or.inl h1)
      exact fy _ (br_f w0 (br_f w1 (br_f w2 (br_f w3 (br_f w4 ⟨rfl, R⟩)))))
    · obtain ⟨w0, w1, w2, w3, w4⟩ := vq_out5 (Or.inr h2)
      exact fy _ (br_f w0 (br_f w1 (br_f w2 (br_f w3 (br_f w4 ⟨rfl, R⟩)))))
    · rcases vq_sel5 h1 h2 with rfl | rfl | rfl | rfl | rfl
      · exact br_t rfl ⟨is, fy _ (br_t rfl ⟨is, rfl, R⟩)⟩
      · exact br_f (by decide) (br_t rfl ⟨is, fy _ (br_f (by decide) (br_t rfl ⟨is, rfl, R⟩))⟩)
      · exact br_f (by decide) (br_f (by decide) (br_t rfl ⟨is, fy _ (br_f (by decide) (br_f (by decide) (br_t rfl ⟨is, rfl, R⟩)))⟩))
      · exact br_f (by decide) (br_f (by decide) (br_f (by decide) (br_t rfl ⟨is, fy _ (br_f (by decide) (br_f (by decide) (br_f (by decide) (br_t rfl ⟨is, rfl, R⟩))))⟩)))
      · exact br_f (by decide) (br_f (by decide) (br_f (by decide) (br_f (by decide) (br_t rfl ⟨is, fy _ (br_f (by decide) (br_f (by decide) (br_f (by decide) (br_f (by decide) (br_t rfl ⟨is, rfl, R⟩)))))⟩))))
  · exact vq_x_side0 h0 h1 (br_t rfl (br_f h0 (br_f h1 ⟨rfl, R⟩)))
theorem i_vc_deliver {k : Nat} {u : SX} {v : SY} (I : i_Rel k u v) (hk : k + 4 ≤ 2052) (v1 : Int32) : wpX_deliver (fun r u' => wpY_deliver (fun r' v' => r' = r ∧ i_Rel (k + 4) u' v') v v1) u v1 := by
  refine vq_el (P := fun u v => wpX_deliver (fun r u' => wpY_deliver (fun r' v' => r' = r ∧ i_Rel (k + 4) u' v') v v1) u v1) I ?_
  intro f_ringRoom f_tableBase f_receiptBase f_openChain f_receiptChain f_slotMask f_indexMask f_freeHead f_freeCount f_freeTableHead f_freeTableCount f_openCount f_receiptCount f_heldCount a_memory a_next a_tableOf a_tableNext a_tags a_sizes a_outs a_directs a_writtens a_heads a_tails a_held a_slots a_unpublished a_index a_unchecked a_seen a_event a_state a_pending g_clock g_descriptors g_modulus g_allTables b_at b_since b_tags b_size b_direct b_written b_values b_kinds b_state b_pending b_index b_event b_unchecked N M TT L D T o sz g1 gL g3 g4 g5 g6 g7 g8 g9 hb
  obtain ⟨rfl, rfl, rfl, rfl, rfl, h9⟩ := g9
  have R : ∀ st pe : Nat → Int32, i_Rel (k + 4) (f_ringRoom, f_tableBase, f_receiptBase, f_openChain, f_receiptChain, f_slotMask, f_indexMask, f_freeHead, f_freeCount, f_freeTableHead, f_freeTableCount, f_openCount, f_receiptCount, f_heldCount, a_memory, a_next, a_tableOf, a_tableNext, a_tags, a_sizes, a_outs, a_directs, a_writtens, a_heads, a_tails, a_held, a_slots, a_unpublished, a_index, a_unchecked, a_seen, a_event, st, pe) (g_clock, g_descriptors, g_modulus, g_allTables, b_at, b_since, b_tags, b_size, b_direct, b_written, b_values, b_kinds, st, pe, a_index, a_event, a_unchecked) := fun st pe =>
    i_up ⟨N, M, TT, L, D, T, o, sz, g1, gL, g3, g4, g5, g6, g7, g8, rfl, rfl, rfl, rfl, rfl, h9⟩
  unfold wpX_deliver
  rcases vq_side v1 with ⟨s, hs, rfl⟩ | ⟨h0, h1⟩
  · refine vq_x_side1 hs (br_f (by decide) ?_)
    have is : vp_in (nI s) 2 := vp_in_nI hs (by decide)
    refine ⟨is, br_c (fun hp => ?_) (fun hp => ⟨is, ?_⟩)⟩
    · refine vq_sd hs ?_ ?_
      · exact ⟨is, br_t hp ⟨rfl, R _ _⟩⟩
      · exact ⟨is, br_t hp ⟨rfl, R _ _⟩⟩
    · intro pe ep
      refine ⟨is, br_c (fun h3 => ⟨is, ?_⟩) (fun h3 => ?_)⟩
      · intro st est
        have Z : wY_deliver_11 (fun r' v' => r' = 9 ∧ i_Rel (k + 4) (f_ringRoom, f_tableBase, f_receiptBase, f_openChain, f_receiptChain, f_slotMask, f_indexMask, f_freeHead, f_freeCount, f_freeTableHead, f_freeTableCount, f_openCount, f_receiptCount, f_heldCount, a_memory, a_next, a_tableOf, a_tableNext, a_tags, a_sizes, a_outs, a_directs, a_writtens, a_heads, a_tails, a_held, a_slots, a_unpublished, a_index, a_unchecked, a_seen, a_event, st, pe) v') (nI s) g_clock g_descriptors g_modulus g_allTables b_at b_since b_tags b_size b_direct b_written b_values b_kinds a_state a_pending a_index a_event a_unchecked := by
          refine ⟨is, br_f hp ⟨is, ?_⟩⟩
          intro pe' ep'
          refine ⟨is, br_t h3 ⟨is, ?_⟩⟩
          intro st' est'
          rw [ep', est', ← ep, ← est]
          exact ⟨rfl, R _ _⟩
        exact vq_sd hs Z Z
      · have Z : wY_deliver_11 (fun r' v' => r' = 10 ∧ i_Rel (k + 4) (f_ringRoom, f_tableBase, f_receiptBase, f_openChain, f_receiptChain, f_slotMask, f_indexMask, f_freeHead, f_freeCount, f_freeTableHead, f_freeTableCount, f_openCount, f_receiptCount, f_heldCount, a_memory, a_next, a_tableOf, a_tableNext, a_tags, a_sizes, a_outs, a_directs, a_writtens, a_heads, a_tails, a_held, a_slots, a_unpublished, a_index, a_unchecked, a_seen, a_event, a_state, pe) v') (nI s) g_clock g_descriptors g_modulus g_allTables b_at b_since b_tags b_size b_direct b_written b_values b_kinds a_state a_pending a_index a_event a_unchecked := by
          refine ⟨is, br_f hp ⟨is, ?_⟩⟩
          intro pe' ep'
          refine ⟨is, br_f h3 ?_⟩
          rw [ep', ← ep]
          exact ⟨rfl, R _ _⟩
        exact vq_sd hs Z Z
  · exact vq_x_side0 h0 h1 (br_t rfl (br_f h0 (br_f h1 ⟨rfl, R _ _⟩)))
section vq_CK
variable {g_clock : Int64} {g_descriptors g_modulus g_allTables : Int32} {b_since : Nat → Int64} {b_at b_tags b_size b_direct b_written b_values b_kinds b_state b_pending b_index b_event b_unchecked : Nat → Int32}
theorem vq_y_check_l {post : Int32 → SY → Prop} {s M ix e u d : Nat} (hs : s < 2) (hM : M ≤ 256) (hix : ix < M) (he : e < M) (hu : u ≤ M) (eM : g_modulus = nI M) (ei : b_index s = nI ix) (ee : b_event (1 - s) = nI e)
    (hd : ∀ k, 1 ≤ k → k ≤ M → ((if k ≤ ix then ix - k else ix + M - k) = e ↔ k = d + 1))
    (h7 : d < u → post 7 (g_clock, g_descriptors, g_modulus, g_allTables, b_at, b_since, b_tags, b_size, b_direct, b_written, b_values, b_kinds, b_state, upd b_pending (1 - s) 1, b_index, b_event, b_unchecked)) (h8 : u ≤ d → post 8 (g_clock, g_descriptors, g_modulus, g_allTables, b_at, b_since, b_tags, b_size, b_direct, b_written, b_values, b_kinds, b_state, b_pending, b_index, b_event, b_unchecked)) :
    ∀ n k, 1 ≤ k → k ≤ u + 1 → k ≤ d + 1 → u + 1 - k < n → wY_check_34 post (nI s) (nI u) g_clock g_descriptors g_modulus g_allTables b_at b_since b_tags b_size b_direct b_written b_values b_kinds b_state b_pending b_index b_event b_unchecked n (nI k) := by
  intro n
  induction n with
  | zero => intro k _ _ _ h; omega
  | succ n ih =>
    intro k h1 h2 h3 hn
    by_cases e1 : k = u + 1
    · exact br_t (nI_lt (by omega) (by omega)) (h8 (by omega))
    · refine br_f (nI_nlt (by omega) (by omega)) ⟨vp_in_nI hs (by decide), ?_⟩
      have io : vp_in (1 - nI s) 2 := by rw [vq_ot hs]; exact vp_in_nI (by omega) (by decide)
      have co : (1 - nI s).toNatClampNeg = 1 - s := by rw [vq_ot hs]; exact nI_clamp (by omega)
      have hdk := hd k h1 (by omega)
      have body : ∀ x4, x4 = nI (if k ≤ ix then ix - k else ix + M - k) → wY_check_63 post (wY_check_34 post (nI s) (nI u) g_clock g_descriptors g_modulus g_allTables b_at b_since b_tags b_size b_direct b_written b_values b_kinds b_state b_pending b_index b_event b_unchecked n) (nI s) (nI u) (nI k) x4 g_clock g_descriptors g_modulus g_allTables b_at b_since b_tags b_size b_direct b_written b_values b_kinds b_state b_pending b_index b_event b_unchecked := by
        intro x4 e4
        refine ⟨io, ?_⟩
        rw [co, e4, ee]
        have hlt : (if k ≤ ix then ix - k else ix + M - k) < 2 ^ 31 := by split <;> omega
        by_cases hk : k = d + 1
        · refine br_t (by rw [hdk.mpr hk]) ⟨io, ?_⟩
          intro p ep
          rw [ep]
          exact h7 (by omega)
        · refine br_f (fun z => hk (hdk.mp (vq_inj z hlt (by omega)))) ?_
          intro x3 e3
          rw [e3, nI_1]
          exact ih (k + 1) (by omega) (by omega) (by omega) (by omega)
      intro x4 e4
      rw [nI_clamp (by omega), ei] at e4
      by_cases hk : k ≤ ix
      · rw [pk_sub hk] at e4
        rw [if_pos hk] at body
        exact br_t (by rw [e4]; exact nI_pos' (by omega)) (body x4 e4)
      · refine br_f ?_ ?_
        · rw [e4]
          exact fun z => absurd (pk_sneg (a := ix) (b := k) (by omega) (by omega)) (Int32.not_lt.mpr z)
        · intro x5 e5
          refine body x5 ?_
          rw [if_neg hk, e5, e4, eM, show ix + M - k = ix + (M - k) by omega, ← nI_add, ← pk_sub (show k ≤ M by omega)]
          grind
end vq_CK
theorem vq_dist {N M TT : Nat} (hN : vq_N N M TT) {ix e : Nat} (hix : ix < M) (he : e < M) : ∃ d, d < M ∧ (nI ix - nI e - 1) &&& nI (M - 1) = nI d ∧ ∀ k, 1 ≤ k → k ≤ M → ((if k ≤ ix then ix - k else ix + M - k) = e ↔ k = d + 1) := by
  have e1 : nI ix - nI e - 1 = nI ix - nI (e + 1) := by rw [← nI_1]; grind
  rw [e1, vq_andMs hN hix (by omega)]
  have h2 := hN.2.1
  refine ⟨(ix + M - (e + 1)) % M, Nat.mod_lt _ (by omega), rfl, ?_⟩
  intro k hk1 hk2
  by_cases hlt : e + 1 ≤ ix
  · have : (ix + M - (e + 1)) % M = ix - (e + 1) := by
      rw [show ix + M - (e + 1) = ix - (e + 1) + M by omega, Nat.add_mod_right]
      exact Nat.mod_eq_of_lt (by omega)
    rw [this]
    split <;> omega
  · have : (ix + M - (e + 1)) % M = ix + M - (e + 1) := Nat.mod_eq_of_lt (by omega)
    rw [this]
    split <;> omega
theorem vq_ixb {N M : Nat} {L D : Nat → List Nat} {a_slots a_seen a_index a_unpublished : Nat → Int32} (hM : 0 < M) (g8 : vq_G8 N M D L a_slots a_seen a_index a_unpublished) {s : Nat} (hs : s < 2) : ∃ ix, ix < M ∧ a_index s = nI ix := by
  obtain ⟨⟨p0, _, _, e0, _⟩, ⟨p1, _, _, e1, _⟩⟩ := g8
  have : s = 0 ∨ s = 1 := by omega
  rcases this with rfl | rfl
  · exact ⟨_, Nat.mod_lt _ hM, e0⟩
  · exact ⟨_, Nat.mod_lt _ hM, e1⟩
theorem vq_sd2 {P : Nat → Prop} (h0 : P 0) (h1 : P 1) : ∀ s, s < 2 → P s := by
  intro s hs
  have : s = 0 ∨ s = 1 := by omega
  rcases this with rfl | rfl
  · exact h0
  · exact h1
theorem i_vc_check {k : Nat} {u : SX} {v : SY} (I : i_Rel k u v) (hk : k + 4 ≤ 2052) (v1 : Int32) : wpX_check (fun r u' => wpY_check (fun r' v' => r' = r ∧ i_Rel (k + 4) u' v') v v1) u v1 := by
  refine vq_el (P := fun u v => wpX_check (fun r u' => wpY_check (fun r' v' => r' = r ∧ i_Rel (k + 4) u' v') v v1) u v1) I ?_
  intro f_ringRoom f_tableBase f_receiptBase f_openChain f_receiptChain f_slotMask f_indexMask f_freeHead f_freeCount f_freeTableHead f_freeTableCount f_openCount f_receiptCount f_heldCount a_memory a_next a_tableOf a_tableNext a_tags a_sizes a_outs a_directs a_writtens a_heads a_tails a_held a_slots a_unpublished a_index a_unchecked a_seen a_event a_state a_pending g_clock g_descriptors g_modulus g_allTables b_at b_since b_tags b_size b_direct b_written b_values b_kinds b_state b_pending b_index b_event b_unchecked N M TT L D T o sz g1 gL g3 g4 g5 g6 g7 g8 g9 hb
  obtain ⟨rfl, rfl, rfl, rfl, rfl, h9⟩ := g9
  have R : ∀ un pe : Nat → Int32, (∀ s, s < 2 → ∃ u, u ≤ M ∧ un s = nI u) → i_Rel (k + 4) (f_ringRoom, f_tableBase, f_receiptBase, f_openChain, f_receiptChain, f_slotMask, f_indexMask, f_freeHead, f_freeCount, f_freeTableHead, f_freeTableCount, f_openCount, f_receiptCount, f_heldCount, a_memory, a_next, a_tableOf, a_tableNext, a_tags, a_sizes, a_outs, a_directs, a_writtens, a_heads, a_tails, a_held, a_slots, a_unpublished, a_index, un, a_seen, a_event, a_state, pe) (g_clock, g_descriptors, g_modulus, g_allTables, b_at, b_since, b_tags, b_size, b_direct, b_written, b_values, b_kinds, a_state, pe, a_index, a_event, un) := fun un pe hu =>
    i_up ⟨N, M, TT, L, D, T, o, sz, g1, gL, g3, g4, g5, g6, g7, g8, rfl, rfl, rfl, rfl, rfl, fun s hs => ⟨(h9 s hs).1, hu s hs⟩⟩
  have R0 := R a_unchecked a_pending (fun s hs => (h9 s hs).2)
  unfold wpX_check
  rcases vq_side v1 with ⟨s, hs, rfl⟩ | ⟨h0, h1⟩
  · refine vq_x_side1 hs (br_f (by decide) ?_)
    have is : vp_in (nI s) 2 := vp_in_nI hs (by decide)
    have cs : (nI s).toNatClampNeg = s := nI_clamp (by omega)
    have hN := g1.1
    have hM0 : 0 < M := by have := hN.2.1; omega
    have hM256 : M ≤ 256 := by have := hN.2.1; omega
    obtain ⟨ix, hix, eix⟩ := vq_ixb hM0 g8 hs
    obtain ⟨e, he, ee⟩ := (h9 (1 - s) (by omega)).1
    obtain ⟨u, hu, eu⟩ := (h9 s hs).2
    obtain ⟨d, hd, ed, hdk⟩ := vq_dist hN hix he
    have io : vp_in (nI (1 - s)) 2 := vp_in_nI (by omega) (by decide)
    have co : (nI (1 - s)).toNatClampNeg = 1 - s := nI_clamp (by omega)
    refine ⟨is, ?_⟩
    intro x2 e2
    rw [cs, eu] at e2
    by_cases hu0 : u = 0
    · have hx0 : x2 = 0 := by rw [e2, hu0]; rfl
      refine br_t hx0 ?_
      have Z : wY_check_11 (fun r' v' => r' = -9 ∧ i_Rel (k + 4) (f_ringRoom, f_tableBase, f_receiptBase, f_openChain, f_receiptChain, f_slotMask, f_indexMask, f_freeHead, f_freeCount, f_freeTableHead, f_freeTableCount, f_openCount, f_receiptCount, f_heldCount, a_memory, a_next, a_tableOf, a_tableNext, a_tags, a_sizes, a_outs, a_directs, a_writtens, a_heads, a_tails, a_held, a_slots, a_unpublished, a_index, a_unchecked, a_seen, a_event, a_state, a_pending) v') (nI s) g_clock g_descriptors g_modulus g_allTables b_at b_since b_tags b_size b_direct b_written b_values b_kinds a_state a_pending a_index a_event a_unchecked := by
        refine ⟨is, ?_⟩
        intro y2 f2
        rw [cs, eu, hu0] at f2
        exact br_t f2 ⟨rfl, R0⟩
      exact vq_sd hs Z Z
    · have hx0 : ¬ x2 = 0 := by rw [e2]; exact nI_ne0 (by omega) (by omega)
      refine br_f hx0 ⟨is, ?_⟩
      intro un eun
      rw [cs] at eun
      intro x3 e3
      rw [vq_ot hs] at e3
      rw [e3, cs, co]
      refine ⟨is, io, ?_⟩
      intro x4 e4
      rw [eix, ee, g1.2.2.1, ed] at e4
      have hun : ∀ s', s' < 2 → ∃ u, u ≤ M ∧ un s' = nI u := by
        intro s' hs'
        rw [eun]
        by_cases z : s' = s
        · rw [z, pk_us]; exact ⟨0, by omega, rfl⟩
        · rw [pk_un z]; exact (h9 s' hs').2
      have ZZ : ∀ post : Int32 → SY → Prop, (d < u → post 7 (g_clock, g_descriptors, g_modulus, g_allTables, b_at, b_since, b_tags, b_size, b_direct, b_written, b_values, b_kinds, a_state, upd a_pending (1 - s) 1, a_index, a_event, un)) → (u ≤ d → post 8 (g_clock, g_descriptors, g_modulus, g_allTables, b_at, b_since, b_tags, b_size, b_direct, b_written, b_values, b_kinds, a_state, a_pending, a_index, a_event, un)) →
          wY_check_11 post (nI s) g_clock g_descriptors g_modulus g_allTables b_at b_since b_tags b_size b_direct b_written b_values b_kinds a_state a_pending a_index a_event a_unchecked := by
        intro post h7 h8
        refine ⟨is, ?_⟩
        intro y2 f2
        rw [cs, eu] at f2
        refine br_f (by rw [f2]; exact nI_ne0 (by omega) (by omega)) ⟨is, ?_⟩
        intro un' eun'
        rw [cs, ← eun] at eun'
        rw [eun', f2]
        exact ⟨u + 1, vq_y_check_l hs hM256 hix he hu g1.2.2.2.2.1 eix ee hdk h7 h8 (u + 1) 1 (by omega) (by omega) (by omega) (by omega)⟩
      rw [e4, e2]
      refine pk_lt d u (fun hlt => ⟨io, ?_⟩) (fun hge => ?_)
      · intro pe epe
        rw [epe]
        have Z := ZZ (fun r' v' => r' = 7 ∧ i_Rel (k + 4) (f_ringRoom, f_tableBase, f_receiptBase, f_openChain, f_receiptChain, f_slotMask, f_indexMask, f_freeHead, f_freeCount, f_freeTableHead, f_freeTableCount, f_openCount, f_receiptCount, f_heldCount, a_memory, a_next, a_tableOf, a_tableNext, a_tags, a_sizes, a_outs, a_directs, a_writtens, a_heads, a_tails, a_held, a_slots, a_unpublished, a_index, un, a_seen, a_event, a_state, upd a_pending (1 - s) 1) v') (fun _ => ⟨rfl, R _ _ hun⟩) (fun z => absurd hlt (by omega))
        exact vq_sd hs Z Z
      · have Z := ZZ (fun r' v' => r' = 8 ∧ i_Rel (k + 4) (f_ringRoom, f_tableBase, f_receiptBase, f_openChain, f_receiptChain, f_slotMask, f_indexMask, f_freeHead, f_freeCount, f_freeTableHead, f_freeTableCount, f_openCount, f_receiptCount, f_heldCount, a_memory, a_next, a_tableOf, a_tableNext, a_tags, a_sizes, a_outs, a_directs, a_writtens, a_heads, a_tails, a_held, a_slots, a_unpublished, a_index, un, a_seen, a_event, a_state, a_pending) v') (fun z => absurd z (by omega)) (fun _ => ⟨rfl, R _ _ hun⟩)
        exact vq_sd hs Z Z
  · exact vq_x_side0 h0 h1 (br_t rfl (br_f h0 (br_f h1 ⟨rfl, R0⟩)))
end
section
/-! frames: other chains lie elsewhere -/
theorem vq_hdm {l : List Nat} (h : l ≠ []) : l.headD 0 ∈ l := by
  cases l with
  | nil => exact absurd rfl h
  | cons a l => exact List.mem_cons_self
theorem vq_hd0 {l : List Nat} (h : l ≠ []) : l[0]? = some (l.headD 0) := by
  cases l with
  | nil => exact absurd rfl h
  | cons a l => rfl
theorem vq_ne16 {a : Int32} {Dc : List Nat} {x : Nat} (h : vq_isx a Dc x) (ha : a ≠ 0) (hs : vq_sub a → Dc ≠ []) (hD : ∀ d, d ∈ Dc → d < 16) : x ≠ 16 := by
  rcases h with h | h | h
  · exact absurd h.1 ha
  · omega
  · have := hD _ (vq_hdm (hs h.1))
    omega
theorem vq_ne17 {a : Int32} {Dc : List Nat} {x : Nat} (h : vq_isx a Dc x) (ha : a ≠ 6) (hs : vq_sub a → Dc ≠ []) (hD : ∀ d, d ∈ Dc → d < 16) : x ≠ 17 := by
  rcases h with h | h | h
  · omega
  · exact absurd h.1 ha
  · have := hD _ (vq_hdm (hs h.1))
    omega
theorem vq_neD {nx : Nat → Int32} {D : Nat → List Nat} (hK : vq_K nx D 16) {a : Int32} {c c' y x : Nat} (hy : y ∈ D c) (hne : c' ≠ c) (h : vq_isx a (D c') x) (hs : vq_sub a → D c' ≠ []) : x ≠ y := by
  have hy16 := hK.2.1 c y hy
  rcases h with h | h | h
  · omega
  · omega
  · intro e
    rw [← e, h.2] at hy
    exact hne (hK.2.2.1 c' c _ (vq_hdm (hs h.1)) hy)
theorem vq_PA_ne {nx tn : Nat → Int32} {D T : Nat → List Nat} (hK : vq_K nx D 16) (hT : vq_K tn T 4) {a : Int32} {c c' p p' : Nat} (hne : c' ≠ c) (hp : vq_PL (D c) (T c) p) (h : vq_PA a (D c') (T c') p') : p' ≠ p := by
  intro e
  subst e
  rcases hp with hp | ⟨t, ht, hp1, hp2⟩
  · have hp16 := hK.2.1 c _ hp
    rcases h with (h | ⟨t, ht, h1, h2⟩) | ⟨_, h | ⟨t, ht, h1, h2⟩⟩
    · exact hne (hK.2.2.1 c' c _ h hp)
    · omega
    · exact absurd h List.not_mem_nil
    · omega
  · have ht4 := hT.2.1 c _ ht
    rcases h with (h | ⟨t', ht', h1, h2⟩) | ⟨_, h | ⟨t', ht', h1, h2⟩⟩
    · have := hK.2.1 c' _ h
      omega
    · have : t' = t := by omega
      subst this
      exact hne (hT.2.2.1 c' c _ ht' ht)
    · exact absurd h List.not_mem_nil
    · rw [List.mem_singleton] at ht'
      omega
theorem vq_PA_lt {nx tn : Nat → Int32} {D T : Nat → List Nat} (hK : vq_K nx D 16) (hT : vq_K tn T 4) {a : Int32} {c p : Nat} (ha : a ≠ 6) (h : vq_PA a (D c) (T c) p) : p < 48 := by
  rcases h with (h | ⟨t', ht', h1, h2⟩) | ⟨z, _⟩
  · have := hK.2.1 c _ h
    omega
  · have := hT.2.1 c _ ht'
    omega
  · exact absurd z ha
theorem vq_sm_alloc {D : Nat → List Nat} {c d : Nat} {F : List Nat} (hc : c < 18) (hF : D 18 = d :: F) : vq_sm (fun j => (vq_gs (vq_gs D 18 F) c (D c ++ [d]) j).length) 19 = vq_sm (fun j => (D j).length) 19 := by
  have h := vq_sm_one (f := fun j => (vq_gs (vq_gs D 18 F) c (D c ++ [d]) j).length) (g := fun j => (D j).length) (n := 18) (c := c) hc (by
    intro j hj hne
    show (vq_gs (vq_gs D 18 F) c (D c ++ [d]) j).length = (D j).length
    rw [vq_gsn hne, vq_gsn (by omega)])
  have e1 : (vq_gs (vq_gs D 18 F) c (D c ++ [d]) c).length = (D c).length + 1 := by rw [vq_gss, List.length_append, List.length_singleton]
  have e2 : (vq_gs (vq_gs D 18 F) c (D c ++ [d]) 18).length + 1 = (D 18).length := by rw [vq_gsn (by omega), vq_gss, hF, List.length_cons]
  have s1 : vq_sm (fun j => (vq_gs (vq_gs D 18 F) c (D c ++ [d]) j).length) 19 = vq_sm (fun j => (vq_gs (vq_gs D 18 F) c (D c ++ [d]) j).length) 18 + (vq_gs (vq_gs D 18 F) c (D c ++ [d]) 18).length := rfl
  have s2 : vq_sm (fun j => (D j).length) 19 = vq_sm (fun j => (D j).length) 18 + (D 18).length := rfl
  simp only [e1] at h
  omega
theorem vq_sm_free {D : Nat → List Nat} {c : Nat} (hc : c < 18) : vq_sm (fun j => (vq_gs (vq_gs D c []) 18 (D c ++ D 18) j).length) 19 = vq_sm (fun j => (D j).length) 19 := by
  have h := vq_sm_one (f := fun j => (vq_gs (vq_gs D c []) 18 (D c ++ D 18) j).length) (g := fun j => (D j).length) (n := 18) (c := c) hc (by
    intro j hj hne
    show (vq_gs (vq_gs D c []) 18 (D c ++ D 18) j).length = (D j).length
    rw [vq_gsn (by omega), vq_gsn hne])
  have e1 : (vq_gs (vq_gs D c []) 18 (D c ++ D 18) c).length = 0 := by rw [vq_gsn (by omega), vq_gss]; rfl
  have e2 : (vq_gs (vq_gs D c []) 18 (D c ++ D 18) 18).length = (D c).length + (D 18).length := by rw [vq_gss, List.length_append]
  have s1 : vq_sm (fun j => (vq_gs (vq_gs D c []) 18 (D c ++ D 18) j).length) 19 = vq_sm (fun j => (vq_gs (vq_gs D c []) 18 (D c ++ D 18) j).length) 18 + (vq_gs (vq_gs D c []) 18 (D c ++ D 18) 18).length := rfl
  have s2 : vq_sm (fun j => (D j).length) 19 = vq_sm (fun j => (D j).length) 18 + (D 18).length := rfl
  simp only [e1] at h
  omega
theorem vq_subne {a : Int32} (h : vq_sub a) : a ≠ -1 ∧ a ≠ 0 ∧ a ≠ 6 := by
  obtain ⟨q, h1, h2, rfl⟩ := h
  refine ⟨vq_m1' q (by omega), nI_ne0 (by omega) (by omega), ?_⟩
  intro e
  have := vq_inj (b := 6) e (by omega) (by omega)
  omega
theorem vq_C1_sub {me tO tX sX oX dX wX hX lX tY sY dY wY va kn : Nat → Int32} {a a' : Int32} {Dc Tc : List Nat} {c oc sc : Nat} (h : vq_C1 me tO tX sX oX dX wX hX lX tY sY dY wY va kn a Dc Tc c oc sc) (ha : vq_sub a) (ha' : vq_sub a') :
    vq_C1 me tO tX sX oX dX wX hX lX tY sY dY wY va kn a' Dc Tc c oc sc := by
  obtain ⟨n1, n2, n3⟩ := vq_subne ha'
  exact ⟨fun z => absurd z n1, fun z => absurd z n3, fun z => absurd z n2, fun _ => h.2.2.2 ha⟩
theorem vq_all {at' : Nat → Int32} {si : Nat → Int64} {clk : Int64} {L : Nat → List Nat} {K : Nat} (h : vq_L at' si clk L K) (hb : (L 0).length + (L 1).length + (L 2).length + (L 3).length + (L 4).length + (L 5).length + (L 6).length < 18) : ∃ c, c < 18 ∧ at' c = -1 := by
  by_cases hex : ∃ c, c < 18 ∧ at' c = -1
  · exact hex
  · exfalso
    have key : ∀ n, n ≤ 18 → n ≤ vq_cn (fun c => decide (at' c = nI 0)) n + vq_cn (fun c => decide (at' c = nI 1)) n + vq_cn (fun c => decide (at' c = nI 2)) n + vq_cn (fun c => decide (at' c = nI 3)) n + vq_cn (fun c => decide (at' c = nI 4)) n + vq_cn (fun c => decide (at' c = nI 5)) n + vq_cn (fun c => decide (at' c = nI 6)) n := by
      intro n
      induction n with
      | zero => intro _; exact Nat.zero_le _
      | succ n ih =>
        intro hn
        have ih := ih (by omega)
        rcases h.1 n (by omega) with ha | ⟨q, hq, ha⟩
        · exact absurd ⟨n, by omega, ha⟩ hex
        · have hq7 : q = 0 ∨ q = 1 ∨ q = 2 ∨ q = 3 ∨ q = 4 ∨ q = 5 ∨ q = 6 := by omega
          have hz : (if decide (at' n = nI 0) = true then 1 else 0) + (if decide (at' n = nI 1) = true then 1 else 0) + (if decide (at' n = nI 2) = true then 1 else 0) + (if decide (at' n = nI 3) = true then 1 else 0) + (if decide (at' n = nI 4) = true then 1 else 0) + (if decide (at' n = nI 5) = true then 1 else 0) + (if decide (at' n = nI 6) = true then 1 else 0) = 1 := by
            rw [ha]
            rcases hq7 with rfl | rfl | rfl | rfl | rfl | rfl | rfl <;> decide
          simp only [vq_cn]
          omega
    have k := key 18 (by omega)
    rw [vq_L_len h (by omega), vq_L_len h (by omega), vq_L_len h (by omega), vq_L_len h (by omega), vq_L_len h (by omega), vq_L_len h (by omega), vq_L_len h (by omega)] at k
    omega
end
section
/-! a new chain -/
section vq_OP
variable {g_clock : Int64} {g_descriptors g_modulus g_allTables : Int32} {b_since : Nat → Int64} {b_at b_tags b_size b_direct b_written b_values b_kinds b_state b_pending b_index b_event b_unchecked : Nat → Int32}
theorem vq_y_open35 {post : Int32 → SY → Prop} {tag : Int32} {c : Nat} (hc : c < 18) (hp : post 0 (g_clock + 1, g_descriptors, g_modulus, g_allTables, upd b_at c 0, vp_updL b_since c (g_clock + 1), upd b_tags c tag, upd b_size c 0, upd b_direct c (-1), upd b_written c 0, b_values, b_kinds, b_state, b_pending, b_index, b_event, b_unchecked)) : wY_open_35 post tag (nI c) g_clock g_descriptors g_modulus g_allTables b_at b_since b_tags b_size b_direct b_written b_values b_kinds b_state b_pending b_index b_event b_unchecked := by
  have ic : vp_in (nI c) 18 := vp_in_nI hc (by decide)
  have cc : (nI c).toNatClampNeg = c := nI_clamp (by omega)
  refine ⟨ic, fun z1 e1 => ⟨ic, fun z2 e2 => ⟨ic, fun z3 e3 => ⟨ic, fun z4 e4 => ?_⟩⟩⟩⟩
  rw [cc] at e1 e2 e3 e4
  refine vq_y_move hc ?_
  rw [e1, e2, e3, e4]
  exact hp
theorem vq_y_open13 {post : Int32 → SY → Prop} {tag : Int32} (hex : ∃ c, c < 18 ∧ b_at c = -1) (hp : ∀ c, c < 18 → b_at c = -1 → post 0 (g_clock + 1, g_descriptors, g_modulus, g_allTables, upd b_at c 0, vp_updL b_since c (g_clock + 1), upd b_tags c tag, upd b_size c 0, upd b_direct c (-1), upd b_written c 0, b_values, b_kinds, b_state, b_pending, b_index, b_event, b_unchecked)) :
    ∀ n c, c ≤ 17 → 17 - c < n → (∀ c', c' < c → ¬ b_at c' = -1) → wY_open_13 post tag g_clock g_descriptors g_modulus g_allTables b_at b_since b_tags b_size b_direct b_written b_values b_kinds b_state b_pending b_index b_event b_unchecked n (nI c) := by
  intro n
  induction n with
  | zero => intro j _ h; omega
  | succ n ih =>
    intro c hc hn hno
    by_cases e : c = 17
    · subst e
      refine br_t (nI_le (a := 17) (b := 17) (by omega) (by omega)) (vq_y_open35 (by omega) (hp 17 (by omega) ?_))
      obtain ⟨c', h1, h2⟩ := hex
      by_cases e' : c' = 17
      · rw [← e']; exact h2
      · exact absurd h2 (hno c' (by omega))
    · refine br_f (nI_ge (b := 17) (by omega) (by decide)) ⟨vp_in_nI (by omega) (by decide), ?_⟩
      rw [nI_clamp (by omega)]
      by_cases ha : b_at c = -1
      · exact br_t ha (vq_y_open35 (by omega) (hp c (by omega) ha))
      · refine br_f ha ?_
        intro x ex
        rw [ex, nI_1]
        refine ih (c + 1) (by omega) (by omega) ?_
        intro c' hc'
        by_cases e' : c' = c
        · rw [e']; exact ha
        · exact hno c' (by omega)
end vq_OP
theorem i_vc_open {k : Nat} {u : SX} {v : SY} (I : i_Rel k u v) (hk : k + 4 ≤ 2052) (v1 : Int32) : wpX_open (fun r u' => wpY_open (fun r' v' => r' = r ∧ i_Rel (k + 4) u' v') v v1) u v1 := by
  refine vq_el (P := fun u v => wpX_open (fun r u' => wpY_open (fun r' v' => r' = r ∧ i_Rel (k + 4) u' v') v v1) u v1) I ?_
  intro f_ringRoom f_tableBase f_receiptBase f_openChain f_receiptChain f_slotMask f_indexMask f_freeHead f_freeCount f_freeTableHead f_freeTableCount f_openCount f_receiptCount f_heldCount a_memory a_next a_tableOf a_tableNext a_tags a_sizes a_outs a_directs a_writtens a_heads a_tails a_held a_slots a_unpublished a_index a_unchecked a_seen a_event a_state a_pending g_clock g_descriptors g_modulus g_allTables b_at b_since b_tags b_size b_direct b_written b_values b_kinds b_state b_pending b_index b_event b_unchecked N M TT L D T o sz g1 gL g3 g4 g5 g6 g7 g8 g9 hb
  unfold wpX_open wpY_open
  obtain ⟨f1, f2, f3, f4⟩ := id g5
  by_cases hl : (L 0).length = 0
  · have hL0 : L 0 = [] := List.eq_nil_of_length_eq_zero hl
    refine br_t (by rw [f1, hl]; decide) ?_
    intro z1 e1 z2 e2 z3 e3 z4 e4 z5 e5 z6 e6 z7 e7
    refine vq_y_count (q := 0) gL (by omega) (br_t (by rw [hl]; decide) ?_)
    have hN16 : N ≤ 16 := by have := g1.1.1; omega
    have hex := vq_all gL (by omega)
    refine ⟨18, vq_y_open13 hex ?_ 18 0 (by omega) (by omega) (fun c' h => absurd h (by omega))⟩
    intro c hc ha
    refine ⟨rfl, N, M, TT, vq_gs L 0 (L 0 ++ [c]), D, T, vq_gs o c 0, vq_gs sz c 0, g1, ?_, g3, g4, ?_, ?_, ?_, ?_, g9⟩
    · exact vq_L_up (vq_L_ins (q := 0) gL (by omega) (by omega) hc ha) (by omega)
    · refine ⟨?_, ?_, ?_, ?_⟩
      · rw [vq_gss, hL0]; rfl
      · rw [vq_gss, hL0]; exact Nat.le_refl _
      · rw [vq_gsn (by omega)]; exact f3
      · rw [vq_gsn (by omega)]; exact f4
    · intro c' hc'
      by_cases ec : c' = c
      · subst ec
        obtain ⟨eD, eT⟩ := (g6 c' hc').1 ha
        rw [pk_us, vq_gss, vq_gss, e1, e2, e3, e4, e5, e6, e7]
        refine ⟨fun z => absurd z (by decide), fun z => absurd z (by decide), fun _ => ⟨?_, ?_, ?_⟩, fun z => absurd rfl (vq_subne z).2.1⟩
        · exact ⟨by rw [pk_us, pk_us], by rw [pk_us]; rfl, by rw [pk_us]; rfl, by rw [pk_us]; rfl, by rw [pk_us, pk_us], by rw [pk_us, pk_us]⟩
        · exact ⟨by omega, by omega, fun i hi => absurd hi (by omega)⟩
        · rw [eD, eT]
          exact ⟨Or.inl ⟨rfl, by rw [pk_us], rfl⟩, fun _ => ⟨pk_us, pk_us⟩, fun e h => by simp at h, fun e h => by simp at h, fun i d h => by simp at h⟩
      · rw [pk_un ec, vq_gsn ec, vq_gsn ec, e1, e2, e3, e4, e5, e6, e7]
        have hC := g6 c' hc'
        have ha0 : b_at c' ≠ 0 := by
          intro z
          have := (gL.2.1 0 (by omega) c').mpr ⟨hc', z⟩
          rw [hL0] at this
          exact absurd this List.not_mem_nil
        refine vq_C1_fr hC ?_ (fun p _ => rfl) (fun d _ => rfl) ?_ (fun i _ => ⟨rfl, rfl⟩)
        · intro x hx
          have hne := vq_ne16 hx ha0 (fun z => (hC.2.2.2 z).2.1) (g3.1.2.1 c')
          exact ⟨pk_un hne, pk_un hne, pk_un hne, pk_un hne, pk_un hne, pk_un hne, pk_un hne⟩
        · exact ⟨pk_un ec, pk_un ec, pk_un ec, pk_un ec⟩
    · refine ⟨?_, ?_⟩
      · rw [vq_gsn (by omega)]; exact g7.1
      · rw [vq_gsn (by omega)]; exact g7.2
    · unfold vq_G8
      rw [vq_gsn (by omega), vq_gsn (by omega), vq_gsn (by omega), vq_gsn (by omega)]
      exact g8
  · refine br_f (by rw [f1]; exact nI_nle (by omega) (by omega)) ?_
    refine vq_y_count (q := 0) gL (by omega) (br_f (nI_nle (by omega) (by omega)) ?_)
    exact ⟨rfl, i_up ⟨N, M, TT, L, D, T, o, sz, g1, gL, g3, g4, g5, g6, g7, g8, g9⟩⟩
end
section
/-! a descriptor behind the chain that is built; add, indirect -/
theorem vq_tos_app {tO tO' : Nat → Int32} {Dc Tn : List Nat} {d : Nat} (h : vq_tos tO Dc []) (hd : ¬ d ∈ Dc) (h1 : tO' d = vq_tv Tn) (h2 : ∀ j, j ≠ d → tO' j = tO j) : vq_tos tO' (Dc ++ [d]) Tn := by
  intro i e he
  have hl := (List.getElem?_eq_some_iff.mp he).1
  rw [List.length_append, List.length_singleton] at hl ⊢
  by_cases e1 : i = Dc.length
  · rw [List.getElem?_append_right (by omega), show i - Dc.length = 0 by omega] at he
    have ed : d = e := by simpa using he
    rw [← ed, if_pos (by omega)]
    exact h1
  · rw [List.getElem?_append_left (by omega)] at he
    rw [h2 e (fun z => hd (z ▸ List.mem_of_getElem? he)), h i e he, if_neg (by omega : ¬ i + 1 = Dc.length + 1)]
    split <;> rfl
theorem vq_add_cel {me va kn : Nat → Int32} {Dc Tc Dn Tn : List Nat} {c oc oc' sc : Nat} {v kd : Int32} (h : vq_cel me va kn Dc Tc c oc sc) (h8 : sc < 8) (hg : ∀ i, i < sc → vq_pl Dn Tn i = vq_pl Dc Tc i ∧ vq_pl Dc Tc i ≠ vq_pl Dn Tn sc)
    (hk : (kd = 0 ∧ oc = sc ∧ oc' = oc + 1) ∨ (kd = 1 ∧ oc' = oc)) : vq_cel (upd me (vq_pl Dn Tn sc) v) (upd va (c * 8 + sc) v) (upd kn (c * 8 + sc) kd) Dn Tn c oc' (sc + 1) := by
  obtain ⟨h1, h2, h3⟩ := h
  refine ⟨?_, by omega, ?_⟩
  · rcases hk with hk | hk <;> omega
  · intro i hi
    by_cases e : i = sc
    · subst e
      rw [pk_us, pk_us, pk_us]
      refine ⟨rfl, ?_⟩
      rcases hk with ⟨k1, k2, k3⟩ | ⟨k1, k2⟩
      · rw [if_pos (by omega)]; exact k1
      · rw [if_neg (by omega)]; exact k1
    · obtain ⟨g1, g2⟩ := hg i (by omega)
      rw [g1, pk_un g2, pk_un (by omega), pk_un (by omega)]
      refine ⟨(h3 i (by omega)).1, ?_⟩
      rw [(h3 i (by omega)).2]
      rcases hk with ⟨k1, k2, k3⟩ | ⟨k1, k2⟩
      · rw [if_pos (by omega), if_pos (by omega)]
      · rw [k2]
theorem vq_pl_app {Dc : List Nat} {d i : Nat} (hi : i < Dc.length) : vq_pl (Dc ++ [d]) [] i = vq_pl Dc [] i := by
  rw [vq_pl_lo (d := Dc.getD i 0) (by rw [List.length_append, List.length_nil]; omega) (by rw [List.getElem?_append_left hi]; exact vq_gq hi), vq_pl_lo (by rw [List.length_nil]; omega) (vq_gq hi)]
theorem vq_pl_app1 {Dc : List Nat} {d t i : Nat} (hi : i < Dc.length) : vq_pl (Dc ++ [d]) [t] i = vq_pl Dc [] i := by
  rw [vq_pl_lo (d := Dc.getD i 0) (by rw [List.length_append, List.length_singleton, List.length_singleton]; omega) (by rw [List.getElem?_append_left hi]; exact vq_gq hi), vq_pl_lo (by rw [List.length_nil]; omega) (vq_gq hi)]
theorem vq_pl_appd {Dc : List Nat} {d : Nat} : vq_pl (Dc ++ [d]) [] Dc.length = d := by
  refine vq_pl_lo (by rw [List.length_append, List.length_singleton, List.length_nil]; omega) ?_
  rw [List.getElem?_append_right (Nat.le_refl _), Nat.sub_self]; rfl
theorem vq_lastm {l : List Nat} (h : l ≠ []) : ∃ e, l.getLast? = some e ∧ e ∈ l := by
  have hl : 0 < l.length := List.length_pos_iff.mpr h
  have hg := vq_gq (l := l) (i := l.length - 1) (by omega)
  exact ⟨_, by rw [List.getLast?_eq_getElem?]; exact hg, List.mem_of_getElem? hg⟩
section vq_AD
variable {f_ringRoom f_tableBase f_receiptBase f_openChain f_receiptChain f_slotMask f_indexMask f_freeHead f_freeCount f_freeTableHead f_freeTableCount f_openCount f_receiptCount f_heldCount : Int32} {a_memory a_next a_tableOf a_tableNext a_tags a_sizes a_outs a_directs a_writtens a_heads a_tails a_held a_slots a_unpublished a_index a_unchecked a_seen a_event a_state a_pending : Nat → Int32} {g_clock : Int64} {g_descriptors g_modulus g_allTables : Int32} {b_since : Nat → Int64} {b_at b_tags b_size b_direct b_written b_values b_kinds b_state b_pending b_index b_event b_unchecked : Nat → Int32} {N M TT : Nat} {L D T : Nat → List Nat} {o sz : Nat → Nat}
theorem vq_x_app {post : Int32 → SX → Prop} {c d : Nat} {F : List Nat} (hK : vq_K a_next D 16) (hd : f_freeHead = nI d) (hF : D 18 = d :: F) (hc : c ≠ 18)
    (hn : D c = [] → a_heads 16 = -1 ∧ a_tails 16 = -1) (hh : ∀ e, (D c)[0]? = some e → a_heads 16 = nI e) (hl : ∀ e, (D c).getLast? = some e → a_tails 16 = nI e)
    (hp : ∀ nx hs : Nat → Int32, vq_K nx (vq_gs (vq_gs D 18 F) c (D c ++ [d])) 16 → (∀ e, (D c ++ [d])[0]? = some e → hs 16 = nI e) → (∀ x, x ≠ 16 → hs x = a_heads x) →
      post (nI d) (f_ringRoom, f_tableBase, f_receiptBase, f_openChain, f_receiptChain, f_slotMask, f_indexMask, a_next d, f_freeCount - 1, f_freeTableHead, f_freeTableCount, f_openCount, f_receiptCount, f_heldCount, a_memory, nx, upd a_tableOf d (-1), a_tableNext, a_tags, a_sizes, a_outs, a_directs, a_writtens, hs, upd a_tails 16 (nI d), a_held, a_slots, a_unpublished, a_index, a_unchecked, a_seen, a_event, a_state, a_pending)) : wpX_appendDescriptor post (f_ringRoom, f_tableBase, f_receiptBase, f_openChain, f_receiptChain, f_slotMask, f_indexMask, f_freeHead, f_freeCount, f_freeTableHead, f_freeTableCount, f_openCount, f_receiptCount, f_heldCount, a_memory, a_next, a_tableOf, a_tableNext, a_tags, a_sizes, a_outs, a_directs, a_writtens, a_heads, a_tails, a_held, a_slots, a_unpublished, a_index, a_unchecked, a_seen, a_event, a_state, a_pending) := by
  have hdm : d ∈ D 18 := by rw [hF]; exact List.mem_cons_self
  have hd16 := hK.2.1 18 d hdm
  have id' : vp_in (nI d) 16 := vp_in_nI hd16 (by decide)
  have cd : (nI d).toNatClampNeg = d := nI_clamp (by omega)
  subst hd
  refine ⟨id', ?_⟩
  intro fh efh fc efc
  refine ⟨id', ?_⟩
  intro nx enx
  refine ⟨id', ?_⟩
  intro tO etO
  rw [cd] at efh enx etO
  by_cases hDc : D c = []
  · obtain ⟨n1, n2⟩ := hn hDc
    refine br_f (by rw [n1]; decide) ?_
    intro hs ehs ta eta
    rw [efh, efc, etO, eta]
    refine hp nx hs ?_ ?_ ?_
    · refine vq_K_alloc hK hF hc ?_ ?_
      · intro j hj _
        rw [enx, pk_un hj]
      · intro j hj
        rw [hDc] at hj
        simp at hj
    · intro e he
      rw [hDc] at he
      have : d = e := by simpa using he
      rw [ehs, pk_us, this]
    · intro x hx
      rw [ehs, pk_un hx]
  · obtain ⟨l, hl1, hl2⟩ := vq_lastm hDc
    have hl16 := hK.2.1 c l hl2
    have h0 := vq_hd0 hDc
    have hh0 := hK.2.1 c _ (List.mem_of_getElem? h0)
    refine br_t (by rw [hh _ h0]; exact nI_pos' (by omega)) ?_
    rw [hl l hl1]
    refine ⟨vp_in_nI hl16 (by decide), ?_⟩
    intro nx2 enx2 ta eta
    rw [nI_clamp (by omega)] at enx2
    rw [efh, efc, etO, eta]
    refine hp nx2 a_heads ?_ ?_ (fun _ _ => rfl)
    · refine vq_K_alloc hK hF hc ?_ ?_
      · intro j hj hj2
        rw [enx2, pk_un (fun z => hj2 (by rw [z]; exact hl1)), enx, pk_un hj]
      · intro j hj
        rw [hl1] at hj
        rw [enx2, ← Option.some.inj hj, pk_us]
    · intro e he
      rw [List.getElem?_append_left (List.length_pos_iff.mpr hDc)] at he
      exact hh e he
theorem vq_x_add {post : Int32 → SX → Prop} {v kd : Int32} {oc sc nf : Nat} (hop : ¬ f_openCount = 0) (hs : a_sizes 16 = nI sc) (hou : a_outs 16 = nI oc) (h8 : sc ≤ 8) (ho : oc ≤ sc) (hf : f_freeCount = nI nf) (hnf : nf < 2 ^ 31)
    (hbad : ¬ kd = 0 → ¬ kd = 1 → post (-1) (f_ringRoom, f_tableBase, f_receiptBase, f_openChain, f_receiptChain, f_slotMask, f_indexMask, f_freeHead, f_freeCount, f_freeTableHead, f_freeTableCount, f_openCount, f_receiptCount, f_heldCount, a_memory, a_next, a_tableOf, a_tableNext, a_tags, a_sizes, a_outs, a_directs, a_writtens, a_heads, a_tails, a_held, a_slots, a_unpublished, a_index, a_unchecked, a_seen, a_event, a_state, a_pending)) (hord : kd = 0 → oc < sc → post (-4) (f_ringRoom, f_tableBase, f_receiptBase, f_openChain, f_receiptChain, f_slotMask, f_indexMask, f_freeHead, f_freeCount, f_freeTableHead, f_freeTableCount, f_openCount, f_receiptCount, f_heldCount, a_memory, a_next, a_tableOf, a_tableNext, a_tags, a_sizes, a_outs, a_directs, a_writtens, a_heads, a_tails, a_held, a_slots, a_unpublished, a_index, a_unchecked, a_seen, a_event, a_state, a_pending))
    (hlong : (kd = 0 ∨ kd = 1) → (kd = 0 → oc = sc) → sc = 8 → post (-5) (f_ringRoom, f_tableBase, f_receiptBase, f_openChain, f_receiptChain, f_slotMask, f_indexMask, f_freeHead, f_freeCount, f_freeTableHead, f_freeTableCount, f_openCount, f_receiptCount, f_heldCount, a_memory, a_next, a_tableOf, a_tableNext, a_tags, a_sizes, a_outs, a_directs, a_writtens, a_heads, a_tails, a_held, a_slots, a_unpublished, a_index, a_unchecked, a_seen, a_event, a_state, a_pending))
    (hfull : (kd = 0 ∨ kd = 1) → (kd = 0 → oc = sc) → sc < 8 → ¬ 0 ≤ a_directs 16 → nf = 0 → post (-6) (f_ringRoom, f_tableBase, f_receiptBase, f_openChain, f_receiptChain, f_slotMask, f_indexMask, f_freeHead, f_freeCount, f_freeTableHead, f_freeTableCount, f_openCount, f_receiptCount, f_heldCount, a_memory, a_next, a_tableOf, a_tableNext, a_tags, a_sizes, a_outs, a_directs, a_writtens, a_heads, a_tails, a_held, a_slots, a_unpublished, a_index, a_unchecked, a_seen, a_event, a_state, a_pending))
    (hok : (kd = 0 ∨ kd = 1) → (kd = 0 → oc = sc) → sc < 8 → (¬ 0 ≤ a_directs 16 → 0 < nf) → wX_add_76 post v kd (nI sc) f_ringRoom f_tableBase f_receiptBase f_openChain f_receiptChain f_slotMask f_indexMask f_freeHead f_freeCount f_freeTableHead f_freeTableCount f_openCount f_receiptCount f_heldCount a_memory a_next a_tableOf a_tableNext a_tags a_sizes a_outs a_directs a_writtens a_heads a_tails a_held a_slots a_unpublished a_index a_unchecked a_seen a_event a_state a_pending) : wpX_add post (f_ringRoom, f_tableBase, f_receiptBase, f_openChain, f_receiptChain, f_slotMask, f_indexMask, f_freeHead, f_freeCount, f_freeTableHead, f_freeTableCount, f_openCount, f_receiptCount, f_heldCount, a_memory, a_next, a_tableOf, a_tableNext, a_tags, a_sizes, a_outs, a_directs, a_writtens, a_heads, a_tails, a_held, a_slots, a_unpublished, a_index, a_unchecked, a_seen, a_event, a_state, a_pending) v kd := by
  refine br_f hop ?_
  have body : (kd = 0 ∨ kd = 1) → wX_add_21 post v kd f_ringRoom f_tableBase f_receiptBase f_openChain f_receiptChain f_slotMask f_indexMask f_freeHead f_freeCount f_freeTableHead f_freeTableCount f_openCount f_receiptCount f_heldCount a_memory a_next a_tableOf a_tableNext a_tags a_sizes a_outs a_directs a_writtens a_heads a_tails a_held a_slots a_unpublished a_index a_unchecked a_seen a_event a_state a_pending := by
    intro hkd
    have b47 : (kd = 0 → oc = sc) → wX_add_47 post v kd (nI sc) f_ringRoom f_tableBase f_receiptBase f_openChain f_receiptChain f_slotMask f_indexMask f_freeHead f_freeCount f_freeTableHead f_freeTableCount f_openCount f_receiptCount f_heldCount a_memory a_next a_tableOf a_tableNext a_tags a_sizes a_outs a_directs a_writtens a_heads a_tails a_held a_slots a_unpublished a_index a_unchecked a_seen a_event a_state a_pending := by
      intro hz
      refine pk_lt sc 8 (fun hlt => ?_) (fun hge => hlong hkd hz (by omega))
      refine br_c (fun hd => hok hkd hz hlt (fun z => absurd hd z)) (fun hd => ?_)
      exact pk_eq nf 0 (fun hz0 => hfull hkd hz hlt hd hz0) (fun hz0 => hok hkd hz hlt (fun _ => by omega)) hf
    intro x3 e3
    rw [e3, hs, hou]
    refine br_c (fun hk0 => ?_) (fun hk0 => b47 (fun z => absurd z hk0))
    refine pk_le sc oc (fun hle => b47 (fun _ => by omega)) (fun hlt => hord hk0 hlt)
  exact br_c (fun h0 => body (Or.inl h0)) (fun h0 => br_c (fun h1 => body (Or.inr h1)) (fun h1 => hbad h0 h1))
theorem vq_x_add76_d {post : Int32 → SX → Prop} {v kd : Int32} {sc c d : Nat} {F : List Nat} (hK : vq_K a_next D 16) (hd : f_freeHead = nI d) (hF : D 18 = d :: F) (hc : c ≠ 18)
    (hn : D c = [] → a_heads 16 = -1 ∧ a_tails 16 = -1) (hh : ∀ e, (D c)[0]? = some e → a_heads 16 = nI e) (hl : ∀ e, (D c).getLast? = some e → a_tails 16 = nI e) (hdir : ¬ 0 ≤ a_directs 16)
    (hp : ∀ nx hs ou : Nat → Int32, vq_K nx (vq_gs (vq_gs D 18 F) c (D c ++ [d])) 16 → (∀ e, (D c ++ [d])[0]? = some e → hs 16 = nI e) → (∀ x, x ≠ 16 → hs x = a_heads x) → ou = (if kd = 0 then upd a_outs 16 (a_outs 16 + 1) else a_outs) →
      post 0 (f_ringRoom, f_tableBase, f_receiptBase, f_openChain, f_receiptChain, f_slotMask, f_indexMask, a_next d, f_freeCount - 1, f_freeTableHead, f_freeTableCount, f_openCount, f_receiptCount, f_heldCount, upd a_memory d v, nx, upd a_tableOf d (-1), a_tableNext, a_tags, upd a_sizes 16 (nI (sc + 1)), ou, a_directs, a_writtens, hs, upd a_tails 16 (nI d), a_held, a_slots, a_unpublished, a_index, a_unchecked, a_seen, a_event, a_state, a_pending)) : wX_add_76 post v kd (nI sc) f_ringRoom f_tableBase f_receiptBase f_openChain f_receiptChain f_slotMask f_indexMask f_freeHead f_freeCount f_freeTableHead f_freeTableCount f_openCount f_receiptCount f_heldCount a_memory a_next a_tableOf a_tableNext a_tags a_sizes a_outs a_directs a_writtens a_heads a_tails a_held a_slots a_unpublished a_index a_unchecked a_seen a_event a_state a_pending := by
  unfold wX_add_76 wpX_newCellPlace
  intro x1 ex1
  refine br_f (by rw [ex1]; exact hdir) ?_
  refine vq_x_app hK hd hF hc hn hh hl ?_
  intro nx hs k1 k2 k3
  have hd16 := hK.2.1 18 d (by rw [hF]; exact List.mem_cons_self)
  refine ⟨vp_in_nI (by omega) (by decide), ?_⟩
  intro me eme sz' esz
  rw [nI_clamp (by omega)] at eme
  rw [nI_1] at esz
  rw [eme, esz]
  refine br_c (fun h0 => ?_) (fun h0 => ?_)
  · intro ou eou
    exact hp nx hs ou k1 k2 k3 (by rw [if_pos h0]; exact eou)
  · exact hp nx hs _ k1 k2 k3 (by rw [if_neg h0])
theorem vq_x_add76_t {post : Int32 → SX → Prop} {v kd : Int32} {sc j l t : Nat} (hdir : a_directs 16 = nI j) (hta : a_tails 16 = nI l) (hl : l < 16) (hto : a_tableOf l = nI t) (ht : t < 4) (hs : a_sizes 16 = nI sc) (hj : j ≤ sc) (h8 : sc < 8)
    (hp : ∀ ou : Nat → Int32, ou = (if kd = 0 then upd a_outs 16 (a_outs 16 + 1) else a_outs) →
      post 0 (f_ringRoom, f_tableBase, f_receiptBase, f_openChain, f_receiptChain, f_slotMask, f_indexMask, f_freeHead, f_freeCount, f_freeTableHead, f_freeTableCount, f_openCount, f_receiptCount, f_heldCount, upd a_memory (16 + 8 * t + (sc - j)) v, a_next, a_tableOf, a_tableNext, a_tags, upd a_sizes 16 (nI (sc + 1)), ou, a_directs, a_writtens, a_heads, a_tails, a_held, a_slots, a_unpublished, a_index, a_unchecked, a_seen, a_event, a_state, a_pending)) : wX_add_76 post v kd (nI sc) f_ringRoom f_tableBase f_receiptBase f_openChain f_receiptChain f_slotMask f_indexMask f_freeHead f_freeCount f_freeTableHead f_freeTableCount f_openCount f_receiptCount f_heldCount a_memory a_next a_tableOf a_tableNext a_tags a_sizes a_outs a_directs a_writtens a_heads a_tails a_held a_slots a_unpublished a_index a_unchecked a_seen a_event a_state a_pending := by
  unfold wX_add_76 wpX_newCellPlace
  intro x1 ex1
  rw [hdir] at ex1
  refine br_t (by rw [ex1]; exact nI_pos' (by omega)) ?_
  rw [hta]
  refine ⟨vp_in_nI hl (by decide), ?_⟩
  intro x2 ex2
  rw [nI_clamp (by omega), hto] at ex2
  have e : 16 + x2 * 8 + a_sizes 16 - x1 = nI (16 + 8 * t + (sc - j)) := by
    rw [ex2, ex1, hs, show (16 : Int32) = nI 16 from rfl, show (8 : Int32) = nI 8 from rfl, pk_mul, nI_add, nI_add, pk_sub (by omega)]
    exact congrArg nI (by omega)
  rw [e]
  refine ⟨vp_in_nI (by omega) (by decide), ?_⟩
  intro me eme sz' esz
  rw [nI_clamp (by omega)] at eme
  rw [nI_1] at esz
  rw [eme, esz]
  refine br_c (fun h0 => ?_) (fun h0 => ?_)
  · intro ou eou
    exact hp ou (by rw [if_pos h0]; exact eou)
  · exact hp _ (by rw [if_neg h0])
theorem vq_y_add {post : Int32 → SY → Prop} {v kd : Int32} {c oc sc nf : Nat} (fy : ∀ P : Int32 → Prop, P (nI c) → wpY_find P (g_clock, g_descriptors, g_modulus, g_allTables, b_at, b_since, b_tags, b_size, b_direct, b_written, b_values, b_kinds, b_state, b_pending, b_index, b_event, b_unchecked) 0 0) (hc : c < 18) (hs : b_size c = nI sc) (h8 : sc ≤ 8) (ho : oc ≤ sc)
    (hkk : ∀ i, i < sc → b_kinds (c * 8 + i) = if i < oc then 0 else 1) (ff : ∀ P : Int32 → Prop, P (nI nf) → wpY_free P (g_clock, g_descriptors, g_modulus, g_allTables, b_at, b_since, b_tags, b_size, b_direct, b_written, b_values, b_kinds, b_state, b_pending, b_index, b_event, b_unchecked) 0) (hnf : nf < 2 ^ 31)
    (hbad : ¬ kd = 0 → ¬ kd = 1 → post (-1) (g_clock, g_descriptors, g_modulus, g_allTables, b_at, b_since, b_tags, b_size, b_direct, b_written, b_values, b_kinds, b_state, b_pending, b_index, b_event, b_unchecked)) (hord : kd = 0 → oc < sc → post (-4) (g_clock, g_descriptors, g_modulus, g_allTables, b_at, b_since, b_tags, b_size, b_direct, b_written, b_values, b_kinds, b_state, b_pending, b_index, b_event, b_unchecked))
    (hlong : (kd = 0 ∨ kd = 1) → (kd = 0 → oc = sc) → sc = 8 → post (-5) (g_clock, g_descriptors, g_modulus, g_allTables, b_at, b_since, b_tags, b_size, b_direct, b_written, b_values, b_kinds, b_state, b_pending, b_index, b_event, b_unchecked))
    (hfull : (kd = 0 ∨ kd = 1) → (kd = 0 → oc = sc) → sc < 8 → ¬ 0 ≤ b_direct c → nf = 0 → post (-6) (g_clock, g_descriptors, g_modulus, g_allTables, b_at, b_since, b_tags, b_size, b_direct, b_written, b_values, b_kinds, b_state, b_pending, b_index, b_event, b_unchecked))
    (hok : (kd = 0 ∨ kd = 1) → (kd = 0 → oc = sc) → sc < 8 → (¬ 0 ≤ b_direct c → 0 < nf) → post 0 (g_clock, g_descriptors, g_modulus, g_allTables, b_at, b_since, b_tags, upd b_size c (nI (sc + 1)), b_direct, b_written, upd b_values (c * 8 + sc) v, upd b_kinds (c * 8 + sc) kd, b_state, b_pending, b_index, b_event, b_unchecked)) : wpY_add post (g_clock, g_descriptors, g_modulus, g_allTables, b_at, b_since, b_tags, b_size, b_direct, b_written, b_values, b_kinds, b_state, b_pending, b_index, b_event, b_unchecked) v kd := by
  have ic : vp_in (nI c) 18 := vp_in_nI hc (by decide)
  have cc : (nI c).toNatClampNeg = c := nI_clamp (by omega)
  unfold wpY_add
  refine fy _ (br_t (nI_pos' (by omega)) ?_)
  have b75 : sc < 8 → post 0 (g_clock, g_descriptors, g_modulus, g_allTables, b_at, b_since, b_tags, upd b_size c (nI (sc + 1)), b_direct, b_written, upd b_values (c * 8 + sc) v, upd b_kinds (c * 8 + sc) kd, b_state, b_pending, b_index, b_event, b_unchecked) → wY_add_75 post v kd (nI c) g_clock g_descriptors g_modulus g_allTables b_at b_since b_tags b_size b_direct b_written b_values b_kinds b_state b_pending b_index b_event b_unchecked := by
    intro hlt hpp
    have ep : nI c * 8 + b_size (nI c).toNatClampNeg = nI (c * 8 + sc) := by rw [cc, hs, show (8 : Int32) = nI 8 from rfl, pk_mul, nI_add]
    unfold wY_add_75
    rw [ep]
    have ip : vp_in (nI (c * 8 + sc)) 144 := vp_in_nI (by omega) (by decide)
    refine ⟨ic, ip, fun z1 e1 => ⟨ic, ip, fun z2 e2 => ⟨ic, ic, fun z3 e3 => ?_⟩⟩⟩
    rw [nI_clamp (by omega)] at e1 e2
    rw [cc, hs, nI_1] at e3
    rw [e1, e2, e3]
    exact hpp
  have body : (kd = 0 ∨ kd = 1) → wY_add_25 post v kd (nI c) g_clock g_descriptors g_modulus g_allTables b_at b_since b_tags b_size b_direct b_written b_values b_kinds b_state b_pending b_index b_event b_unchecked := by
    intro hkd
    have b41 : (kd = 0 → oc = sc) → wY_add_41 post v kd (nI c) g_clock g_descriptors g_modulus g_allTables b_at b_since b_tags b_size b_direct b_written b_values b_kinds b_state b_pending b_index b_event b_unchecked := by
      intro hz
      refine ⟨ic, ?_⟩
      rw [cc, hs]
      refine pk_lt sc 8 (fun hlt => ⟨ic, ?_⟩) (fun hge => hlong hkd hz (by omega))
      refine br_c (fun hd => b75 hlt (hok hkd hz hlt (fun z => absurd hd z))) (fun hd => ?_)
      refine ff _ ?_
      refine pk_eq nf 0 (fun hz0 => hfull hkd hz hlt hd hz0) (fun hz0 => b75 hlt (hok hkd hz hlt (fun _ => by omega)))
    refine br_c (fun hk0 => ?_) (fun hk0 => b41 (fun z => absurd z hk0))
    refine vq_y_ins (oc := oc) hc hs h8 hkk ?_
    refine pk_le (sc - oc) 0 (fun hle => b41 (fun _ => by omega)) (fun hlt => hord hk0 (by omega))
  exact br_c (fun h0 => body (Or.inl h0)) (fun h0 => br_c (fun h1 => body (Or.inr h1)) (fun h1 => hbad h0 h1))
end vq_AD
end
section
/-! add -/
theorem vq_opn {L : Nat → List Nat} (h0 : ¬ (L 0).length = 0) (h1 : (L 0).length ≤ 1) : ∃ c, L 0 = [c] := List.length_eq_one_iff.mp (by omega)
section vq_A2
variable {f_ringRoom f_tableBase f_receiptBase f_openChain f_receiptChain f_slotMask f_indexMask f_freeHead f_freeCount f_freeTableHead f_freeTableCount f_openCount f_receiptCount f_heldCount : Int32} {a_memory a_next a_tableOf a_tableNext a_tags a_sizes a_outs a_directs a_writtens a_heads a_tails a_held a_slots a_unpublished a_index a_unchecked a_seen a_event a_state a_pending : Nat → Int32} {g_clock : Int64} {g_descriptors g_modulus g_allTables : Int32} {b_since : Nat → Int64} {b_at b_tags b_size b_direct b_written b_values b_kinds b_state b_pending b_index b_event b_unchecked : Nat → Int32} {N M TT K : Nat} {L D T : Nat → List Nat} {o sz : Nat → Nat}
theorem vq_y_f0 {c : Nat} (gL : vq_L b_at b_since g_clock L K) (hL : L 0 = [c]) : ∀ P : Int32 → Prop, P (nI c) → wpY_find P (g_clock, g_descriptors, g_modulus, g_allTables, b_at, b_since, b_tags, b_size, b_direct, b_written, b_values, b_kinds, b_state, b_pending, b_index, b_event, b_unchecked) 0 0 := by
  intro P h
  refine vq_y_find0 (q := 0) gL (by omega) ?_ ?_
  · intro c' l e
    rw [hL] at e
    have : c = c' := (List.cons.inj e).1
    rw [← this]; exact h
  · intro e
    rw [hL] at e
    exact absurd e (List.cons_ne_nil _ _)
theorem vq_y_fr (gL : vq_L b_at b_since g_clock L K) (g1 : vq_G1 N M TT f_slotMask f_indexMask g_descriptors g_modulus g_allTables) (g3 : vq_G3 a_next a_tableNext D T N TT) (g6 : vq_G6 b_at a_memory a_tableOf a_tags a_sizes a_outs a_directs a_writtens a_heads a_tails b_tags b_size b_direct b_written b_values b_kinds D T o sz) :
    (∀ P : Int32 → Prop, P (nI (D 18).length) → wpY_free P (g_clock, g_descriptors, g_modulus, g_allTables, b_at, b_since, b_tags, b_size, b_direct, b_written, b_values, b_kinds, b_state, b_pending, b_index, b_event, b_unchecked) 0) ∧ (∀ P : Int32 → Prop, P (nI (T 18).length) → wpY_free P (g_clock, g_descriptors, g_modulus, g_allTables, b_at, b_since, b_tags, b_size, b_direct, b_written, b_values, b_kinds, b_state, b_pending, b_index, b_event, b_unchecked) 1) := by
  have hf := vq_fr_of gL g6
  refine ⟨fun P h => ?_, fun P h => ?_⟩
  · exact vq_y_free hf g1.2.2.2.1 g1.2.2.2.2.2 g3.2.2.1 g3.2.2.2 (fun _ => h) (fun z => absurd z (by decide)) (fun z => absurd rfl z)
  · exact vq_y_free hf g1.2.2.2.1 g1.2.2.2.2.2 g3.2.2.1 g3.2.2.2 (fun z => absurd z (by decide)) (fun _ => h) (fun _ z => absurd rfl z)
theorem vq_only {c c' : Nat} (gL : vq_L b_at b_since g_clock L K) (hL : L 0 = [c]) (hc' : c' < 18) (hne : c' ≠ c) : b_at c' ≠ 0 := by
  intro z
  have := (gL.2.1 0 (by omega) c').mpr ⟨hc', z⟩
  rw [hL, List.mem_singleton] at this
  exact hne this
theorem vq_hcg (gL : vq_L b_at b_since g_clock L K) {D' : Nat → List Nat} {c : Nat} (hc0 : b_at c = 0 ∨ b_at c = 6 ∨ b_at c = -1) (hD : ∀ c', c' < 18 → c' ≠ c → D' c' = D c') {q : Nat} (h1 : 1 ≤ q) (h5 : q ≤ 5) : ∀ c', c' ∈ L q → (D' c').headD 0 = (D c').headD 0 := by
  intro c' hm
  obtain ⟨hc', ha⟩ := (gL.2.1 q (by omega) c').mp hm
  rw [hD c' hc']
  intro e
  have hn := vq_subne ⟨q, h1, h5, ha⟩
  rw [e] at hn
  rcases hc0 with z | z | z
  · exact hn.2.1 z
  · exact hn.2.2 z
  · exact hn.1 z
theorem vq_g78 (gL : vq_L b_at b_since g_clock L K) {D' : Nat → List Nat} {c : Nat} (hc0 : b_at c = 0 ∨ b_at c = 6 ∨ b_at c = -1) (hD : ∀ c', c' < 18 → c' ≠ c → D' c' = D c')
    (g7 : vq_G7 f_heldCount a_held L D) (g8 : vq_G8 N M D L a_slots a_seen a_index a_unpublished) : vq_G7 f_heldCount a_held L D' ∧ vq_G8 N M D' L a_slots a_seen a_index a_unpublished := by
  refine ⟨⟨g7.1, fun i c' hi => ?_⟩, vq_rg_cg g8.1 ?_, vq_rg_cg g8.2 ?_⟩
  · rw [vq_hcg gL hc0 hD (q := 3) (by omega) (by omega) c' (List.mem_of_getElem? hi)]
    exact g7.2 i c' hi
  · intro c' h
    rcases h with h | h
    · exact vq_hcg gL hc0 hD (q := 2) (by omega) (by omega) c' h
    · exact vq_hcg gL hc0 hD (q := 1) (by omega) (by omega) c' h
  · intro c' h
    rcases h with h | h
    · exact vq_hcg gL hc0 hD (q := 5) (by omega) (by omega) c' h
    · exact vq_hcg gL hc0 hD (q := 4) (by omega) (by omega) c' h
end vq_A2
theorem vq_ou {kd : Int32} {oX ou : Nat → Int32} {oc : Nat} (ho : oX 16 = nI oc) (h : ou = (if kd = 0 then upd oX 16 (oX 16 + 1) else oX)) : ou 16 = nI (if kd = 0 then oc + 1 else oc) ∧ ∀ x, x ≠ 16 → ou x = oX x := by
  by_cases hk : kd = 0
  · rw [if_pos hk] at h ⊢
    subst h
    exact ⟨by rw [pk_us, ho, nI_1], fun x hx => pk_un hx⟩
  · rw [if_neg hk] at h ⊢
    subst h
    exact ⟨ho, fun x hx => rfl⟩
theorem vq_kd {kd : Int32} {oc sc : Nat} (hk : kd = 0 ∨ kd = 1) (hz : kd = 0 → oc = sc) : (kd = 0 ∧ oc = sc ∧ (if kd = 0 then oc + 1 else oc) = oc + 1) ∨ (kd = 1 ∧ (if kd = 0 then oc + 1 else oc) = oc) := by
  rcases hk with h | h
  · exact Or.inl ⟨h, hz h, if_pos h⟩
  · exact Or.inr ⟨h, if_neg (by rw [h]; decide)⟩
theorem i_vc_add {k : Nat} {u : SX} {v : SY} (I : i_Rel k u v) (hk : k + 4 ≤ 2052) (v1 : Int32) (v2 : Int32) : wpX_add (fun r u' => wpY_add (fun r' v' => r' = r ∧ i_Rel (k + 4) u' v') v v1 v2) u v1 v2 := by
  refine vq_el (P := fun u v => wpX_add (fun r u' => wpY_add (fun r' v' => r' = r ∧ i_Rel (k + 4) u' v') v v1 v2) u v1 v2) I ?_
  intro f_ringRoom f_tableBase f_receiptBase f_openChain f_receiptChain f_slotMask f_indexMask f_freeHead f_freeCount f_freeTableHead f_freeTableCount f_openCount f_receiptCount f_heldCount a_memory a_next a_tableOf a_tableNext a_tags a_sizes a_outs a_directs a_writtens a_heads a_tails a_held a_slots a_unpublished a_index a_unchecked a_seen a_event a_state a_pending g_clock g_descriptors g_modulus g_allTables b_at b_since b_tags b_size b_direct b_written b_values b_kinds b_state b_pending b_index b_event b_unchecked N M TT L D T o sz g1 gL g3 g4 g5 g6 g7 g8 g9 hb
  have R : i_Rel (k + 4) (f_ringRoom, f_tableBase, f_receiptBase, f_openChain, f_receiptChain, f_slotMask, f_indexMask, f_freeHead, f_freeCount, f_freeTableHead, f_freeTableCount, f_openCount, f_receiptCount, f_heldCount, a_memory, a_next, a_tableOf, a_tableNext, a_tags, a_sizes, a_outs, a_directs, a_writtens, a_heads, a_tails, a_held, a_slots, a_unpublished, a_index, a_unchecked, a_seen, a_event, a_state, a_pending) (g_clock, g_descriptors, g_modulus, g_allTables, b_at, b_since, b_tags, b_size, b_direct, b_written, b_values, b_kinds, b_state, b_pending, b_index, b_event, b_unchecked) := i_up ⟨N, M, TT, L, D, T, o, sz, g1, gL, g3, g4, g5, g6, g7, g8, g9⟩
  obtain ⟨f1, f2, f3, f4⟩ := id g5
  by_cases hl : (L 0).length = 0
  · have hL0 : L 0 = [] := List.eq_nil_of_length_eq_zero hl
    refine br_t (by rw [f1, hl]; rfl) ?_
    unfold wpY_add
    exact vq_y_find0 (q := 0) gL (by omega) (fun c l h => absurd (hL0.symm.trans h) (fun z => List.cons_ne_nil _ _ z.symm)) (fun _ => br_f (by decide) ⟨rfl, R⟩)
  · obtain ⟨c, hL⟩ := vq_opn hl f2
    have fy := vq_y_f0 (g_descriptors := g_descriptors) (g_modulus := g_modulus) (g_allTables := g_allTables) (b_tags := b_tags) (b_size := b_size) (b_direct := b_direct) (b_written := b_written) (b_values := b_values) (b_kinds := b_kinds) (b_state := b_state) (b_pending := b_pending) (b_index := b_index) (b_event := b_event) (b_unchecked := b_unchecked) gL hL
    have ff := (vq_y_fr (b_state := b_state) (b_pending := b_pending) (b_index := b_index) (b_event := b_event) (b_unchecked := b_unchecked) gL g1 g3 g6).1
    obtain ⟨hc, ha⟩ := (gL.2.1 0 (by omega) c).mp (by rw [hL]; exact List.mem_singleton.mpr rfl)
    obtain ⟨⟨d1, d2, d3, d4, d5, d6⟩, hcel, hlnk⟩ := (g6 c hc).2.2.1 ha
    obtain ⟨c1, c2, c3⟩ := id hcel
    obtain ⟨l1, l2, l3, l4, l5⟩ := id hlnk
    have hN16 : N ≤ 16 := by have := g1.1.1; omega
    have hc18 : c ≠ 18 := by omega
    have hop : ¬ f_openCount = 0 := by rw [f1]; exact nI_ne0 (by omega) (by omega)
    have yy := fun (post : Int32 → SY → Prop) => vq_y_add (post := post) (v := v1) (kd := v2) fy hc d3 c2 c1 (fun i hi => (c3 i hi).2) ff (by omega)
    refine vq_x_add (nf := (D 18).length) hop d2 d4 c2 c1 g4.2.1 (by omega) ?_ ?_ ?_ ?_ ?_
    · intro h0 h1
      have hn : ¬ (v2 = 0 ∨ v2 = 1) := fun z => z.elim h0 h1
      exact yy _ (fun _ _ => ⟨rfl, R⟩) (fun z => absurd z h0) (fun z => absurd z hn) (fun z => absurd z hn) (fun z => absurd z hn)
    · intro h0 hlt
      have hn : ¬ (v2 = 0 → o c = sz c) := fun z => absurd (z h0) (by omega)
      exact yy _ (fun z => absurd h0 z) (fun _ _ => ⟨rfl, R⟩) (fun _ z => absurd z hn) (fun _ z => absurd z hn) (fun _ z => absurd z hn)
    · intro h0 hz h8
      exact yy _ (fun z1 z2 => absurd h0 (fun z => z.elim z1 z2)) (fun z1 z2 => absurd (hz z1) (by omega)) (fun _ _ _ => ⟨rfl, R⟩) (fun _ _ z => absurd z (by omega)) (fun _ _ z => absurd z (by omega))
    · intro h0 hz h8 hd hnf
      rw [d5] at hd
      exact yy _ (fun z1 z2 => absurd h0 (fun z => z.elim z1 z2)) (fun z1 z2 => absurd (hz z1) (by omega)) (fun _ _ z => absurd z (by omega)) (fun _ _ _ _ _ => ⟨rfl, R⟩) (fun _ _ _ z => absurd (z hd) (by omega))
    · intro h0 hz h8 hd
      have yok := fun (post : Int32 → SY → Prop) hp => yy post (fun z1 z2 => absurd h0 (fun z => z.elim z1 z2)) (fun z1 z2 => absurd (hz z1) (by omega)) (fun _ _ z => absurd z (by omega)) (fun _ _ _ z1 z2 => absurd (hd (by rw [d5]; exact z1)) (by omega)) (fun _ _ _ _ => hp)
      rcases l1 with ⟨t1, t2, t3⟩ | ⟨t, t1, t2, t3, t4⟩
      · have hdir : ¬ 0 ≤ a_directs 16 := by rw [d5, t2]; decide
        have hpos := hd hdir
        obtain ⟨d, F, hF⟩ : ∃ d F, D 18 = d :: F := by
          cases h : D 18 with
          | nil => rw [h] at hpos; exact absurd hpos (by decide)
          | cons d F => exact ⟨d, F, rfl⟩
        have hdm : d ∈ D 18 := by rw [hF]; exact List.mem_cons_self
        have hdc : ∀ c', c' < 18 → ¬ d ∈ D c' := fun c' hc' z => absurd (g3.1.2.2.1 c' 18 d z hdm) (by omega)
        have hfh := g4.1 d (by rw [hF]; rfl)
        refine vq_x_add76_d g3.1 hfh hF hc18 l2 l3 l4 hdir ?_
        intro nx hs ou k1 k2 k3 eou
        refine yok _ ⟨rfl, ?_⟩
        obtain ⟨o1, o2⟩ := vq_ou d4 eou
        have eD : ∀ c', c' < 18 → c' ≠ c → vq_gs (vq_gs D 18 F) c (D c ++ [d]) c' = D c' := fun c' h1 h2 => by rw [vq_gsn h2, vq_gsn (by omega)]
        obtain ⟨g7', g8'⟩ := vq_g78 gL (Or.inl ha) eD g7 g8
        have e18 : vq_gs (vq_gs D 18 F) c (D c ++ [d]) 18 = F := by rw [vq_gsn (by omega), vq_gss]
        refine ⟨N, M, TT, L, vq_gs (vq_gs D 18 F) c (D c ++ [d]), T, vq_gs o c (if v2 = 0 then o c + 1 else o c), vq_gs sz c (sz c + 1), g1, vq_L_up gL (by omega), ⟨k1, g3.2.1, ?_, g3.2.2.2⟩, ⟨?_, ?_, g4.2.2⟩, g5, ?_, g7', g8', g9⟩
        · rw [vq_sm_alloc hc hF]; exact g3.2.2.1
        · intro e he
          rw [e18] at he
          exact g3.1.2.2.2 18 0 d e (by rw [hF]; rfl) (by rw [hF]; exact he)
        · rw [e18, g4.2.1, hF, List.length_cons]; exact nI_pred _
        · intro c' hc'
          by_cases ec : c' = c
          · subst ec
            rw [vq_gss, vq_gss, vq_gss, ha]
            refine ⟨fun z => absurd z (by decide), fun z => absurd z (by decide), fun _ => ⟨?_, ?_, ?_⟩, fun z => absurd rfl (vq_subne z).2.1⟩
            · exact ⟨d1, pk_us, pk_us, o1, d5, d6⟩
            · rw [t1] at hcel ⊢
              have ep : vq_pl (D c' ++ [d]) [] (sz c') = d := by rw [← t3]; exact vq_pl_appd
              have hq := vq_add_cel (Dn := D c' ++ [d]) (Tn := []) (v := v1) (kd := v2) (oc' := if v2 = 0 then o c' + 1 else o c') hcel h8 ?_ (vq_kd h0 hz)
              · rw [ep] at hq; exact hq
              · intro i hi
                refine ⟨vq_pl_app (by omega), ?_⟩
                rw [ep, vq_pl_lo (by rw [List.length_nil]; omega) (vq_gq (by omega))]
                exact fun z => hdc c' hc' (z ▸ List.mem_of_getElem? (vq_gq (l := D c') (i := i) (by omega)))
            · refine ⟨Or.inl ⟨t1, t2, by rw [List.length_append, List.length_singleton, t3]⟩, fun z => absurd z (by simp), k2, ?_, ?_⟩
              · intro e he
                rw [List.getLast?_concat] at he
                rw [pk_us, Option.some.inj he]
              · rw [t1] at l5 ⊢
                exact vq_tos_app l5 (hdc c' hc') pk_us (fun j hj => pk_un hj)
          · rw [eD c' hc' ec, vq_gsn ec, vq_gsn ec]
            have hC := g6 c' hc'
            refine vq_C1_fr hC ?_ ?_ ?_ ?_ ?_
            · intro x hx
              have hne := vq_ne16 hx (vq_only gL hL hc' ec) (fun z => (hC.2.2.2 z).2.1) (g3.1.2.1 c')
              exact ⟨rfl, pk_un hne, o2 x hne, rfl, rfl, k3 x hne, pk_un hne⟩
            · intro p hp
              exact pk_un (vq_PA_ne g3.1 g3.2.1 (c := 18) (by omega) (Or.inl hdm) hp)
            · intro d' hd'
              exact pk_un (fun z => hdc c' hc' (z ▸ hd'))
            · exact ⟨rfl, pk_un ec, rfl, rfl⟩
            · intro i hi
              exact ⟨pk_un (by omega), pk_un (by omega)⟩
      · have hl0 : D c ≠ [] := fun z => by rw [z] at t2; exact absurd t2 (by decide)
        obtain ⟨l, hl1, hl2⟩ := vq_lastm hl0
        have hl16 := g3.1.2.1 c l hl2
        have htT : t ∈ T c := by rw [t1]; exact List.mem_singleton.mpr rfl
        have ht4 := g3.2.1.2.1 c t htT
        have hto : a_tableOf l = nI t := by
          rw [List.getLast?_eq_getElem?] at hl1
          rw [l5 _ l hl1, if_pos (by omega), t1]; rfl
        refine vq_x_add76_t (j := (D c).length - 1) (by rw [d5, t4]) (l4 l hl1) hl16 hto ht4 d2 (by omega) h8 ?_
        intro ou eou
        refine yok _ ⟨rfl, ?_⟩
        obtain ⟨o1, o2⟩ := vq_ou d4 eou
        have ep : vq_pl (D c) (T c) (sz c) = 16 + 8 * t + (sz c - ((D c).length - 1)) := by rw [t1, vq_pl_hi (by omega)]
        have hPL : vq_PL (D c) (T c) (16 + 8 * t + (sz c - ((D c).length - 1))) := Or.inr ⟨t, htT, by omega, by omega⟩
        refine ⟨N, M, TT, L, D, T, vq_gs o c (if v2 = 0 then o c + 1 else o c), vq_gs sz c (sz c + 1), g1, vq_L_up gL (by omega), g3, g4, g5, ?_, g7, g8, g9⟩
        intro c' hc'
        by_cases ec : c' = c
        · subst ec
          rw [vq_gss, vq_gss, ha]
          refine ⟨fun z => absurd z (by decide), fun z => absurd z (by decide), fun _ => ⟨?_, ?_, ?_⟩, fun z => absurd rfl (vq_subne z).2.1⟩
          · exact ⟨d1, pk_us, pk_us, o1, d5, d6⟩
          · rw [← ep]
            refine vq_add_cel hcel h8 (fun i hi => ⟨rfl, ?_⟩) (vq_kd h0 hz)
            intro z
            have := vq_pl_inj (sc := sz c' + 1) (Or.inr ⟨t, t1⟩) (g3.1.1 c') (g3.1.2.1 c') (by omega) (by omega) z
            omega
          · exact ⟨Or.inr ⟨t, t1, t2, by omega, t4⟩, l2, l3, l4, l5⟩
        · rw [vq_gsn ec, vq_gsn ec]
          have hC := g6 c' hc'
          refine vq_C1_fr hC ?_ ?_ (fun _ _ => rfl) ?_ ?_
          · intro x hx
            have hne := vq_ne16 hx (vq_only gL hL hc' ec) (fun z => (hC.2.2.2 z).2.1) (g3.1.2.1 c')
            exact ⟨rfl, pk_un hne, o2 x hne, rfl, rfl, rfl, rfl⟩
          · intro p hp
            exact pk_un (vq_PA_ne g3.1 g3.2.1 ec hPL hp)
          · exact ⟨rfl, pk_un ec, rfl, rfl⟩
          · intro i hi
            exact ⟨pk_un (by omega), pk_un (by omega)⟩
end
section
/-! indirect -/
theorem i_vc_indirect {k : Nat} {u : SX} {v : SY} (I : i_Rel k u v) (hk : k + 4 ≤ 2052) : wpX_indirect (fun r u' => wpY_indirect (fun r' v' => r' = r ∧ i_Rel (k + 4) u' v') v) u := by
  refine vq_el (P := fun u v => wpX_indirect (fun r u' => wpY_indirect (fun r' v' => r' = r ∧ i_Rel (k + 4) u' v') v) u) I ?_
  intro f_ringRoom f_tableBase f_receiptBase f_openChain f_receiptChain f_slotMask f_indexMask f_freeHead f_freeCount f_freeTableHead f_freeTableCount f_openCount f_receiptCount f_heldCount a_memory a_next a_tableOf a_tableNext a_tags a_sizes a_outs a_directs a_writtens a_heads a_tails a_held a_slots a_unpublished a_index a_unchecked a_seen a_event a_state a_pending g_clock g_descriptors g_modulus g_allTables b_at b_since b_tags b_size b_direct b_written b_values b_kinds b_state b_pending b_index b_event b_unchecked N M TT L D T o sz g1 gL g3 g4 g5 g6 g7 g8 g9 hb
  have R : i_Rel (k + 4) (f_ringRoom, f_tableBase, f_receiptBase, f_openChain, f_receiptChain, f_slotMask, f_indexMask, f_freeHead, f_freeCount, f_freeTableHead, f_freeTableCount, f_openCount, f_receiptCount, f_heldCount, a_memory, a_next, a_tableOf, a_tableNext, a_tags, a_sizes, a_outs, a_directs, a_writtens, a_heads, a_tails, a_held, a_slots, a_unpublished, a_index, a_unchecked, a_seen, a_event, a_state, a_pending) (g_clock, g_descriptors, g_modulus, g_allTables, b_at, b_since, b_tags, b_size, b_direct, b_written, b_values, b_kinds, b_state, b_pending, b_index, b_event, b_unchecked) := i_up ⟨N, M, TT, L, D, T, o, sz, g1, gL, g3, g4, g5, g6, g7, g8, g9⟩
  obtain ⟨f1, f2, f3, f4⟩ := id g5
  unfold wpX_indirect wpY_indirect
  by_cases hl : (L 0).length = 0
  · have hL0 : L 0 = [] := List.eq_nil_of_length_eq_zero hl
    refine br_t (by rw [f1, hl]; rfl) ?_
    exact vq_y_find0 (q := 0) gL (by omega) (fun c l h => absurd (hL0.symm.trans h) (fun z => List.cons_ne_nil _ _ z.symm)) (fun _ => br_f (by decide) ⟨rfl, R⟩)
  · obtain ⟨c, hL⟩ := vq_opn hl f2
    have fy := vq_y_f0 (g_descriptors := g_descriptors) (g_modulus := g_modulus) (g_allTables := g_allTables) (b_tags := b_tags) (b_size := b_size) (b_direct := b_direct) (b_written := b_written) (b_values := b_values) (b_kinds := b_kinds) (b_state := b_state) (b_pending := b_pending) (b_index := b_index) (b_event := b_event) (b_unchecked := b_unchecked) gL hL
    obtain ⟨ff, ft⟩ := (vq_y_fr (b_state := b_state) (b_pending := b_pending) (b_index := b_index) (b_event := b_event) (b_unchecked := b_unchecked) gL g1 g3 g6)
    obtain ⟨hc, ha⟩ := (gL.2.1 0 (by omega) c).mp (by rw [hL]; exact List.mem_singleton.mpr rfl)
    obtain ⟨⟨d1, d2, d3, d4, d5, d6⟩, hcel, hlnk⟩ := (g6 c hc).2.2.1 ha
    obtain ⟨c1, c2, c3⟩ := id hcel
    obtain ⟨l1, l2, l3, l4, l5⟩ := id hlnk
    have hN16 : N ≤ 16 := by have := g1.1.1; omega
    have hT4 : (T 18).length ≤ 4 := by
      have h1 := g1.1.2.2.2
      have h2 := g3.2.2.2
      have h3 : vq_sm (fun c => (T c).length) 19 = vq_sm (fun c => (T c).length) 18 + (T 18).length := rfl
      omega
    have hc18 : c ≠ 18 := by omega
    have hop : ¬ f_openCount = 0 := by rw [f1]; exact nI_ne0 (by omega) (by omega)
    have ic : vp_in (nI c) 18 := vp_in_nI hc (by decide)
    have cc : (nI c).toNatClampNeg = c := nI_clamp (by omega)
    refine br_f hop ?_
    rcases l1 with ⟨t1, t2, t3⟩ | ⟨t, t1, t2, t3, t4⟩
    · refine br_t (by rw [d5, t2]; decide) ?_
      by_cases h8 : sz c < 8
      · refine br_t (by rw [d2]; exact nI_lt (b := 8) h8 (by decide)) ?_
        by_cases hn : (D 18).length = 0
        · refine br_t (by rw [g4.2.1, hn]; rfl) ?_
          refine fy _ (br_t (nI_pos' (by omega)) ⟨ic, ?_⟩)
          rw [cc, d3, t2]
          refine br_t (by decide) ⟨ic, br_t (nI_lt (b := 8) h8 (by decide)) ?_⟩
          refine ff _ (br_t (by rw [hn]; rfl) ⟨rfl, R⟩)
        · refine br_f (by rw [g4.2.1]; exact nI_ne0 (by omega) (by omega)) ?_
          by_cases hm : (T 18).length = 0
          · refine br_t (by rw [g4.2.2.2, hm]; rfl) ?_
            refine fy _ (br_t (nI_pos' (by omega)) ⟨ic, ?_⟩)
            rw [cc, d3, t2]
            refine br_t (by decide) ⟨ic, br_t (nI_lt (b := 8) h8 (by decide)) ?_⟩
            refine ff _ (br_f (nI_ne0 (by omega) (by omega)) ?_)
            exact ft _ (br_t (by rw [hm]; rfl) ⟨rfl, R⟩)
          · refine br_f (by rw [g4.2.2.2]; exact nI_ne0 (by omega) (by omega)) ?_
            obtain ⟨d, F, hF⟩ : ∃ d F, D 18 = d :: F := by
              cases h : D 18 with
              | nil => rw [h] at hn; exact absurd rfl hn
              | cons d F => exact ⟨d, F, rfl⟩
            obtain ⟨t, G, hG⟩ : ∃ t G, T 18 = t :: G := by
              cases h : T 18 with
              | nil => rw [h] at hm; exact absurd rfl hm
              | cons t G => exact ⟨t, G, rfl⟩
            have hdm : d ∈ D 18 := by rw [hF]; exact List.mem_cons_self
            have hd16 := g3.1.2.1 18 d hdm
            have htm : t ∈ T 18 := by rw [hG]; exact List.mem_cons_self
            have ht4 := g3.2.1.2.1 18 t htm
            have hdc : ∀ c', c' < 18 → ¬ d ∈ D c' := fun c' hc' z => absurd (g3.1.2.2.1 c' 18 d z hdm) (by omega)
            refine vq_x_app g3.1 (g4.1 d (by rw [hF]; rfl)) hF hc18 l2 l3 l4 ?_
            intro nx hs k1 k2 k3
            have eth := g4.2.2.1 t (by rw [hG]; rfl)
            refine ⟨by rw [eth]; exact vp_in_nI ht4 (by decide), ?_⟩
            intro th' eth' tc' etc'
            refine ⟨vp_in_nI hd16 (by decide), ?_⟩
            intro tO etO dr edr
            rw [nI_clamp (by omega)] at etO
            rw [eth, nI_clamp (by omega)] at eth'
            refine fy _ (br_t (nI_pos' (by omega)) ⟨ic, ?_⟩)
            rw [cc]
            refine br_t (by rw [t2]; decide) ⟨ic, ?_⟩
            rw [d3]
            refine br_t (nI_lt (b := 8) h8 (by decide)) ?_
            refine ff _ (br_f (nI_ne0 (by omega) (by omega)) ?_)
            refine ft _ (br_f (nI_ne0 (by omega) (by omega)) ⟨ic, ic, ?_⟩)
            intro dY edY
            refine ⟨rfl, ?_⟩
            have eD : ∀ c', c' < 18 → c' ≠ c → vq_gs (vq_gs D 18 F) c (D c ++ [d]) c' = D c' := fun c' h1 h2 => by rw [vq_gsn h2, vq_gsn (by omega)]
            have eT : ∀ c', c' < 18 → c' ≠ c → vq_gs (vq_gs T 18 G) c (T c ++ [t]) c' = T c' := fun c' h1 h2 => by rw [vq_gsn h2, vq_gsn (by omega)]
            obtain ⟨g7', g8'⟩ := vq_g78 gL (Or.inl ha) eD g7 g8
            have e18 : vq_gs (vq_gs D 18 F) c (D c ++ [d]) 18 = F := by rw [vq_gsn (by omega), vq_gss]
            have e18t : vq_gs (vq_gs T 18 G) c (T c ++ [t]) 18 = G := by rw [vq_gsn (by omega), vq_gss]
            refine ⟨N, M, TT, L, vq_gs (vq_gs D 18 F) c (D c ++ [d]), vq_gs (vq_gs T 18 G) c (T c ++ [t]), o, sz, g1, vq_L_up gL (by omega), ⟨k1, ?_, ?_, ?_⟩, ⟨?_, ?_, ?_, ?_⟩, g5, ?_, g7', g8', g9⟩
            · exact vq_K_alloc g3.2.1 hG hc18 (fun j _ _ => rfl) (fun j hj => by rw [t1] at hj; simp at hj)
            · rw [vq_sm_alloc hc hF]; exact g3.2.2.1
            · rw [vq_sm_alloc hc hG]; exact g3.2.2.2
            · intro e he
              rw [e18] at he
              exact g3.1.2.2.2 18 0 d e (by rw [hF]; rfl) (by rw [hF]; exact he)
            · rw [e18, g4.2.1, hF, List.length_cons]; exact nI_pred _
            · intro e he
              rw [e18t] at he
              rw [eth']
              exact g3.2.1.2.2.2 18 0 t e (by rw [hG]; rfl) (by rw [hG]; exact he)
            · rw [e18t, etc', g4.2.2.2, hG, List.length_cons]; exact nI_pred _
            · intro c' hc'
              by_cases ec : c' = c
              · subst ec
                rw [vq_gss, vq_gss, ha, t1, List.nil_append]
                refine ⟨fun z => absurd z (by decide), fun z => absurd z (by decide), fun _ => ⟨?_, ?_, ?_⟩, fun z => absurd rfl (vq_subne z).2.1⟩
                · refine ⟨d1, d2, d3, d4, ?_, d6⟩
                  rw [edr, edY, pk_us, pk_us, d2]
                · refine ⟨c1, c2, fun i hi => ?_⟩
                  rw [vq_pl_app1 (by omega)]
                  rw [t1] at c3
                  exact c3 i hi
                · refine ⟨Or.inr ⟨t, rfl, ?_, ?_, ?_⟩, fun z => absurd z (by simp), k2, ?_, ?_⟩
                  · rw [List.length_append, List.length_singleton]; omega
                  · rw [List.length_append, List.length_singleton]; omega
                  · rw [edY, pk_us, List.length_append, List.length_singleton, t3]; rfl
                  · intro e he
                    rw [List.getLast?_concat] at he
                    rw [pk_us, Option.some.inj he]
                  · rw [t1] at l5
                    refine vq_tos_app l5 (hdc c' hc') ?_ ?_
                    · rw [etO, pk_us, eth]; rfl
                    · intro j hj
                      rw [etO, pk_un hj, pk_un hj]
              · rw [eD c' hc' ec, eT c' hc' ec]
                have hC := g6 c' hc'
                refine vq_C1_fr hC ?_ (fun _ _ => rfl) ?_ ?_ (fun _ _ => ⟨rfl, rfl⟩)
                · intro x hx
                  have hne := vq_ne16 hx (vq_only gL hL hc' ec) (fun z => (hC.2.2.2 z).2.1) (g3.1.2.1 c')
                  refine ⟨rfl, rfl, rfl, ?_, rfl, k3 x hne, pk_un hne⟩
                  rw [edr, pk_un hne]
                · intro d' hd'
                  have hne : d' ≠ d := fun z => hdc c' hc' (z ▸ hd')
                  rw [etO, pk_un hne, pk_un hne]
                · refine ⟨rfl, rfl, ?_, rfl⟩
                  rw [edY, pk_un ec]
      · refine br_f (by rw [d2]; exact nI_nlt (b := 8) (by omega) (by omega)) ?_
        refine fy _ (br_t (nI_pos' (by omega)) ⟨ic, ?_⟩)
        rw [cc, d3, t2]
        exact br_t (by decide) ⟨ic, br_f (nI_nlt (b := 8) (by omega) (by omega)) ⟨rfl, R⟩⟩
    · have hneg : ¬ b_direct c < 0 := by rw [t4]; exact nI_pos (by omega)
      refine br_f (by rw [d5]; exact hneg) ?_
      refine fy _ (br_t (nI_pos' (by omega)) ⟨ic, ?_⟩)
      rw [cc]
      exact br_f hneg ⟨rfl, R⟩
end
section
/-! submit -/
theorem i_vc_submit {k : Nat} {u : SX} {v : SY} (I : i_Rel k u v) (hk : k + 4 ≤ 2052) : wpX_submit (fun r u' => wpY_submit (fun r' v' => r' = r ∧ i_Rel (k + 4) u' v') v) u := by
  refine vq_el (P := fun u v => wpX_submit (fun r u' => wpY_submit (fun r' v' => r' = r ∧ i_Rel (k + 4) u' v') v) u) I ?_
  intro f_ringRoom f_tableBase f_receiptBase f_openChain f_receiptChain f_slotMask f_indexMask f_freeHead f_freeCount f_freeTableHead f_freeTableCount f_openCount f_receiptCount f_heldCount a_memory a_next a_tableOf a_tableNext a_tags a_sizes a_outs a_directs a_writtens a_heads a_tails a_held a_slots a_unpublished a_index a_unchecked a_seen a_event a_state a_pending g_clock g_descriptors g_modulus g_allTables b_at b_since b_tags b_size b_direct b_written b_values b_kinds b_state b_pending b_index b_event b_unchecked N M TT L D T o sz g1 gL g3 g4 g5 g6 g7 g8 g9 hb
  have R : i_Rel (k + 4) (f_ringRoom, f_tableBase, f_receiptBase, f_openChain, f_receiptChain, f_slotMask, f_indexMask, f_freeHead, f_freeCount, f_freeTableHead, f_freeTableCount, f_openCount, f_receiptCount, f_heldCount, a_memory, a_next, a_tableOf, a_tableNext, a_tags, a_sizes, a_outs, a_directs, a_writtens, a_heads, a_tails, a_held, a_slots, a_unpublished, a_index, a_unchecked, a_seen, a_event, a_state, a_pending) (g_clock, g_descriptors, g_modulus, g_allTables, b_at, b_since, b_tags, b_size, b_direct, b_written, b_values, b_kinds, b_state, b_pending, b_index, b_event, b_unchecked) := i_up ⟨N, M, TT, L, D, T, o, sz, g1, gL, g3, g4, g5, g6, g7, g8, g9⟩
  obtain ⟨f1, f2, f3, f4⟩ := id g5
  unfold wpX_submit wpY_submit
  by_cases hl : (L 0).length = 0
  · have hL0 : L 0 = [] := List.eq_nil_of_length_eq_zero hl
    refine br_t (by rw [f1, hl]; rfl) ?_
    exact vq_y_find0 (q := 0) gL (by omega) (fun c l h => absurd (hL0.symm.trans h) (fun z => List.cons_ne_nil _ _ z.symm)) (fun _ => br_f (by decide) ⟨rfl, R⟩)
  · obtain ⟨c, hL⟩ := vq_opn hl f2
    have fy := vq_y_f0 (g_descriptors := g_descriptors) (g_modulus := g_modulus) (g_allTables := g_allTables) (b_tags := b_tags) (b_size := b_size) (b_direct := b_direct) (b_written := b_written) (b_values := b_values) (b_kinds := b_kinds) (b_state := b_state) (b_pending := b_pending) (b_index := b_index) (b_event := b_event) (b_unchecked := b_unchecked) gL hL
    obtain ⟨hc, ha⟩ := (gL.2.1 0 (by omega) c).mp (by rw [hL]; exact List.mem_singleton.mpr rfl)
    obtain ⟨⟨d1, d2, d3, d4, d5, d6⟩, hcel, hlnk⟩ := (g6 c hc).2.2.1 ha
    obtain ⟨c1, c2, c3⟩ := id hcel
    obtain ⟨l1, l2, l3, l4, l5⟩ := id hlnk
    have hop : ¬ f_openCount = 0 := by rw [f1]; exact nI_ne0 (by omega) (by omega)
    have ic : vp_in (nI c) 18 := vp_in_nI hc (by decide)
    have cc : (nI c).toNatClampNeg = c := nI_clamp (by omega)
    refine br_f hop ?_
    intro x1 ex1
    rw [d2] at ex1
    rw [ex1, d5]
    by_cases hs0 : sz c = 0
    · refine br_t (by rw [hs0]; rfl) ?_
      refine fy _ (br_t (nI_pos' (by omega)) ⟨ic, ?_⟩)
      rw [cc, d3]
      exact br_t (by rw [hs0]; rfl) ⟨rfl, R⟩
    · have hn0 : ¬ nI (sz c) = 0 := nI_ne0 (by omega) (by omega)
      refine br_f hn0 ?_
      by_cases hds : b_direct c = nI (sz c)
      · refine br_t hds ?_
        refine fy _ (br_t (nI_pos' (by omega)) ⟨ic, ?_⟩)
        rw [cc, d3]
        exact br_f hn0 ⟨ic, ic, br_t hds ⟨rfl, R⟩⟩
      · refine br_f hds ?_
        have hne : D c ≠ [] := by
          intro z
          rcases l1 with ⟨t1, t2, t3⟩ | ⟨t, t1, t2, t3, t4⟩
          · rw [z] at t3; exact hs0 t3.symm
          · rw [z] at t2; exact absurd t2 (by decide)
        have hh := l3 _ (vq_hd0 hne)
        have hhm := vq_hdm hne
        have hh16 := g3.1.2.1 c _ hhm
        have hhd : ∃ h, h = (D c).headD 0 := ⟨_, rfl⟩
        obtain ⟨h, eh⟩ := hhd
        rw [← eh] at hh hhm hh16
        intro x2 ex2
        rw [hh] at ex2
        rw [ex2]
        have hi0 : (L 0)[0]? = some c := by rw [hL]; rfl
        have gL' := vq_L_mv (q := 0) (q' := 1) gL (by omega) (by omega) (by omega) (by omega) hi0
        have hbd := vq_bnd (D := D) (N := N) gL' (by
          intro c' hc' hs'
          by_cases ec : c' = c
          · rw [ec]; exact hne
          · rw [pk_un ec] at hs'
            exact ((g6 c' hc').2.2.2 hs').2.1) g3.2.2.1
        rw [vq_gss, vq_gsn (by omega), vq_gsn (by omega), vq_gsn (by omega), vq_gsn (by omega), vq_gsn (by omega), vq_gsn (by omega), vq_gsn (by omega), vq_gsn (by omega), List.length_append, List.length_singleton] at hbd
        obtain ⟨j, hj, ej, rg0⟩ := vq_rg_push (c := c) g1.1 g8.1 (by omega)
        rw [← eh] at rg0
        have hN16 : N ≤ 16 := by have := g1.1.1; omega
        refine vq_x_copy (x := 16) (y := h) (by omega) (by omega) ?_
        refine vq_x_push (s := 0) (j := j) (by omega) (by rw [g1.2.1]; exact ej) (by omega) ?_
        refine fy _ (br_t (nI_pos' (by omega)) ⟨ic, ?_⟩)
        rw [cc, d3]
        refine br_f hn0 ⟨ic, ic, br_f hds ?_⟩
        refine vq_y_move hc ⟨rfl, ?_⟩
        refine ⟨N, M, TT, vq_gs (vq_gs L 0 ((L 0).eraseIdx 0)) 1 (L 1 ++ [c]), D, T, o, sz, g1, vq_L_up gL' (by omega), g3, g4, ?_, ?_, ?_, ?_, g9⟩
        · refine ⟨?_, ?_, ?_, ?_⟩
          · rw [vq_gsn (by omega), vq_gss, hL]; rfl
          · rw [vq_gsn (by omega), vq_gss, hL]; exact Nat.zero_le _
          · rw [vq_gsn (by omega), vq_gsn (by omega)]; exact f3
          · rw [vq_gsn (by omega), vq_gsn (by omega)]; exact f4
        · intro c' hc'
          by_cases ec : c' = c
          · subst ec
            rw [pk_us]
            refine ⟨fun z => absurd z (by decide), fun z => absurd z (by decide), fun z => absurd z (by decide), fun _ => ⟨by omega, hne, ?_, hcel, ?_⟩⟩
            · rw [← eh]
              exact ⟨by rw [pk_us]; exact d1, by rw [pk_us]; exact d2, d3, by rw [pk_us]; exact d4, by rw [pk_us]; exact d5, by rw [pk_us]; exact d6⟩
            · rw [← eh]
              exact ⟨l1, fun z => absurd z hne, by rw [pk_us]; exact l3, by rw [pk_us]; exact l4, l5⟩
          · rw [pk_un ec]
            have hC := g6 c' hc'
            refine vq_C1_fr hC ?_ (fun _ _ => rfl) (fun _ _ => rfl) ⟨rfl, rfl, rfl, rfl⟩ (fun _ _ => ⟨rfl, rfl⟩)
            intro x hx
            have hnx := vq_neD g3.1 hhm ec hx (fun z => (hC.2.2.2 z).2.1)
            exact ⟨pk_un hnx, pk_un hnx, pk_un hnx, pk_un hnx, pk_un hnx, pk_un hnx, pk_un hnx⟩
        · unfold vq_G7
          rw [vq_gsn (by omega), vq_gsn (by omega)]
          exact g7
        · unfold vq_G8
          rw [vq_gsn (by omega), vq_gsn (by omega), vq_gss, vq_gsn (by omega), vq_gsn (by omega), vq_gsn (by omega), vq_gsn (by omega)]
          refine ⟨?_, ?_⟩
          · rw [pk_us, show 0 * 16 + j = 0 + j by omega]
            exact rg0
          · rw [pk_un (by omega)]
            exact vq_rg_sl g8.2 (fun j' hj' => pk_un (by omega)) (by omega)
end
section
/-! release, drop -/
def vq_rl (D : Nat → List Nat) (c : Nat) : Nat → List Nat := vq_gs (vq_gs D c []) 18 (D c ++ D 18)
theorem vq_rl_id {D : Nat → List Nat} {c : Nat} (hc : c ≠ 18) (h : D c = []) : vq_rl D c = D := by
  funext j
  unfold vq_rl
  by_cases e : j = 18
  · rw [e, vq_gss, h]; rfl
  · rw [vq_gsn e]
    by_cases e2 : j = c
    · rw [e2, vq_gss, h]
    · rw [vq_gsn e2]
theorem vq_rl_c {D : Nat → List Nat} {c : Nat} (hc : c ≠ 18) : vq_rl D c c = [] := by
  unfold vq_rl
  rw [vq_gsn hc, vq_gss]
theorem vq_rl_n {D : Nat → List Nat} {c c' : Nat} (hc : c' ≠ 18) (hne : c' ≠ c) : vq_rl D c c' = D c' := by
  unfold vq_rl
  rw [vq_gsn hc, vq_gsn hne]
section vq_RE
variable {f_ringRoom f_tableBase f_receiptBase f_openChain f_receiptChain f_slotMask f_indexMask f_freeHead f_freeCount f_freeTableHead f_freeTableCount f_openCount f_receiptCount f_heldCount : Int32} {a_memory a_next a_tableOf a_tableNext a_tags a_sizes a_outs a_directs a_writtens a_heads a_tails a_held a_slots a_unpublished a_index a_unchecked a_seen a_event a_state a_pending : Nat → Int32} {N M TT : Nat} {L D T : Nat → List Nat}
theorem vq_x_rel48 {post : SX → Prop} {x l n : Nat} (hx : x < 18) (hl : l < 16) (hn : n < 100) (hz : (a_directs x = -1 ∧ a_sizes x = nI n) ∨ (a_directs x = nI (n - 1) ∧ 1 ≤ n))
    (hp : post (f_ringRoom, f_tableBase, f_receiptBase, f_openChain, f_receiptChain, f_slotMask, f_indexMask, a_heads x, f_freeCount + nI n, f_freeTableHead, f_freeTableCount, f_openCount, f_receiptCount, f_heldCount, a_memory, upd a_next l f_freeHead, a_tableOf, a_tableNext, a_tags, a_sizes, a_outs, a_directs, a_writtens, a_heads, a_tails, a_held, a_slots, a_unpublished, a_index, a_unchecked, a_seen, a_event, a_state, a_pending)) : wX_release_48 post (nI x) (nI l) f_ringRoom f_tableBase f_receiptBase f_openChain f_receiptChain f_slotMask f_indexMask f_freeHead f_freeCount f_freeTableHead f_freeTableCount f_openCount f_receiptCount f_heldCount a_memory a_next a_tableOf a_tableNext a_tags a_sizes a_outs a_directs a_writtens a_heads a_tails a_held a_slots a_unpublished a_index a_unchecked a_seen a_event a_state a_pending := by
  have ix : vp_in (nI x) 18 := vp_in_nI hx (by decide)
  have cx : (nI x).toNatClampNeg = x := nI_clamp (by omega)
  have b79 : ∀ z0, z0 = nI n → wX_release_79 post (nI x) (nI l) z0 f_freeCount f_ringRoom f_tableBase f_receiptBase f_openChain f_receiptChain f_slotMask f_indexMask f_freeHead f_freeCount f_freeTableHead f_freeTableCount f_openCount f_receiptCount f_heldCount a_memory a_next a_tableOf a_tableNext a_tags a_sizes a_outs a_directs a_writtens a_heads a_tails a_held a_slots a_unpublished a_index a_unchecked a_seen a_event a_state a_pending := by
    intro z0 e0
    intro fc efc
    refine ⟨vp_in_nI hl (by decide), ?_⟩
    intro nx enx
    refine ⟨ix, ?_⟩
    intro fh efh
    rw [cx] at efh
    rw [nI_clamp (by omega)] at enx
    rw [efc, enx, efh, e0]
    exact hp
  refine ⟨ix, ?_⟩
  intro x4 e4
  rw [cx] at e4
  rcases hz with ⟨h1, h2⟩ | ⟨h1, h2⟩
  · refine br_f (by rw [e4, h1]; decide) ⟨ix, ?_⟩
    exact b79 _ (by rw [cx]; exact h2)
  · refine br_t (by rw [e4, h1]; exact nI_pos' (by omega)) ?_
    refine b79 _ ?_
    rw [e4, h1, nI_1]
    exact congrArg nI (by omega)
theorem vq_x_rel {post : SX → Prop} {dY : Nat → Int32} {x c c' sc : Nat} (hx : x < 18) (hc : c < 18) (g3 : vq_G3 a_next a_tableNext D T N TT) (g4 : vq_G4 f_freeHead f_freeCount f_freeTableHead f_freeTableCount D T)
    (hk : vq_lnk a_heads a_tails a_tableOf dY (D c) (T c) x c' sc) (hd : a_directs x = dY c') (hs : a_sizes x = nI sc) (h8 : sc ≤ 8)
    (hp : ∀ (nx tn : Nat → Int32) (fh fc th tc : Int32), vq_G3 nx tn (vq_rl D c) (vq_rl T c) N TT → vq_G4 fh fc th tc (vq_rl D c) (vq_rl T c) →
      post (f_ringRoom, f_tableBase, f_receiptBase, f_openChain, f_receiptChain, f_slotMask, f_indexMask, fh, fc, th, tc, f_openCount, f_receiptCount, f_heldCount, a_memory, nx, a_tableOf, tn, a_tags, a_sizes, a_outs, a_directs, a_writtens, a_heads, a_tails, a_held, a_slots, a_unpublished, a_index, a_unchecked, a_seen, a_event, a_state, a_pending)) : wpX_release post (f_ringRoom, f_tableBase, f_receiptBase, f_openChain, f_receiptChain, f_slotMask, f_indexMask, f_freeHead, f_freeCount, f_freeTableHead, f_freeTableCount, f_openCount, f_receiptCount, f_heldCount, a_memory, a_next, a_tableOf, a_tableNext, a_tags, a_sizes, a_outs, a_directs, a_writtens, a_heads, a_tails, a_held, a_slots, a_unpublished, a_index, a_unchecked, a_seen, a_event, a_state, a_pending) (nI x) := by
  have ix : vp_in (nI x) 18 := vp_in_nI hx (by decide)
  have cx : (nI x).toNatClampNeg = x := nI_clamp (by omega)
  have hc18 : c ≠ 18 := by omega
  obtain ⟨l1, l2, l3, l4, l5⟩ := hk
  refine ⟨ix, ?_⟩
  intro x2 e2
  rw [cx] at e2
  by_cases hD : D c = []
  · have hT : T c = [] := by
      rcases l1 with ⟨t1, _⟩ | ⟨t, t1, t2, _⟩
      · exact t1
      · rw [hD] at t2; exact absurd t2 (by decide)
    refine br_f (by rw [e2, (l2 hD).2]; decide) ?_
    refine hp _ _ _ _ _ _ ?_ ?_
    · rw [vq_rl_id hc18 hD, vq_rl_id hc18 hT]; exact g3
    · rw [vq_rl_id hc18 hD, vq_rl_id hc18 hT]; exact g4
  · obtain ⟨l, hl1, hl2⟩ := vq_lastm hD
    have hl16 := g3.1.2.1 c l hl2
    rw [l4 l hl1] at e2
    subst e2
    have hto : a_tableOf l = vq_tv (T c) := by
      rw [List.getLast?_eq_getElem?] at hl1
      have := List.length_pos_iff.mpr hD
      rw [l5 _ l hl1, if_pos (by omega)]
    have cl : (nI l).toNatClampNeg = l := nI_clamp (by omega)
    refine br_t (nI_pos' (by omega)) ⟨vp_in_nI hl16 (by decide), ?_⟩
    intro x3 e3
    rw [cl, hto] at e3
    have hK := vq_K_free g3.1 hc18 hl1 g4.1
    have hlen : (D c).length ≤ 9 := by
      rcases l1 with ⟨t1, t2, t3⟩ | ⟨t, t1, t2, t3, t4⟩ <;> omega
    have h18 : (vq_rl D c) 18 = D c ++ D 18 := vq_gss
    have hfh : ∀ e, (vq_rl D c 18)[0]? = some e → a_heads x = nI e := by
      intro e he
      rw [h18, List.getElem?_append_left (List.length_pos_iff.mpr hD)] at he
      exact l3 e he
    have hfc : f_freeCount + nI (D c).length = nI (vq_rl D c 18).length := by
      rw [h18, g4.2.1, nI_add, List.length_append]
      exact congrArg nI (by omega)
    rcases l1 with ⟨t1, t2, t3⟩ | ⟨t, t1, t2, t3, t4⟩
    · refine br_t (by rw [e3, t1]; decide) ?_
      refine vq_x_rel48 (n := (D c).length) hx hl16 (by omega) (Or.inl ⟨by rw [hd, t2], by rw [hs, t3]⟩) ?_
      refine hp _ _ _ _ _ _ ?_ ?_
      · rw [vq_rl_id hc18 t1]
        exact ⟨hK, g3.2.1, (vq_sm_free hc).trans g3.2.2.1, g3.2.2.2⟩
      · rw [vq_rl_id hc18 t1]
        exact ⟨hfh, hfc, g4.2.2⟩
    · have htT : t ∈ T c := by rw [t1]; exact List.mem_singleton.mpr rfl
      have ht4 := g3.2.1.2.1 c t htT
      have e3' : x3 = nI t := by rw [e3, t1]; rfl
      subst e3'
      refine br_f (nI_pos (by omega)) ⟨vp_in_nI ht4 (by decide), ?_⟩
      intro tn etn tc etc
      rw [nI_clamp (by omega)] at etn
      refine vq_x_rel48 (n := (D c).length) hx hl16 (by omega) (Or.inr ⟨by rw [hd, t4], t2⟩) ?_
      have hKT := vq_K_free (l := t) g3.2.1 hc18 (by rw [t1]; rfl) g4.2.2.1
      have h18t : (vq_rl T c) 18 = t :: T 18 := by
        show vq_gs (vq_gs T c []) 18 (T c ++ T 18) 18 = _
        rw [vq_gss, t1]; rfl
      refine hp _ _ _ _ _ _ ⟨hK, ?_, (vq_sm_free hc).trans g3.2.2.1, (vq_sm_free hc).trans g3.2.2.2⟩ ⟨hfh, hfc, ?_, ?_⟩
      · rw [etn]; exact hKT
      · intro e he
        rw [h18t] at he
        have : t = e := by simpa using he
        rw [this]
      · rw [etc, h18t, g4.2.2.2, nI_1, List.length_cons]
end vq_RE
theorem i_vc_drop {k : Nat} {u : SX} {v : SY} (I : i_Rel k u v) (hk : k + 4 ≤ 2052) : wpX_drop (fun r u' => wpY_drop (fun r' v' => r' = r ∧ i_Rel (k + 4) u' v') v) u := by
  refine vq_el (P := fun u v => wpX_drop (fun r u' => wpY_drop (fun r' v' => r' = r ∧ i_Rel (k + 4) u' v') v) u) I ?_
  intro f_ringRoom f_tableBase f_receiptBase f_openChain f_receiptChain f_slotMask f_indexMask f_freeHead f_freeCount f_freeTableHead f_freeTableCount f_openCount f_receiptCount f_heldCount a_memory a_next a_tableOf a_tableNext a_tags a_sizes a_outs a_directs a_writtens a_heads a_tails a_held a_slots a_unpublished a_index a_unchecked a_seen a_event a_state a_pending g_clock g_descriptors g_modulus g_allTables b_at b_since b_tags b_size b_direct b_written b_values b_kinds b_state b_pending b_index b_event b_unchecked N M TT L D T o sz g1 gL g3 g4 g5 g6 g7 g8 g9 hb
  have R : i_Rel (k + 4) (f_ringRoom, f_tableBase, f_receiptBase, f_openChain, f_receiptChain, f_slotMask, f_indexMask, f_freeHead, f_freeCount, f_freeTableHead, f_freeTableCount, f_openCount, f_receiptCount, f_heldCount, a_memory, a_next, a_tableOf, a_tableNext, a_tags, a_sizes, a_outs, a_directs, a_writtens, a_heads, a_tails, a_held, a_slots, a_unpublished, a_index, a_unchecked, a_seen, a_event, a_state, a_pending) (g_clock, g_descriptors, g_modulus, g_allTables, b_at, b_since, b_tags, b_size, b_direct, b_written, b_values, b_kinds, b_state, b_pending, b_index, b_event, b_unchecked) := i_up ⟨N, M, TT, L, D, T, o, sz, g1, gL, g3, g4, g5, g6, g7, g8, g9⟩
  obtain ⟨f1, f2, f3, f4⟩ := id g5
  unfold wpX_drop wpY_drop
  by_cases hl : (L 0).length = 0
  · have hL0 : L 0 = [] := List.eq_nil_of_length_eq_zero hl
    refine br_t (by rw [f1, hl]; rfl) ?_
    exact vq_y_find0 (q := 0) gL (by omega) (fun c l h => absurd (hL0.symm.trans h) (fun z => List.cons_ne_nil _ _ z.symm)) (fun _ => br_f (by decide) ⟨rfl, R⟩)
  · obtain ⟨c, hL⟩ := vq_opn hl f2
    have fy := vq_y_f0 (g_descriptors := g_descriptors) (g_modulus := g_modulus) (g_allTables := g_allTables) (b_tags := b_tags) (b_size := b_size) (b_direct := b_direct) (b_written := b_written) (b_values := b_values) (b_kinds := b_kinds) (b_state := b_state) (b_pending := b_pending) (b_index := b_index) (b_event := b_event) (b_unchecked := b_unchecked) gL hL
    obtain ⟨hc, ha⟩ := (gL.2.1 0 (by omega) c).mp (by rw [hL]; exact List.mem_singleton.mpr rfl)
    obtain ⟨⟨d1, d2, d3, d4, d5, d6⟩, hcel, hlnk⟩ := (g6 c hc).2.2.1 ha
    have hop : ¬ f_openCount = 0 := by rw [f1]; exact nI_ne0 (by omega) (by omega)
    have ic : vp_in (nI c) 18 := vp_in_nI hc (by decide)
    have cc : (nI c).toNatClampNeg = c := nI_clamp (by omega)
    have hc18 : c ≠ 18 := by omega
    refine br_f hop ?_
    refine vq_x_rel (x := 16) (by omega) hc g3 g4 hlnk d5 d2 hcel.2.1 ?_
    intro nx tn fh fc th tc g3' g4'
    refine fy _ (br_t (nI_pos' (by omega)) ⟨ic, ?_⟩)
    intro at2 eat
    rw [cc] at eat
    refine ⟨rfl, ?_⟩
    have hi0 : (L 0)[0]? = some c := by rw [hL]; rfl
    have gL' := vq_L_rem (q := 0) gL (by omega) hi0
    rw [← eat] at gL'
    obtain ⟨g7', g8'⟩ := vq_g78 gL (D' := vq_rl D c) (Or.inl ha) (fun c' h1 h2 => vq_rl_n (by omega) h2) g7 g8
    refine ⟨N, M, TT, vq_gs L 0 ((L 0).eraseIdx 0), vq_rl D c, vq_rl T c, o, sz, g1, vq_L_up gL' (by omega), g3', g4', ?_, ?_, ?_, ?_, g9⟩
    · refine ⟨?_, ?_, ?_, ?_⟩
      · rw [vq_gss, hL]; rfl
      · rw [vq_gss, hL]; exact Nat.zero_le _
      · rw [vq_gsn (by omega)]; exact f3
      · rw [vq_gsn (by omega)]; exact f4
    · intro c' hc'
      by_cases ec : c' = c
      · subst ec
        rw [eat, pk_us, vq_rl_c hc18, vq_rl_c hc18]
        exact ⟨fun _ => ⟨rfl, rfl⟩, fun z => absurd z (by decide), fun z => absurd z (by decide), fun z => absurd rfl (vq_subne z).1⟩
      · rw [eat, pk_un ec, vq_rl_n (by omega) ec, vq_rl_n (by omega) ec]
        exact g6 c' hc'
    · unfold vq_G7
      rw [vq_gsn (by omega)]
      exact g7'
    · unfold vq_G8
      rw [vq_gsn (by omega), vq_gsn (by omega), vq_gsn (by omega), vq_gsn (by omega)]
      exact g8'
end
section
/-! publish -/
theorem vq_gs2 {L : Nat → List Nat} {f t c : Nat} {U : List Nat} (hft : t ≠ f) (hL : L f = c :: U) :
    vq_gs (vq_gs (vq_gs (vq_gs L f ((L f).eraseIdx 0)) t (L t ++ [c])) f []) t (vq_gs (vq_gs L f ((L f).eraseIdx 0)) t (L t ++ [c]) t ++ U) = vq_gs (vq_gs L f []) t (L t ++ c :: U) := by
  funext j
  by_cases e1 : j = t
  · rw [e1, vq_gss, vq_gss, vq_gss, List.append_assoc]; rfl
  · rw [vq_gsn e1, vq_gsn e1]
    by_cases e2 : j = f
    · rw [e2, vq_gss, vq_gss]
    · rw [vq_gsn e2, vq_gsn e2, vq_gsn e1, vq_gsn e2]
theorem vq_gs0 {L : Nat → List Nat} {f t : Nat} (hL : L f = []) : vq_gs (vq_gs L f []) t (L t ++ []) = L := by
  funext j
  by_cases e1 : j = t
  · rw [e1, vq_gss, List.append_nil]
  · rw [vq_gsn e1]
    by_cases e2 : j = f
    · rw [e2, vq_gss, hL]
    · rw [vq_gsn e2]
theorem vq_uself {f : Nat → Int32} {k : Nat} {x : Int32} (h : f k = x) : upd f k x = f := by
  funext j
  by_cases e : j = k
  · rw [e, pk_us, h]
  · rw [pk_un e]
def vq_mn (a b : Nat) : Nat := if a ≤ b then a else b
theorem vq_y_pub_l {post : Int32 → SY → Prop} {s f t m M : Nat} {g_descriptors g_modulus g_allTables : Int32} {b_tags b_size b_direct b_written b_values b_kinds b_state b_pending b_event : Nat → Int32} (hs : s < 2) (hf : f < 7) (ht : t < 7) (hft : t ≠ f) (hm : m ≤ 18) (hM0 : 1 ≤ M) (hM : M ≤ 256) (eM : g_modulus = nI M) :
    ∀ (U : List Nat) (n j K ix u : Nat) (L : Nat → List Nat) (g_clock : Int64) (b_at : Nat → Int32) (b_since : Nat → Int64) (b_index b_unchecked : Nat → Int32), vq_L b_at b_since g_clock L K → K + U.length < 2 ^ 40 → L f = U → b_index s = nI ix → ix < M → b_unchecked s = nI u → u ≤ M → j + U.length = m → U.length < n →
      (∀ (at2 : Nat → Int32) (si2 : Nat → Int64) (clk2 : Int64), vq_L at2 si2 clk2 (vq_gs (vq_gs L f []) t (L t ++ U)) (K + U.length) → (∀ c, at2 c = b_at c ∨ (b_at c = nI f ∧ at2 c = nI t)) →
        post (nI m) (clk2, g_descriptors, g_modulus, g_allTables, at2, si2, b_tags, b_size, b_direct, b_written, b_values, b_kinds, b_state, b_pending, upd b_index s (nI ((ix + U.length) % M)), b_event, upd b_unchecked s (nI (vq_mn (u + U.length) M)))) →
      wY_publish_49 post (nI s) (nI f) (nI t) (nI m) n (nI j) g_clock g_descriptors g_modulus g_allTables b_at b_since b_tags b_size b_direct b_written b_values b_kinds b_state b_pending b_index b_event b_unchecked := by
  intro U
  induction U with
  | nil =>
    intro n j K ix u L g_clock b_at b_since b_index b_unchecked hL hK hU ei hix eu hu hj hn hp
    cases n with
    | zero => exact absurd hn (by decide)
    | succ n =>
      have ej : j = m := by simpa using hj
      subst ej
      refine br_t (nI_le (Nat.le_refl _) (by omega)) ?_
      have := hp b_at b_since g_clock (by rw [vq_gs0 hU]; exact hL) (fun c => Or.inl rfl)
      rw [vq_uself (by rw [ei, List.length_nil, Nat.add_zero, Nat.mod_eq_of_lt hix]), vq_uself (by rw [eu, List.length_nil, Nat.add_zero, vq_mn, if_pos hu])] at this
      exact this
  | cons c U ih =>
    intro n j K ix u L g_clock b_at b_since b_index b_unchecked hL hK hU ei hix eu hu hj hn hp
    rw [List.length_cons] at hK hj hn hp
    cases n with
    | zero => exact absurd hn (by omega)
    | succ n =>
      have is : vp_in (nI s) 2 := vp_in_nI hs (by decide)
      have cs : (nI s).toNatClampNeg = s := nI_clamp (by omega)
      have hi0 : (L f)[0]? = some c := by rw [hU]; rfl
      obtain ⟨hc, hac⟩ := vq_L_at hL hf hi0
      have gL1 := vq_L_mv hL (by omega) hf ht hft hi0
      refine br_f (nI_ge (by omega) (by omega)) ?_
      refine vq_y_find0 hL hf ?_ (fun z => absurd (hU.symm.trans z) (List.cons_ne_nil _ _))
      intro c' l e
      have ec : c = c' := (List.cons.inj (hU.symm.trans e)).1
      subst ec
      refine vq_y_move hc ⟨is, ?_⟩
      rw [cs, ei, eM]
      have step : ∀ z0, z0 = nI ((ix + 1) % M) → wY_publish_103 post (wY_publish_49 post (nI s) (nI f) (nI t) (nI m) n) (nI s) (nI f) (nI t) (nI m) (nI j) z0 (nI s) (g_clock + 1) g_descriptors g_modulus g_allTables (upd b_at c (nI t)) (vp_updL b_since c (g_clock + 1)) b_tags b_size b_direct b_written b_values b_kinds b_state b_pending b_index b_event b_unchecked := by
        intro z0 e0
        refine ⟨is, ?_⟩
        intro ix2 eix2
        rw [cs, e0] at eix2
        refine ⟨is, ?_⟩
        rw [cs, eu, eM]
        have hLf : vq_gs (vq_gs L f ((L f).eraseIdx 0)) t (L t ++ [c]) f = U := by
          rw [vq_gsn (fun z => hft z.symm), vq_gss, hU]; rfl
        have hmod : ((ix + 1) % M + U.length) % M = (ix + (U.length + 1)) % M := by
          rw [Nat.add_mod, Nat.mod_mod, ← Nat.add_mod]
          congr 1
          omega
        have fin : ∀ (un2 : Nat → Int32) (u2 : Nat), un2 s = nI u2 → u2 ≤ M → upd un2 s (nI (vq_mn (u2 + U.length) M)) = upd b_unchecked s (nI (vq_mn (u + (U.length + 1)) M)) → wY_publish_49 post (nI s) (nI f) (nI t) (nI m) n (nI (j + 1)) (g_clock + 1) g_descriptors (nI M) g_allTables (upd b_at c (nI t)) (vp_updL b_since c (g_clock + 1)) b_tags b_size b_direct b_written b_values b_kinds b_state b_pending ix2 b_event un2 := by
          intro un2 u2 h1 h2 h3
          rw [← eM]
          refine ih n (j + 1) (K + 1) ((ix + 1) % M) u2 _ (g_clock + 1) _ _ ix2 un2 gL1 (by omega) hLf (by rw [eix2, pk_us]) (Nat.mod_lt _ (by omega)) h1 h2 (by omega) (by omega) ?_
          intro at2 si2 clk2 q1 q2
          rw [vq_gs2 hft hU, show K + 1 + U.length = K + (U.length + 1) by omega] at q1
          have := hp at2 si2 clk2 q1 ?_
          · rw [h3, eix2, vq_us2, hmod]
            exact this
          · intro c0
            by_cases e0 : c0 = c
            · subst e0
              right
              refine ⟨hac, ?_⟩
              rcases q2 c0 with q | q
              · rw [q, pk_us]
              · exact q.2
            · have := q2 c0
              rw [pk_un e0] at this
              exact this
        refine pk_le M u (fun hle => ?_) (fun hlt => ⟨is, is, ?_⟩)
        · intro x5 e5
          rw [e5, nI_1]
          refine fin b_unchecked u eu hu ?_
          have : u = M := by omega
          subst this
          congr 2
          unfold vq_mn
          split <;> split <;> omega
        · intro un2 eun2 x5 e5
          rw [nI_1] at eun2
          rw [e5, nI_1]
          refine fin un2 (u + 1) (by rw [eun2, pk_us]) (by omega) ?_
          rw [eun2, vq_us2, show u + 1 + U.length = u + (U.length + 1) by omega]
      have em : nI M - 1 = nI (M - 1) := by
        rw [show (1 : Int32) = nI 1 from rfl, pk_sub hM0]
      rw [em]
      rw [eM] at step
      by_cases hw : ix = M - 1
      · refine br_t (by rw [hw]) (step 0 ?_)
        rw [show ix + 1 = M by omega, Nat.mod_self]; rfl
      · refine br_f (fun z => hw (vq_inj z (by omega) (by omega))) ⟨is, ?_⟩
        refine step _ ?_
        rw [nI_1, Nat.mod_eq_of_lt (by omega)]
theorem i_vc_publish {k : Nat} {u : SX} {v : SY} (I : i_Rel k u v) (hk : k + 4 ≤ 2052) (v1 : Int32) : wpX_publish (fun r u' => wpY_publish (fun r' v' => r' = r ∧ i_Rel (k + 4) u' v') v v1) u v1 := by
  refine vq_el (P := fun u v => wpX_publish (fun r u' => wpY_publish (fun r' v' => r' = r ∧ i_Rel (k + 4) u' v') v v1) u v1) I ?_
  intro f_ringRoom f_tableBase f_receiptBase f_openChain f_receiptChain f_slotMask f_indexMask f_freeHead f_freeCount f_freeTableHead f_freeTableCount f_openCount f_receiptCount f_heldCount a_memory a_next a_tableOf a_tableNext a_tags a_sizes a_outs a_directs a_writtens a_heads a_tails a_held a_slots a_unpublished a_index a_unchecked a_seen a_event a_state a_pending g_clock g_descriptors g_modulus g_allTables b_at b_since b_tags b_size b_direct b_written b_values b_kinds b_state b_pending b_index b_event b_unchecked N M TT L D T o sz g1 gL g3 g4 g5 g6 g7 g8 g9 hb
  have R : i_Rel (k + 4) (f_ringRoom, f_tableBase, f_receiptBase, f_openChain, f_receiptChain, f_slotMask, f_indexMask, f_freeHead, f_freeCount, f_freeTableHead, f_freeTableCount, f_openCount, f_receiptCount, f_heldCount, a_memory, a_next, a_tableOf, a_tableNext, a_tags, a_sizes, a_outs, a_directs, a_writtens, a_heads, a_tails, a_held, a_slots, a_unpublished, a_index, a_unchecked, a_seen, a_event, a_state, a_pending) (g_clock, g_descriptors, g_modulus, g_allTables, b_at, b_since, b_tags, b_size, b_direct, b_written, b_values, b_kinds, b_state, b_pending, b_index, b_event, b_unchecked) := i_up ⟨N, M, TT, L, D, T, o, sz, g1, gL, g3, g4, g5, g6, g7, g8, g9⟩
  obtain ⟨rfl, rfl, rfl, rfl, rfl, h9⟩ := g9
  have hN := g1.1
  have hM0 : 1 ≤ M := by have := hN.2.1; omega
  have hM256 : M ≤ 256 := by have := hN.2.1; omega
  have hN16 : N ≤ 16 := by have := hN.1; omega
  unfold wpX_publish
  rcases vq_side v1 with ⟨s, hs, rfl⟩ | ⟨h0, h1⟩
  · refine vq_x_side1 hs (br_f (by decide) ?_)
    have is : vp_in (nI s) 2 := vp_in_nI hs (by decide)
    have cs : (nI s).toNatClampNeg = s := nI_clamp (by omega)
    obtain ⟨f, t, hft⟩ : ∃ f t, (s = 0 ∧ f = 1 ∧ t = 2) ∨ (s = 1 ∧ f = 4 ∧ t = 5) := by
      have : s = 0 ∨ s = 1 := by omega
      rcases this with h | h
      · exact ⟨1, 2, Or.inl ⟨h, rfl, rfl⟩⟩
      · exact ⟨4, 5, Or.inr ⟨h, rfl, rfl⟩⟩
    have hUl : (L f).length ≤ 16 := by
      rcases hft with ⟨_, h, _⟩ | ⟨_, h, _⟩ <;> rw [h] <;> omega
    have eun : a_unpublished s = nI (L f).length := by
      rcases hft with ⟨h1, h2, _⟩ | ⟨h1, h2, _⟩
      · rw [h1, h2]; exact g8.1.choose_spec.2.2.2.1
      · rw [h1, h2]; exact g8.2.choose_spec.2.2.2.1
    obtain ⟨ix, hix, eix⟩ := vq_ixb (by omega) g8 hs
    obtain ⟨uc, huc, euc⟩ := (h9 s hs).2
    have fy : ∀ post : Int32 → SY → Prop, wY_publish_30 post (nI s) (nI f) (nI t) g_clock g_descriptors g_modulus g_allTables b_at b_since b_tags b_size b_direct b_written b_values b_kinds a_state a_pending a_index a_event a_unchecked → wpY_publish post (g_clock, g_descriptors, g_modulus, g_allTables, b_at, b_since, b_tags, b_size, b_direct, b_written, b_values, b_kinds, a_state, a_pending, a_index, a_event, a_unchecked) (nI s) := by
      intro post h
      rcases hft with ⟨h1, h2, h3⟩ | ⟨h1, h2, h3⟩
      · subst h1 h2 h3
        exact br_t rfl (br_t rfl (br_t rfl h))
      · subst h1 h2 h3
        exact br_f (by decide) (br_t rfl (br_f (by decide) (br_f (by decide) h)))
    refine ⟨is, ?_⟩
    intro x2 e2
    rw [cs, eun] at e2
    by_cases hU0 : (L f).length = 0
    · refine br_t (by rw [e2, hU0]; rfl) ?_
      refine fy _ ?_
      refine vq_y_count gL (by omega) ?_
      exact br_t (by rw [hU0]; rfl) ⟨rfl, R⟩
    · have hx0 : ¬ x2 = 0 := by rw [e2]; exact nI_ne0 (by omega) (by omega)
      refine br_f hx0 ⟨is, ?_⟩
      intro un2 eun2
      refine ⟨is, is, ?_⟩
      intro ix2 eix2
      refine ⟨is, ?_⟩
      refine vq_x_clamp ⟨is, ?_⟩
      intro uc2 euc2
      have ecl : (if (0 : Int32) ≤ a_unchecked (nI s).toNatClampNeg + x2 then (if a_unchecked (nI s).toNatClampNeg + x2 ≤ f_indexMask + 1 then a_unchecked (nI s).toNatClampNeg + x2 else f_indexMask + 1) else 0) = nI (vq_mn (uc + (L f).length) M) := by
        rw [cs, euc, e2, nI_add, g1.2.2.1, nI_1, show M - 1 + 1 = M by omega, if_pos (nI_pos' (by omega))]
        unfold vq_mn
        by_cases hle : uc + (L f).length ≤ M
        · rw [if_pos (nI_le hle (by omega)), if_pos hle]
        · rw [if_neg (nI_ge (by omega) (by omega)), if_neg hle]
      rw [ecl, cs] at euc2
      have eix3 : (a_index s + nI (L f).length) &&& f_indexMask = nI ((ix + (L f).length) % M) := by
        rw [g1.2.2.1, eix, nI_add, vq_andMn hN (by omega)]
      rw [cs, e2, eix3] at eix2
      rw [cs] at eun2
      rw [e2, eun2, eix2, euc2]
      refine fy _ ?_
      refine vq_y_count gL (by omega) ?_
      refine br_f (nI_ne0 (by omega) (by omega)) ⟨(L f).length + 1, ?_⟩
      refine vq_y_pub_l hs (by omega) (by omega) (by omega) (by omega) hM0 hM256 g1.2.2.2.2.1 (L f) ((L f).length + 1) 0 (5 * k) ix uc L _ _ _ _ _ gL (by omega) rfl eix hix euc huc (by omega) (by omega) ?_
      intro at2 si2 clk2 q1 q2
      refine ⟨rfl, ?_⟩
      have hmn : vq_mn (uc + (L f).length) M ≤ M := by unfold vq_mn; split <;> omega
      refine ⟨N, M, TT, vq_gs (vq_gs L f []) t (L t ++ L f), D, T, o, sz, g1, vq_L_up q1 (by omega), g3, g4, ?_, ?_, ?_, ?_, rfl, rfl, rfl, rfl, rfl, ?_⟩
      · unfold vq_G5
        rw [vq_gsn (by omega), vq_gsn (by omega), vq_gsn (by omega), vq_gsn (by omega)]
        exact g5
      · intro c' hc'
        rcases q2 c' with q | ⟨qa, qb⟩
        · rw [q]; exact g6 c' hc'
        · have hC := g6 c' hc'
          rw [qa] at hC
          rw [qb]
          exact vq_C1_sub hC ⟨f, by omega, by omega, rfl⟩ ⟨t, by omega, by omega, rfl⟩
      · unfold vq_G7
        rw [vq_gsn (by omega), vq_gsn (by omega)]
        exact g7
      · unfold vq_G8
        rcases hft with ⟨h1, h2, h3⟩ | ⟨h1, h2, h3⟩
        · subst h1 h2 h3
          refine ⟨?_, ?_⟩
          · rw [vq_gss, vq_gsn (by omega), vq_gss, pk_us, pk_us, ← eix3, ← eun, g1.2.2.1]
            exact vq_rg_pub hN g8.1 (by omega)
          · rw [vq_gsn (by omega), vq_gsn (by omega), vq_gsn (by omega), vq_gsn (by omega), pk_un (by omega), pk_un (by omega)]
            exact g8.2
        · subst h1 h2 h3
          refine ⟨?_, ?_⟩
          · rw [vq_gsn (by omega), vq_gsn (by omega), vq_gsn (by omega), vq_gsn (by omega), pk_un (by omega), pk_un (by omega)]
            exact g8.1
          · rw [vq_gss, vq_gsn (by omega), vq_gss, pk_us, pk_us, ← eix3, ← eun, g1.2.2.1]
            exact vq_rg_pub hN g8.2 (by omega)
      · intro s' hs'
        refine ⟨(h9 s' hs').1, ?_⟩
        by_cases z : s' = s
        · rw [z, pk_us]; exact ⟨_, hmn, rfl⟩
        · rw [pk_un z]; exact (h9 s' hs').2
  · exact vq_x_side0 h0 h1 (br_t rfl (br_f h0 (br_f h1 ⟨rfl, R⟩)))
end
section
/-! step: the walks -/
section vq_ST
variable {f_ringRoom f_tableBase f_receiptBase f_openChain f_receiptChain f_slotMask f_indexMask f_freeHead f_freeCount f_freeTableHead f_freeTableCount f_openCount f_receiptCount f_heldCount : Int32} {a_memory a_next a_tableOf a_tableNext a_tags a_sizes a_outs a_directs a_writtens a_heads a_tails a_held a_slots a_unpublished a_index a_unchecked a_seen a_event a_state a_pending : Nat → Int32} {g_clock : Int64} {g_descriptors g_modulus g_allTables : Int32} {b_since : Nat → Int64} {b_at b_tags b_size b_direct b_written b_values b_kinds b_state b_pending b_index b_event b_unchecked : Nat → Int32} {N M TT K : Nat} {L D T : Nat → List Nat}
theorem vq_x_step {post : Int32 → SX → Prop} {s w : Nat} (hs : s < 2) (hw : (a_index (1 - s) - a_seen s) &&& f_indexMask = nI w) (hwb : w < 2 ^ 31)
    (h6 : ¬ a_state s = 0 → ¬ a_state s = 1 → ¬ a_state s = 2 → post 6 (f_ringRoom, f_tableBase, f_receiptBase, f_openChain, f_receiptChain, f_slotMask, f_indexMask, f_freeHead, f_freeCount, f_freeTableHead, f_freeTableCount, f_openCount, f_receiptCount, f_heldCount, a_memory, a_next, a_tableOf, a_tableNext, a_tags, a_sizes, a_outs, a_directs, a_writtens, a_heads, a_tails, a_held, a_slots, a_unpublished, a_index, a_unchecked, a_seen, a_event, a_state, a_pending))
    (h0 : a_state s = 0 → wpX_poll (fun r u => match u with | (f_ringRoom, f_tableBase, f_receiptBase, f_openChain, f_receiptChain, f_slotMask, f_indexMask, f_freeHead, f_freeCount, f_freeTableHead, f_freeTableCount, f_openCount, f_receiptCount, f_heldCount, a_memory, a_next, a_tableOf, a_tableNext, a_tags, a_sizes, a_outs, a_directs, a_writtens, a_heads, a_tails, a_held, a_slots, a_unpublished, a_index, a_unchecked, a_seen, a_event, a_state, a_pending) => post r (f_ringRoom, f_tableBase, f_receiptBase, f_openChain, f_receiptChain, f_slotMask, f_indexMask, f_freeHead, f_freeCount, f_freeTableHead, f_freeTableCount, f_openCount, f_receiptCount, f_heldCount, a_memory, a_next, a_tableOf, a_tableNext, a_tags, a_sizes, a_outs, a_directs, a_writtens, a_heads, a_tails, a_held, a_slots, a_unpublished, a_index, a_unchecked, a_seen, a_event, a_state, a_pending)) (f_ringRoom, f_tableBase, f_receiptBase, f_openChain, f_receiptChain, f_slotMask, f_indexMask, f_freeHead, f_freeCount, f_freeTableHead, f_freeTableCount, f_openCount, f_receiptCount, f_heldCount, a_memory, a_next, a_tableOf, a_tableNext, a_tags, a_sizes, a_outs, a_directs, a_writtens, a_heads, a_tails, a_held, a_slots, a_unpublished, a_index, a_unchecked, a_seen, a_event, a_state, a_pending) (nI s) (nI w))
    (h1 : a_state s = 1 → post 3 (f_ringRoom, f_tableBase, f_receiptBase, f_openChain, f_receiptChain, f_slotMask, f_indexMask, f_freeHead, f_freeCount, f_freeTableHead, f_freeTableCount, f_openCount, f_receiptCount, f_heldCount, a_memory, a_next, a_tableOf, a_tableNext, a_tags, a_sizes, a_outs, a_directs, a_writtens, a_heads, a_tails, a_held, a_slots, a_unpublished, a_index, a_unchecked, a_seen, upd a_event s (a_seen s), upd a_state s 2, a_pending))
    (h2a : a_state s = 2 → w = 0 → post 5 (f_ringRoom, f_tableBase, f_receiptBase, f_openChain, f_receiptChain, f_slotMask, f_indexMask, f_freeHead, f_freeCount, f_freeTableHead, f_freeTableCount, f_openCount, f_receiptCount, f_heldCount, a_memory, a_next, a_tableOf, a_tableNext, a_tags, a_sizes, a_outs, a_directs, a_writtens, a_heads, a_tails, a_held, a_slots, a_unpublished, a_index, a_unchecked, a_seen, a_event, upd a_state s 3, a_pending))
    (h2b : a_state s = 2 → 0 < w → post 4 (f_ringRoom, f_tableBase, f_receiptBase, f_openChain, f_receiptChain, f_slotMask, f_indexMask, f_freeHead, f_freeCount, f_freeTableHead, f_freeTableCount, f_openCount, f_receiptCount, f_heldCount, a_memory, a_next, a_tableOf, a_tableNext, a_tags, a_sizes, a_outs, a_directs, a_writtens, a_heads, a_tails, a_held, a_slots, a_unpublished, a_index, a_unchecked, a_seen, a_event, upd a_state s 0, a_pending)) : wpX_step post (f_ringRoom, f_tableBase, f_receiptBase, f_openChain, f_receiptChain, f_slotMask, f_indexMask, f_freeHead, f_freeCount, f_freeTableHead, f_freeTableCount, f_openCount, f_receiptCount, f_heldCount, a_memory, a_next, a_tableOf, a_tableNext, a_tags, a_sizes, a_outs, a_directs, a_writtens, a_heads, a_tails, a_held, a_slots, a_unpublished, a_index, a_unchecked, a_seen, a_event, a_state, a_pending) (nI s) := by
  have is : vp_in (nI s) 2 := vp_in_nI hs (by decide)
  have cs : (nI s).toNatClampNeg = s := nI_clamp (by omega)
  unfold wpX_step
  refine vq_x_side1 hs (br_f (by decide) ?_)
  rw [vq_ot hs]
  refine vq_x_wait (s := 1 - s) (t := s) (by omega) (by omega) ?_
  rw [hw]
  refine ⟨is, ?_⟩
  intro k ek
  rw [cs] at ek
  by_cases k0 : k = 0
  · subst k0
    exact br_f (by decide) (br_f (by decide) (br_t rfl (h0 ek.symm)))
  · by_cases k1 : k = 1
    · subst k1
      refine br_f (by decide) (br_f (by decide) (br_f k0 (br_t rfl ⟨is, is, ?_⟩)))
      intro ev eev
      refine ⟨is, ?_⟩
      intro st est
      rw [cs] at eev est
      rw [eev, est]
      exact h1 ek.symm
    · by_cases k2 : k = 2
      · subst k2
        refine br_f (by decide) (br_f (by decide) (br_f k0 (br_f k1 (br_t rfl ?_))))
        refine pk_le w 0 (fun hz => ?_) (fun hz => ?_)
        · refine ⟨is, ?_⟩
          intro st est
          rw [cs] at est
          rw [est]
          exact pk_le w 0 (fun _ => h2a ek.symm (by omega)) (fun z => absurd z (by omega))
        · refine ⟨is, ?_⟩
          intro st est
          rw [cs] at est
          rw [est]
          exact pk_le w 0 (fun z => absurd z (by omega)) (fun _ => h2b ek.symm (by omega))
      · have h6' := h6 (fun z => k0 (ek.trans z)) (fun z => k1 (ek.trans z)) (fun z => k2 (ek.trans z))
        exact br_c (fun _ => h6') (fun _ => br_c (fun _ => h6') (fun _ => br_f k0 (br_f k1 (br_f k2 trivial))))
theorem vq_y_s20 {post : Int32 → SY → Prop} {s q w p : Nat} (gL : vq_L b_at b_since g_clock L K) (hs : s < 2) (hq : q < 7) (ew : (L q).length = w) (hM : M ≤ 256) (hp : p < M) (hwM : w < M) (eM : g_modulus = nI M) (ei : b_index (1 - s) = nI ((p + w) % M))
    (h6 : ¬ b_state s = 0 → ¬ b_state s = 1 → ¬ b_state s = 2 → post 6 (g_clock, g_descriptors, g_modulus, g_allTables, b_at, b_since, b_tags, b_size, b_direct, b_written, b_values, b_kinds, b_state, b_pending, b_index, b_event, b_unchecked))
    (h00 : b_state s = 0 → w = 0 → post 2 (g_clock, g_descriptors, g_modulus, g_allTables, b_at, b_since, b_tags, b_size, b_direct, b_written, b_values, b_kinds, upd b_state s 1, b_pending, b_index, b_event, b_unchecked))
    (h01 : ¬ (b_state s = 0 ∧ 0 < w))
    (h1 : b_state s = 1 → post 3 (g_clock, g_descriptors, g_modulus, g_allTables, b_at, b_since, b_tags, b_size, b_direct, b_written, b_values, b_kinds, upd b_state s 2, b_pending, b_index, upd b_event s (nI p), b_unchecked))
    (h2a : b_state s = 2 → w = 0 → post 5 (g_clock, g_descriptors, g_modulus, g_allTables, b_at, b_since, b_tags, b_size, b_direct, b_written, b_values, b_kinds, upd b_state s 3, b_pending, b_index, b_event, b_unchecked))
    (h2b : b_state s = 2 → 0 < w → post 4 (g_clock, g_descriptors, g_modulus, g_allTables, b_at, b_since, b_tags, b_size, b_direct, b_written, b_values, b_kinds, upd b_state s 0, b_pending, b_index, b_event, b_unchecked)) : wY_step_20 post (nI s) (nI q) g_clock g_descriptors g_modulus g_allTables b_at b_since b_tags b_size b_direct b_written b_values b_kinds b_state b_pending b_index b_event b_unchecked := by
  have is : vp_in (nI s) 2 := vp_in_nI hs (by decide)
  have cs : (nI s).toNatClampNeg = s := nI_clamp (by omega)
  have co : (1 - nI s).toNatClampNeg = 1 - s := by rw [vq_ot hs]; exact nI_clamp (by omega)
  have io : vp_in (1 - nI s) 2 := by rw [vq_ot hs]; exact vp_in_nI (by omega) (by decide)
  have hml := Nat.mod_lt (p + w) (show 0 < M by omega)
  refine vq_y_count gL hq ⟨is, ?_⟩
  rw [ew, cs]
  have b92 : wY_step_92 post (nI s) (nI w) g_clock g_descriptors g_modulus g_allTables b_at b_since b_tags b_size b_direct b_written b_values b_kinds b_state b_pending b_index b_event b_unchecked := by
    refine ⟨is, ?_⟩
    rw [cs]
    refine br_c (fun z0 => ⟨is, ?_⟩) (fun z0 => ⟨is, ?_⟩)
    · intro st est
      rw [est]
      refine h00 z0 ?_
      by_cases z : w = 0
      · exact z
      · exact absurd ⟨z0, by omega⟩ h01
    · refine br_c (fun z1 => ⟨io, ?_⟩) (fun z1 => ⟨is, ?_⟩)
      · intro x4 e4
        rw [co, ei] at e4
        have b154 : ∀ z0, z0 = nI p → wY_step_154 post (nI s) z0 (nI s) g_clock g_descriptors g_modulus g_allTables b_at b_since b_tags b_size b_direct b_written b_values b_kinds b_state b_pending b_index b_event b_unchecked := by
          intro y ey
          refine ⟨is, ?_⟩
          intro ev eev
          refine ⟨is, ?_⟩
          intro st est
          rw [cs] at eev est
          rw [eev, est, ey]
          exact h1 z1
        by_cases hlt : p + w < M
        · rw [Nat.mod_eq_of_lt hlt, pk_sub (by omega), show p + w - w = p by omega] at e4
          refine br_t (by rw [e4]; exact nI_pos' (by omega)) (b154 x4 e4)
        · have hm2 : (p + w) % M = p + w - M := by
            rw [Nat.mod_eq_sub_mod (by omega)]
            exact Nat.mod_eq_of_lt (by omega)
          rw [hm2] at e4
          refine br_f ?_ (b154 _ ?_)
          · rw [e4]
            exact fun z => absurd (pk_sneg (a := p + w - M) (b := w) (by omega) (by omega)) (Int32.not_lt.mpr z)
          · have e5 : nI p + nI w = nI (p + w - M) + nI M := by
              rw [nI_add, nI_add]
              exact congrArg nI (by omega)
            rw [e4, eM]
            grind
      · refine br_c (fun z2 => ?_) (fun z2 => h6 z0 z1 z2)
        refine pk_le w 0 (fun hz => ?_) (fun hz => ?_)
        · refine ⟨is, ?_⟩
          intro st est
          rw [cs] at est
          rw [est]
          exact pk_le w 0 (fun _ => h2a z2 (by omega)) (fun z => absurd z (by omega))
        · refine ⟨is, ?_⟩
          intro st est
          rw [cs] at est
          rw [est]
          exact pk_le w 0 (fun z => absurd z (by omega)) (fun _ => h2b z2 (by omega))
  refine br_c (fun z0 => ?_) (fun z0 => b92)
  refine pk_le w 0 (fun hz => b92) (fun hz => absurd ⟨z0, hz⟩ h01)
theorem vq_y_take1 {post : Int32 → SY → Prop} {c : Nat} {W : List Nat} (gL : vq_L b_at b_since g_clock L K) (hW : L 2 = c :: W) (hst : b_state 1 = 0) (hp : post 1 (g_clock + 1, g_descriptors, g_modulus, g_allTables, upd b_at c 3, vp_updL b_since c (g_clock + 1), b_tags, b_size, b_direct, b_written, b_values, b_kinds, b_state, b_pending, b_index, b_event, b_unchecked)) : wY_step_20 post 1 2 g_clock g_descriptors g_modulus g_allTables b_at b_since b_tags b_size b_direct b_written b_values b_kinds b_state b_pending b_index b_event b_unchecked := by
  have hc := (vq_L_at gL (q := 2) (i := 0) (by omega) (by rw [hW]; rfl)).1
  have hl := vq_L_le gL (q := 2) (by omega)
  refine vq_y_count (q := 2) gL (by omega) ⟨vp_in_nI (n := 1) (by omega) (by decide), br_t hst ?_⟩
  refine br_f (nI_nle (by rw [hW]; simp) (by omega)) ?_
  refine vq_y_find0 (q := 2) gL (by omega) ?_ (fun z => absurd (hW.symm.trans z) (List.cons_ne_nil _ _))
  intro c' l e
  have ec : c = c' := (List.cons.inj (hW.symm.trans e)).1
  subst ec
  have fin : wY_step_74 post 1 (nI c) g_clock g_descriptors g_modulus g_allTables b_at b_since b_tags b_size b_direct b_written b_values b_kinds b_state b_pending b_index b_event b_unchecked := br_f (by decide) (vq_y_move hc hp)
  refine vq_y_find0 (q := 6) gL (by omega) ?_ ?_
  · intro f l' _
    exact br_f (by decide) fin
  · intro _
    exact br_f (by decide) fin
theorem vq_y_take0 {post : Int32 → SY → Prop} {c : Nat} {W : List Nat} (gL : vq_L b_at b_since g_clock L K) (hW : L 5 = c :: W) (hst : b_state 0 = 0)
    (h0 : L 6 = [] → post 1 (g_clock + 1, g_descriptors, g_modulus, g_allTables, upd b_at c 6, vp_updL b_since c (g_clock + 1), b_tags, b_size, b_direct, b_written, b_values, b_kinds, b_state, b_pending, b_index, b_event, b_unchecked))
    (h1 : ∀ f l, L 6 = f :: l → post 1 (g_clock + 1, g_descriptors, g_modulus, g_allTables, upd (upd b_at f (-1)) c 6, vp_updL b_since c (g_clock + 1), b_tags, b_size, b_direct, b_written, b_values, b_kinds, b_state, b_pending, b_index, b_event, b_unchecked)) : wY_step_20 post 0 5 g_clock g_descriptors g_modulus g_allTables b_at b_since b_tags b_size b_direct b_written b_values b_kinds b_state b_pending b_index b_event b_unchecked := by
  have hc := (vq_L_at gL (q := 5) (i := 0) (by omega) (by rw [hW]; rfl)).1
  have hl := vq_L_le gL (q := 5) (by omega)
  refine vq_y_count (q := 5) gL (by omega) ⟨vp_in_nI (n := 0) (by omega) (by decide), br_t hst ?_⟩
  refine br_f (nI_nle (by rw [hW]; simp) (by omega)) ?_
  refine vq_y_find0 (q := 5) gL (by omega) ?_ (fun z => absurd (hW.symm.trans z) (List.cons_ne_nil _ _))
  intro c' l e
  have ec : c = c' := (List.cons.inj (hW.symm.trans e)).1
  subst ec
  refine vq_y_find0 (q := 6) gL (by omega) ?_ ?_
  · intro f l' hf
    have hfc := (vq_L_at gL (q := 6) (i := 0) (by omega) (by rw [hf]; rfl)).1
    refine br_t rfl (br_f (nI_pos (by omega)) ⟨vp_in_nI hfc (by decide), ?_⟩)
    intro at2 eat
    rw [nI_clamp (by omega)] at eat
    rw [eat]
    exact br_t rfl (vq_y_move hc (h1 f l' hf))
  · intro he
    exact br_t rfl (br_t (by decide) (br_t rfl (vq_y_move hc (h0 he))))
theorem vq_x_rcv_l {post : SX → Prop} {h : Int32} {g : Nat → Nat} {x sc : Nat} {me0 : Nat → Int32} (hw : vq_wk a_next a_tableOf h g sc) (hg : ∀ i, i < sc → g i < 48) (h8 : sc ≤ 8) (hx : x < 17)
    (hp : ∀ me : Nat → Int32, (∀ j, j < sc → me (48 + j) = me0 (g j)) → (∀ p, p < 48 → me p = me0 p) →
      wpX_release (fun u => match u with | (f_ringRoom, f_tableBase, f_receiptBase, f_openChain, f_receiptChain, f_slotMask, f_indexMask, f_freeHead, f_freeCount, f_freeTableHead, f_freeTableCount, f_openCount, f_receiptCount, f_heldCount, a_memory, a_next, a_tableOf, a_tableNext, a_tags, a_sizes, a_outs, a_directs, a_writtens, a_heads, a_tails, a_held, a_slots, a_unpublished, a_index, a_unchecked, a_seen, a_event, a_state, a_pending) => post (f_ringRoom, f_tableBase, f_receiptBase, f_openChain, f_receiptChain, f_slotMask, f_indexMask, f_freeHead, f_freeCount, f_freeTableHead, f_freeTableCount, f_openCount, f_receiptCount, f_heldCount, a_memory, a_next, a_tableOf, a_tableNext, a_tags, a_sizes, a_outs, a_directs, a_writtens, a_heads, a_tails, a_held, a_slots, a_unpublished, a_index, a_unchecked, a_seen, a_event, a_state, a_pending)) (f_ringRoom, f_tableBase, f_receiptBase, f_openChain, f_receiptChain, f_slotMask, f_indexMask, f_freeHead, f_freeCount, f_freeTableHead, f_freeTableCount, f_openCount, 1, f_heldCount, me, a_next, a_tableOf, a_tableNext, upd a_tags 17 (a_tags x), upd a_sizes 17 (a_sizes x), upd a_outs 17 (a_outs x), upd a_directs 17 (a_directs x), upd a_writtens 17 (a_writtens x), upd (upd a_heads 17 (a_heads x)) 17 48, upd a_tails 17 (a_tails x), a_held, a_slots, a_unpublished, a_index, a_unchecked, a_seen, a_event, a_state, a_pending) (nI x)) :
    ∀ (n i : Nat) (a_memory : Nat → Int32) (x3 : Int32), i ≤ sc → (i < sc → x3 = nI (g i)) → sc - i < n → (∀ j, j < i → a_memory (48 + j) = me0 (g j)) → (∀ p, p < 48 → a_memory p = me0 p) →
      wX_receive_21 post (nI x) (nI sc) f_ringRoom f_tableBase f_receiptBase f_openChain f_receiptChain f_slotMask f_indexMask f_freeHead f_freeCount f_freeTableHead f_freeTableCount f_openCount f_receiptCount f_heldCount n x3 (nI i) a_memory a_next a_tableOf a_tableNext a_tags a_sizes a_outs a_directs a_writtens a_heads a_tails a_held a_slots a_unpublished a_index a_unchecked a_seen a_event a_state a_pending := by
  intro n
  induction n with
  | zero => intro i me x3 _ _ h; omega
  | succ n ih =>
    intro i me x3 hi ex hn m1 m2
    by_cases e : i = sc
    · subst e
      refine br_t (nI_le (Nat.le_refl _) (by omega)) ?_
      refine vq_x_copy (y := 17) (by omega) (by omega) ?_
      intro hs ehs
      rw [ehs]
      exact hp me m1 m2
    · have hgi := hg i (by omega)
      rw [ex (by omega)]
      refine br_f (nI_ge (by omega) (by omega)) ⟨vp_in_nI (by omega) (by decide), ?_⟩
      have e48 : (48 : Int32) + nI i = nI (48 + i) := nI_add 48 i
      rw [e48]
      refine ⟨vp_in_nI (by omega) (by decide), ?_⟩
      intro me2 em2
      rw [nI_clamp (by omega), nI_clamp (by omega)] at em2
      refine vq_x_aft ?_
      intro x4 e4
      rw [e4, nI_1]
      refine ih (i + 1) me2 _ (by omega) (fun hlt => hw.2.1 i hlt) (by omega) ?_ ?_
      · intro j hj
        rw [em2]
        by_cases ej : j = i
        · rw [ej, pk_us, m2 _ hgi]
        · rw [pk_un (by omega)]
          exact m1 j (by omega)
      · intro p hp48
        rw [em2, pk_un (by omega)]
        exact m2 p hp48
end vq_ST
end
section
/-! the component takes an entry -/
section vq_TK
variable {f_ringRoom f_tableBase f_receiptBase f_openChain f_receiptChain f_slotMask f_indexMask f_freeHead f_freeCount f_freeTableHead f_freeTableCount f_openCount f_receiptCount f_heldCount : Int32} {a_memory a_next a_tableOf a_tableNext a_tags a_sizes a_outs a_directs a_writtens a_heads a_tails a_held a_slots a_unpublished a_index a_unchecked a_seen a_event a_state a_pending : Nat → Int32} {N M TT : Nat} {L D T : Nat → List Nat}
theorem vq_x_take1 {post : Int32 → SX → Prop} {c n w : Nat} {W U : List Nat} (hN : vq_N N M TT) (eN : f_slotMask = nI (N - 1)) (eM : f_indexMask = nI (M - 1)) (r0 : vq_rg N M D a_slots 0 (a_seen 1) (a_index 0) (a_unpublished 0) (c :: W) U) (h3 : f_heldCount = nI n) (hn : n < 16) (hw : 0 < w) (hwb : w < 2 ^ 31)
    (hp : vq_rg N M D a_slots 0 ((a_seen 1 + 1) &&& nI (M - 1)) (a_index 0) (a_unpublished 0) W U →
      post 1 (f_ringRoom, f_tableBase, f_receiptBase, f_openChain, f_receiptChain, f_slotMask, f_indexMask, f_freeHead, f_freeCount, f_freeTableHead, f_freeTableCount, f_openCount, f_receiptCount, nI (n + 1), a_memory, a_next, a_tableOf, a_tableNext, a_tags, a_sizes, a_outs, a_directs, a_writtens, a_heads, a_tails, upd a_held n (nI ((D c).headD 0)), a_slots, a_unpublished, a_index, a_unchecked, upd a_seen 1 ((a_seen 1 + 1) &&& nI (M - 1)), a_event, a_state, a_pending)) :
    wpX_poll (fun r u => match u with | (f_ringRoom, f_tableBase, f_receiptBase, f_openChain, f_receiptChain, f_slotMask, f_indexMask, f_freeHead, f_freeCount, f_freeTableHead, f_freeTableCount, f_openCount, f_receiptCount, f_heldCount, a_memory, a_next, a_tableOf, a_tableNext, a_tags, a_sizes, a_outs, a_directs, a_writtens, a_heads, a_tails, a_held, a_slots, a_unpublished, a_index, a_unchecked, a_seen, a_event, a_state, a_pending) => post r (f_ringRoom, f_tableBase, f_receiptBase, f_openChain, f_receiptChain, f_slotMask, f_indexMask, f_freeHead, f_freeCount, f_freeTableHead, f_freeTableCount, f_openCount, f_receiptCount, f_heldCount, a_memory, a_next, a_tableOf, a_tableNext, a_tags, a_sizes, a_outs, a_directs, a_writtens, a_heads, a_tails, a_held, a_slots, a_unpublished, a_index, a_unchecked, a_seen, a_event, a_state, a_pending)) (f_ringRoom, f_tableBase, f_receiptBase, f_openChain, f_receiptChain, f_slotMask, f_indexMask, f_freeHead, f_freeCount, f_freeTableHead, f_freeTableCount, f_openCount, f_receiptCount, f_heldCount, a_memory, a_next, a_tableOf, a_tableNext, a_tags, a_sizes, a_outs, a_directs, a_writtens, a_heads, a_tails, a_held, a_slots, a_unpublished, a_index, a_unchecked, a_seen, a_event, a_state, a_pending) 1 (nI w) := by
  obtain ⟨j, hj, ej, ev, rg'⟩ := vq_rg_take hN r0
  have hN16 : N ≤ 16 := by have := hN.1; omega
  have is : vp_in (1 : Int32) 2 := vp_in_nI (n := 1) (by omega) (by decide)
  refine br_f (nI_ne0 hw hwb) ⟨is, ?_⟩
  have key : ((1 : Int32) - 1) * 16 + (a_seen (1 : Int32).toNatClampNeg &&& f_slotMask) = nI (0 + j) := by
    rw [eN]
    show (0 : Int32) * 16 + (a_seen 1 &&& nI (N - 1)) = _
    rw [ej]
    exact nI_add 0 j
  refine ⟨?_, ?_⟩
  · show vp_in (((1 : Int32) - 1) * 16 + (a_seen (1 : Int32).toNatClampNeg &&& f_slotMask)) 32
    rw [key]
    exact vp_in_nI (by omega) (by decide)
  intro x4 e4
  replace e4 : x4 = a_slots (((1 : Int32) - 1) * 16 + (a_seen (1 : Int32).toNatClampNeg &&& f_slotMask)).toNatClampNeg := e4
  rw [key, nI_clamp (by omega), ev] at e4
  refine ⟨is, is, ?_⟩
  intro se ese
  refine br_t rfl ⟨by rw [h3]; exact vp_in_nI hn (by decide), ?_⟩
  intro he ehe hc ehc
  rw [h3, nI_clamp (by omega), e4] at ehe
  rw [h3, nI_1] at ehc
  replace ese : se = upd a_seen 1 ((a_seen 1 + 1) &&& nI (M - 1)) := by rw [← eM]; exact ese
  rw [ehe, ehc, ese]
  exact hp rg'
theorem vq_x_take0 {post : Int32 → SX → Prop} {dY : Nat → Int32} {c sc w : Nat} {W U : List Nat} (hN : vq_N N M TT) (eN : f_slotMask = nI (N - 1)) (eM : f_indexMask = nI (M - 1)) (r1 : vq_rg N M D a_slots 16 (a_seen 0) (a_index 1) (a_unpublished 1) (c :: W) U) (hw : 0 < w) (hwb : w < 2 ^ 31)
    (hc : c < 18) (hne : D c ≠ []) (g3 : vq_G3 a_next a_tableNext D T N TT) (g4 : vq_G4 f_freeHead f_freeCount f_freeTableHead f_freeTableCount D T)
    (hk : vq_lnk a_heads a_tails a_tableOf dY (D c) (T c) ((D c).headD 0) c sc) (hd : a_directs ((D c).headD 0) = dY c) (hs : a_sizes ((D c).headD 0) = nI sc) (h8 : sc ≤ 8)
    (hp : vq_rg N M D a_slots 16 ((a_seen 0 + 1) &&& nI (M - 1)) (a_index 1) (a_unpublished 1) W U →
      ∀ (x : Nat) (me nx tn : Nat → Int32) (fh fc th tc : Int32), x = (D c).headD 0 → (∀ j, j < sc → me (48 + j) = a_memory (vq_pl (D c) (T c) j)) → (∀ p, p < 48 → me p = a_memory p) → vq_G3 nx tn (vq_rl D c) (vq_rl T c) N TT → vq_G4 fh fc th tc (vq_rl D c) (vq_rl T c) →
      post 1 (f_ringRoom, f_tableBase, f_receiptBase, f_openChain, f_receiptChain, f_slotMask, f_indexMask, fh, fc, th, tc, f_openCount, 1, f_heldCount, me, nx, a_tableOf, tn, upd a_tags 17 (a_tags x), upd a_sizes 17 (a_sizes x), upd a_outs 17 (a_outs x), upd a_directs 17 (a_directs x), upd a_writtens 17 (a_writtens x), upd (upd a_heads 17 (a_heads x)) 17 48, upd a_tails 17 (a_tails x), a_held, a_slots, a_unpublished, a_index, a_unchecked, upd a_seen 0 ((a_seen 0 + 1) &&& nI (M - 1)), a_event, a_state, a_pending)) :
    wpX_poll (fun r u => match u with | (f_ringRoom, f_tableBase, f_receiptBase, f_openChain, f_receiptChain, f_slotMask, f_indexMask, f_freeHead, f_freeCount, f_freeTableHead, f_freeTableCount, f_openCount, f_receiptCount, f_heldCount, a_memory, a_next, a_tableOf, a_tableNext, a_tags, a_sizes, a_outs, a_directs, a_writtens, a_heads, a_tails, a_held, a_slots, a_unpublished, a_index, a_unchecked, a_seen, a_event, a_state, a_pending) => post r (f_ringRoom, f_tableBase, f_receiptBase, f_openChain, f_receiptChain, f_slotMask, f_indexMask, f_freeHead, f_freeCount, f_freeTableHead, f_freeTableCount, f_openCount, f_receiptCount, f_heldCount, a_memory, a_next, a_tableOf, a_tableNext, a_tags, a_sizes, a_outs, a_directs, a_writtens, a_heads, a_tails, a_held, a_slots, a_unpublished, a_index, a_unchecked, a_seen, a_event, a_state, a_pending)) (f_ringRoom, f_tableBase, f_receiptBase, f_openChain, f_receiptChain, f_slotMask, f_indexMask, f_freeHead, f_freeCount, f_freeTableHead, f_freeTableCount, f_openCount, f_receiptCount, f_heldCount, a_memory, a_next, a_tableOf, a_tableNext, a_tags, a_sizes, a_outs, a_directs, a_writtens, a_heads, a_tails, a_held, a_slots, a_unpublished, a_index, a_unchecked, a_seen, a_event, a_state, a_pending) 0 (nI w) := by
  obtain ⟨j, hj, ej, ev, rg'⟩ := vq_rg_take hN r1
  have hN16 : N ≤ 16 := by have := hN.1; omega
  have is : vp_in (0 : Int32) 2 := vp_in_nI (n := 0) (by omega) (by decide)
  have hD := g3.1.2.1 c
  have hT5 : ∀ t, t ∈ T c → t < 5 := fun t ht => by have := g3.2.1.2.1 c t ht; omega
  have hx16 := hD _ (vq_hdm hne)
  obtain ⟨x, ex⟩ : ∃ x, x = (D c).headD 0 := ⟨_, rfl⟩
  rw [← ex] at hk hd hs hx16 ev
  have ix : vp_in (nI x) 18 := vp_in_nI (by omega) (by decide)
  have cx : (nI x).toNatClampNeg = x := nI_clamp (by omega)
  have hwk : vq_wk a_next a_tableOf (a_heads x) (vq_pl (D c) (T c)) sc := vq_wk_live (vq_shape0 hk.1) h8 hD hT5 hk.2.2.2.2 (g3.1.2.2.2 c) hne hk.2.2.1
  have hg48 : ∀ i, i < sc → vq_pl (D c) (T c) i < 48 := by
    intro i hi
    exact vq_PA_lt (a := 0) g3.1 g3.2.1 (by decide) (Or.inl (vq_pl_PL (vq_shape0 hk.1) h8 hi))
  refine br_f (nI_ne0 hw hwb) ⟨is, ?_⟩
  have key : ((1 : Int32) - 0) * 16 + (a_seen (0 : Int32).toNatClampNeg &&& f_slotMask) = nI (16 + j) := by
    rw [eN]
    show (1 : Int32) * 16 + (a_seen 0 &&& nI (N - 1)) = _
    rw [ej]
    exact nI_add 16 j
  refine ⟨?_, ?_⟩
  · show vp_in (((1 : Int32) - 0) * 16 + (a_seen (0 : Int32).toNatClampNeg &&& f_slotMask)) 32
    rw [key]
    exact vp_in_nI (by omega) (by decide)
  intro x4 e4
  replace e4 : x4 = a_slots (((1 : Int32) - 0) * 16 + (a_seen (0 : Int32).toNatClampNeg &&& f_slotMask)).toNatClampNeg := e4
  rw [key, nI_clamp (by omega), ev] at e4
  refine ⟨is, is, ?_⟩
  intro se ese
  refine br_f (by decide) ?_
  replace ese : se = upd a_seen 0 ((a_seen 0 + 1) &&& nI (M - 1)) := by rw [← eM]; exact ese
  rw [e4]
  refine ⟨ix, ?_⟩
  intro x2 e2
  rw [cx, hs] at e2
  refine ⟨ix, ?_⟩
  rw [cx, e2]
  refine vq_x_ent ?_
  refine ⟨sc + 1, ?_⟩
  refine vq_x_rcv_l (me0 := a_memory) hwk hg48 h8 (by omega) ?_ (sc + 1) 0 a_memory _ (by omega) (fun h => hwk.1 h) (by omega) (fun j hj => absurd hj (by omega)) (fun _ _ => rfl)
  intro me m1 m2
  have hx17 : x ≠ 17 := by omega
  refine vq_x_rel (dY := dY) (sc := sc) (c' := c) (by omega) hc g3 g4 (vq_lnk_fr hk ⟨by rw [pk_un hx17, pk_un hx17], pk_un hx17⟩ (fun _ _ => rfl) rfl) (by rw [pk_un hx17]; exact hd) (by rw [pk_un hx17]; exact hs) h8 ?_
  intro nx tn fh fc th tc g3' g4'
  rw [ese]
  exact hp rg' x me nx tn fh fc th tc ex m1 m2 g3' g4'
end vq_TK
end
section
/-! step -/
section vq_SV
variable {f_ringRoom f_tableBase f_receiptBase f_openChain f_receiptChain f_slotMask f_indexMask f_freeHead f_freeCount f_freeTableHead f_freeTableCount f_openCount f_receiptCount f_heldCount : Int32} {a_memory a_next a_tableOf a_tableNext a_tags a_sizes a_outs a_directs a_writtens a_heads a_tails a_held a_slots a_unpublished a_index a_unchecked a_seen a_event a_state a_pending : Nat → Int32} {g_clock : Int64} {g_descriptors g_modulus g_allTables : Int32} {b_since : Nat → Int64} {b_at b_tags b_size b_direct b_written b_values b_kinds b_state b_pending b_index b_event b_unchecked : Nat → Int32} {N M TT : Nat} {L D T : Nat → List Nat} {o sz : Nat → Nat}
theorem vq_fin0 {k c x : Nat} {W : List Nat} {me nx tn : Nat → Int32} {fh fc th tc : Int32} {at2 : Nat → Int32} {si2 : Nat → Int64} {clk2 : Int64} {L2 : Nat → List Nat}
    (g1 : vq_G1 N M TT f_slotMask f_indexMask g_descriptors g_modulus g_allTables) (g3 : vq_G3 a_next a_tableNext D T N TT) (g5 : vq_G5 f_openCount f_receiptCount L)
    (g6 : vq_G6 b_at a_memory a_tableOf a_tags a_sizes a_outs a_directs a_writtens a_heads a_tails b_tags b_size b_direct b_written b_values b_kinds D T o sz)
    (g7 : vq_G7 f_heldCount a_held L D) (g8 : vq_G8 N M D L a_slots a_seen a_index a_unpublished) (g9 : vq_G9 M a_state a_pending a_index a_event a_unchecked b_state b_pending b_index b_event b_unchecked)
    (hc : c < 18) (hsub : vq_sub (b_at c)) (ex : x = (D c).headD 0)
    (rg' : vq_rg N M D a_slots 16 ((a_seen 0 + 1) &&& nI (M - 1)) (a_index 1) (a_unpublished 1) W (L 4))
    (m1 : ∀ j, j < sz c → me (48 + j) = a_memory (vq_pl (D c) (T c) j)) (m2 : ∀ p, p < 48 → me p = a_memory p) (g3' : vq_G3 nx tn (vq_rl D c) (vq_rl T c) N TT) (g4' : vq_G4 fh fc th tc (vq_rl D c) (vq_rl T c))
    (gL2 : vq_L at2 si2 clk2 L2 (5 * (k + 4))) (e5 : L2 5 = W) (e6 : L2 6 = [c]) (eq : ∀ q, q < 5 → L2 q = L q) (ec : at2 c = 6)
    (eo : ∀ c', c' < 18 → c' ≠ c → (at2 c' = b_at c' ∧ b_at c' ≠ 6) ∨ (at2 c' = -1 ∧ b_at c' = 6)) :
    i_Rel (k + 4) (f_ringRoom, f_tableBase, f_receiptBase, f_openChain, f_receiptChain, f_slotMask, f_indexMask, fh, fc, th, tc, f_openCount, 1, f_heldCount, me, nx, a_tableOf, tn, upd a_tags 17 (a_tags x), upd a_sizes 17 (a_sizes x), upd a_outs 17 (a_outs x), upd a_directs 17 (a_directs x), upd a_writtens 17 (a_writtens x), upd (upd a_heads 17 (a_heads x)) 17 48, upd a_tails 17 (a_tails x), a_held, a_slots, a_unpublished, a_index, a_unchecked, upd a_seen 0 ((a_seen 0 + 1) &&& nI (M - 1)), a_event, a_state, a_pending)
      (clk2, g_descriptors, g_modulus, g_allTables, at2, si2, b_tags, b_size, b_direct, b_written, b_values, b_kinds, b_state, b_pending, b_index, b_event, b_unchecked) := by
  have g7a : vq_G7 f_heldCount a_held L2 D := by
    unfold vq_G7
    rw [eq 3 (by omega)]
    exact g7
  have g8a : vq_G8 N M D L2 a_slots (upd a_seen 0 ((a_seen 0 + 1) &&& nI (M - 1))) a_index a_unpublished := by
    unfold vq_G8
    rw [eq 2 (by omega), eq 1 (by omega), eq 4 (by omega), e5, pk_un (by omega), pk_us]
    exact ⟨g8.1, rg'⟩
  obtain ⟨g7b, g8b⟩ := vq_g78 (D' := vq_rl D c) gL2 (Or.inr (Or.inl ec)) (fun c' h1 h2 => vq_rl_n (by omega) h2) g7a g8a
  have hc18 : c ≠ 18 := by omega
  refine ⟨N, M, TT, L2, vq_rl D c, vq_rl T c, o, sz, g1, gL2, g3', g4', ?_, ?_, g7b, g8b, g9⟩
  · unfold vq_G5
    rw [eq 0 (by omega), e6]
    exact ⟨g5.1, g5.2.1, rfl, Nat.le_refl _⟩
  · intro c' hc'
    by_cases e : c' = c
    · subst e
      obtain ⟨h1, hne, ⟨d1, d2, d3, d4, d5, d6⟩, hcel, hlnk⟩ := (g6 c' hc').2.2.2 hsub
      rw [← ex] at d1 d2 d4 d5 d6
      rw [ec, vq_rl_c hc18, vq_rl_c hc18]
      refine ⟨fun z => absurd z (by decide), fun _ => ⟨rfl, rfl, pk_us, ?_, ?_⟩, fun z => absurd z (by decide), fun z => absurd rfl (vq_subne z).2.2⟩
      · exact ⟨by rw [pk_us]; exact d1, by rw [pk_us]; exact d2, d3, by rw [pk_us]; exact d4, by rw [pk_us]; exact d5, by rw [pk_us]; exact d6⟩
      · refine ⟨hcel.1, hcel.2.1, fun i hi => ⟨?_, (hcel.2.2 i hi).2⟩⟩
        rw [vq_pl_4, m1 i hi]
        exact (hcel.2.2 i hi).1
    · rw [vq_rl_n (by omega) e, vq_rl_n (by omega) e]
      have hC := g6 c' hc'
      rcases eo c' hc' e with ⟨q1, q2⟩ | ⟨q1, q2⟩
      · rw [q1]
        refine vq_C1_fr hC ?_ ?_ (fun _ _ => rfl) ⟨rfl, rfl, rfl, rfl⟩ (fun _ _ => ⟨rfl, rfl⟩)
        · intro y hy
          have hn := vq_ne17 hy q2 (fun z => (hC.2.2.2 z).2.1) (g3.1.2.1 c')
          exact ⟨pk_un hn, pk_un hn, pk_un hn, pk_un hn, pk_un hn, by rw [pk_un hn, pk_un hn], pk_un hn⟩
        · intro p hp
          exact m2 p (vq_PA_lt g3.1 g3.2.1 q2 hp)
      · rw [q1]
        obtain ⟨z1, z2, _⟩ := hC.2.1 q2
        exact ⟨fun _ => ⟨z1, z2⟩, fun z => absurd z (by decide), fun z => absurd z (by decide), fun z => absurd rfl (vq_subne z).1⟩
end vq_SV
theorem i_vc_step {k : Nat} {u : SX} {v : SY} (I : i_Rel k u v) (hk : k + 4 ≤ 2052) (v1 : Int32) : wpX_step (fun r u' => wpY_step (fun r' v' => r' = r ∧ i_Rel (k + 4) u' v') v v1) u v1 := by
  refine vq_el (P := fun u v => wpX_step (fun r u' => wpY_step (fun r' v' => r' = r ∧ i_Rel (k + 4) u' v') v v1) u v1) I ?_
  intro f_ringRoom f_tableBase f_receiptBase f_openChain f_receiptChain f_slotMask f_indexMask f_freeHead f_freeCount f_freeTableHead f_freeTableCount f_openCount f_receiptCount f_heldCount a_memory a_next a_tableOf a_tableNext a_tags a_sizes a_outs a_directs a_writtens a_heads a_tails a_held a_slots a_unpublished a_index a_unchecked a_seen a_event a_state a_pending g_clock g_descriptors g_modulus g_allTables b_at b_since b_tags b_size b_direct b_written b_values b_kinds b_state b_pending b_index b_event b_unchecked N M TT L D T o sz g1 gL g3 g4 g5 g6 g7 g8 g9 hb
  have gg9 := g9
  obtain ⟨rfl, rfl, rfl, rfl, rfl, h9⟩ := g9
  have R : ∀ st ev : Nat → Int32, (∀ s, s < 2 → ∃ e, e < M ∧ ev s = nI e) → i_Rel (k + 4) (f_ringRoom, f_tableBase, f_receiptBase, f_openChain, f_receiptChain, f_slotMask, f_indexMask, f_freeHead, f_freeCount, f_freeTableHead, f_freeTableCount, f_openCount, f_receiptCount, f_heldCount, a_memory, a_next, a_tableOf, a_tableNext, a_tags, a_sizes, a_outs, a_directs, a_writtens, a_heads, a_tails, a_held, a_slots, a_unpublished, a_index, a_unchecked, a_seen, ev, st, a_pending) (g_clock, g_descriptors, g_modulus, g_allTables, b_at, b_since, b_tags, b_size, b_direct, b_written, b_values, b_kinds, st, a_pending, a_index, ev, a_unchecked) := fun st ev hev =>
    i_up ⟨N, M, TT, L, D, T, o, sz, g1, gL, g3, g4, g5, g6, g7, g8, rfl, rfl, rfl, rfl, rfl, fun s hs => ⟨hev s hs, (h9 s hs).2⟩⟩
  have hev0 : ∀ s, s < 2 → ∃ e, e < M ∧ a_event s = nI e := fun s hs => (h9 s hs).1
  have hN := g1.1
  have hM0 : 1 ≤ M := by have := hN.2.1; omega
  have hM256 : M ≤ 256 := by have := hN.2.1; omega
  have hN16 : N ≤ 16 := by have := hN.1; omega
  have h2N := hN.2.2.1
  rcases vq_side v1 with ⟨s, hs, rfl⟩ | ⟨h0, h1⟩
  · obtain ⟨q, hq⟩ : ∃ q, (s = 0 ∧ q = 5) ∨ (s = 1 ∧ q = 2) := by
      have : s = 0 ∨ s = 1 := by omega
      rcases this with h | h
      · exact ⟨5, Or.inl ⟨h, rfl⟩⟩
      · exact ⟨2, Or.inr ⟨h, rfl⟩⟩
    have hwN : (L q).length ≤ N := by
      rcases hq with ⟨_, h⟩ | ⟨_, h⟩ <;> rw [h] <;> omega
    obtain ⟨p, hp, eseen, eidx, ewait⟩ : ∃ p, p < M ∧ a_seen s = nI p ∧ a_index (1 - s) = nI ((p + (L q).length) % M) ∧ (a_index (1 - s) - a_seen s) &&& nI (M - 1) = nI (L q).length := by
      rcases hq with ⟨h1, h2⟩ | ⟨h1, h2⟩
      · subst h1 h2
        obtain ⟨p, r1, r2, r3, _⟩ := id g8.2
        exact ⟨p, r1, r2, r3, vq_rg_wait hN g8.2 (by omega)⟩
      · subst h1 h2
        obtain ⟨p, r1, r2, r3, _⟩ := id g8.1
        exact ⟨p, r1, r2, r3, vq_rg_wait hN g8.1 (by omega)⟩
    have fy : ∀ post : Int32 → SY → Prop, wY_step_20 post (nI s) (nI q) g_clock g_descriptors g_modulus g_allTables b_at b_since b_tags b_size b_direct b_written b_values b_kinds a_state a_pending a_index a_event a_unchecked → wpY_step post (g_clock, g_descriptors, g_modulus, g_allTables, b_at, b_since, b_tags, b_size, b_direct, b_written, b_values, b_kinds, a_state, a_pending, a_index, a_event, a_unchecked) (nI s) := by
      intro post h
      rcases hq with ⟨h1, h2⟩ | ⟨h1, h2⟩
      · subst h1 h2
        exact br_t rfl (br_t rfl h)
      · subst h1 h2
        exact br_f (by decide) (br_t rfl (br_f (by decide) h))
    have ys := fun post : Int32 → SY → Prop => vq_y_s20 (post := post) (g_descriptors := g_descriptors) (g_allTables := g_allTables) (b_tags := b_tags) (b_size := b_size) (b_direct := b_direct) (b_written := b_written) (b_values := b_values) (b_kinds := b_kinds) (b_state := a_state) (b_pending := a_pending) (b_event := a_event) (b_unchecked := a_unchecked) gL hs (by omega : q < 7) rfl hM256 hp (by omega) g1.2.2.2.2.1 eidx
    refine vq_x_step hs (by rw [g1.2.2.1]; exact ewait) (by omega) ?_ ?_ ?_ ?_ ?_
    · intro z0 z1 z2
      exact fy _ (ys _ (fun _ _ _ => ⟨rfl, R _ _ hev0⟩) (fun z => absurd z z0) (fun z => z0 z.1) (fun z => absurd z z1) (fun z => absurd z z2) (fun z => absurd z z2))
    · intro z0
      by_cases hw : (L q).length = 0
      · refine br_t (by rw [hw]; rfl) ⟨vp_in_nI hs (by decide), ?_⟩
        intro st est
        rw [nI_clamp (by omega)] at est
        rw [est]
        exact fy _ (ys _ (fun z => absurd z0 z) (fun _ _ => ⟨rfl, R _ _ hev0⟩) (fun z => absurd z.2 (by omega)) (fun z => absurd (z0.symm.trans z) (by decide)) (fun z => absurd (z0.symm.trans z) (by decide)) (fun z => absurd (z0.symm.trans z) (by decide)))
      · obtain ⟨c, W, hW⟩ : ∃ c W, L q = c :: W := by
          cases h : L q with
          | nil => rw [h] at hw; exact absurd rfl hw
          | cons c W => exact ⟨c, W, rfl⟩
        have hi0 : (L q)[0]? = some c := by rw [hW]; rfl
        obtain ⟨hc, hac⟩ := vq_L_at gL (by omega) hi0
        rcases hq with ⟨h1, h2⟩ | ⟨h1, h2⟩
        · subst h1 h2
          have hsub : vq_sub (b_at c) := ⟨5, by omega, by omega, hac⟩
          obtain ⟨z1, hne, hdat, hcel, hlnk⟩ := (g6 c hc).2.2.2 hsub
          have r1 := g8.2
          rw [hW] at r1
          refine vq_x_take0 (post := fun r u' => wpY_step (fun r' v' => r' = r ∧ i_Rel (k + 4) u' v') (g_clock, g_descriptors, g_modulus, g_allTables, b_at, b_since, b_tags, b_size, b_direct, b_written, b_values, b_kinds, a_state, a_pending, a_index, a_event, a_unchecked) (nI 0)) (w := (L 5).length) (dY := b_direct) hN g1.2.1 g1.2.2.1 r1 (by omega) (by omega) hc hne g3 g4 hlnk hdat.2.2.2.2.1 hdat.2.1 hcel.2.1 ?_
          intro rg' x me nx tn fh fc th tc ex m1 m2 g3' g4'
          refine fy _ (vq_y_take0 gL hW z0 ?_ ?_)
          · intro h6
            have gL2 := vq_L_mv (q := 5) (q' := 6) gL (by omega) (by omega) (by omega) (by omega) hi0
            refine ⟨rfl, vq_fin0 g1 g3 g5 g6 g7 g8 gg9 hc hsub ex rg' m1 m2 g3' g4' (vq_L_up gL2 (by omega)) ?_ ?_ ?_ pk_us ?_⟩
            · rw [vq_gsn (by omega), vq_gss, hW]; rfl
            · rw [vq_gss, h6]; rfl
            · intro q hq
              rw [vq_gsn (by omega), vq_gsn (by omega)]
            · intro c' hc' hne'
              left
              refine ⟨pk_un hne', ?_⟩
              intro z
              have := (gL.2.1 6 (by omega) c').mpr ⟨hc', z⟩
              rw [h6] at this
              exact absurd this List.not_mem_nil
          · intro f l h6
            have hl0 : l = [] := by
              have := g5.2.2.2
              rw [h6, List.length_cons] at this
              exact List.eq_nil_of_length_eq_zero (by omega)
            subst hl0
            have hi6 : (L 6)[0]? = some f := by rw [h6]; rfl
            obtain ⟨hf, haf⟩ := vq_L_at gL (by omega) hi6
            have gL1 := vq_L_rem (q := 6) gL (by omega) hi6
            have hi1 : (vq_gs L 6 ((L 6).eraseIdx 0) 5)[0]? = some c := by rw [vq_gsn (by omega)]; exact hi0
            have gL2 := vq_L_mv (q := 5) (q' := 6) gL1 (by omega) (by omega) (by omega) (by omega) hi1
            have hfc : f ≠ c := by
              intro z
              rw [z, hac] at haf
              exact absurd haf (by decide)
            refine ⟨rfl, vq_fin0 g1 g3 g5 g6 g7 g8 gg9 hc hsub ex rg' m1 m2 g3' g4' (vq_L_up gL2 (by omega)) ?_ ?_ ?_ pk_us ?_⟩
            · rw [vq_gsn (by omega), vq_gss, vq_gsn (by omega), hW]; rfl
            · rw [vq_gss, vq_gss, h6]; rfl
            · intro q hq
              rw [vq_gsn (by omega), vq_gsn (by omega), vq_gsn (by omega)]
            · intro c' hc' hne'
              rw [pk_un hne']
              by_cases z : c' = f
              · right
                rw [z, pk_us]
                exact ⟨rfl, haf⟩
              · left
                refine ⟨pk_un z, ?_⟩
                intro y
                have := (gL.2.1 6 (by omega) c').mpr ⟨hc', y⟩
                rw [h6, List.mem_singleton] at this
                exact z this
        · subst h1 h2
          have hsub : vq_sub (b_at c) := ⟨2, by omega, by omega, hac⟩
          have r0 := g8.1
          rw [hW] at r0
          have hlen : (L 2).length = W.length + 1 := by rw [hW]; rfl
          refine vq_x_take1 (post := fun r u' => wpY_step (fun r' v' => r' = r ∧ i_Rel (k + 4) u' v') (g_clock, g_descriptors, g_modulus, g_allTables, b_at, b_since, b_tags, b_size, b_direct, b_written, b_values, b_kinds, a_state, a_pending, a_index, a_event, a_unchecked) (nI 1)) (w := (L 2).length) (n := (L 3).length) hN g1.2.1 g1.2.2.1 r0 g7.1 (by omega) (by omega) (by omega) ?_
          intro rg'
          refine fy _ (vq_y_take1 gL hW z0 ?_)
          have gL2 := vq_L_mv (q := 2) (q' := 3) gL (by omega) (by omega) (by omega) (by omega) hi0
          refine ⟨rfl, N, M, TT, vq_gs (vq_gs L 2 ((L 2).eraseIdx 0)) 3 (L 3 ++ [c]), D, T, o, sz, g1, vq_L_up gL2 (by omega), g3, g4, ?_, ?_, ?_, ?_, rfl, rfl, rfl, rfl, rfl, h9⟩
          · unfold vq_G5
            rw [vq_gsn (by omega), vq_gsn (by omega), vq_gsn (by omega), vq_gsn (by omega)]
            exact g5
          · intro c' hc'
            by_cases ec : c' = c
            · rw [ec, pk_us]
              exact vq_C1_sub (g6 c hc) hsub ⟨3, by omega, by omega, rfl⟩
            · rw [pk_un ec]
              exact g6 c' hc'
          · unfold vq_G7
            rw [vq_gss]
            refine ⟨by rw [List.length_append, List.length_singleton], ?_⟩
            intro i c' hi
            have hil := (List.getElem?_eq_some_iff.mp hi).1
            rw [List.length_append, List.length_singleton] at hil
            by_cases ei : i = (L 3).length
            · rw [List.getElem?_append_right (by omega), show i - (L 3).length = 0 by omega] at hi
              have : c = c' := by simpa using hi
              rw [ei, pk_us, this]
            · rw [List.getElem?_append_left (by omega)] at hi
              rw [pk_un ei]
              exact g7.2 i c' hi
          · unfold vq_G8
            rw [vq_gsn (by omega), vq_gss, vq_gsn (by omega), vq_gsn (by omega), vq_gsn (by omega), vq_gsn (by omega), vq_gsn (by omega), vq_gsn (by omega), pk_us, pk_un (by omega), hW]
            exact ⟨rg', g8.2⟩
    · intro z1
      have z0 : ¬ a_state s = 0 := fun z => absurd (z1.symm.trans z) (by decide)
      have z2 : ¬ a_state s = 2 := fun z => absurd (z1.symm.trans z) (by decide)
      rw [eseen]
      refine fy _ (ys _ (fun _ z => absurd z1 z) (fun z => absurd z z0) (fun z => z0 z.1) (fun _ => ⟨rfl, R _ _ ?_⟩) (fun z => absurd z z2) (fun z => absurd z z2))
      intro s' hs'
      by_cases z : s' = s
      · rw [z, pk_us]; exact ⟨p, hp, rfl⟩
      · rw [pk_un z]; exact hev0 s' hs'
    · intro z2 hw
      have z0 : ¬ a_state s = 0 := fun z => absurd (z2.symm.trans z) (by decide)
      have z1 : ¬ a_state s = 1 := fun z => absurd (z2.symm.trans z) (by decide)
      exact fy _ (ys _ (fun _ _ z => absurd z2 z) (fun z => absurd z z0) (fun z => z0 z.1) (fun z => absurd z z1) (fun _ _ => ⟨rfl, R _ _ hev0⟩) (fun _ z => absurd z (by omega)))
    · intro z2 hw
      have z0 : ¬ a_state s = 0 := fun z => absurd (z2.symm.trans z) (by decide)
      have z1 : ¬ a_state s = 1 := fun z => absurd (z2.symm.trans z) (by decide)
      exact fy _ (ys _ (fun _ _ z => absurd z2 z) (fun z => absurd z z0) (fun z => z0 z.1) (fun z => absurd z z1) (fun _ z => absurd z (by omega)) (fun _ _ => ⟨rfl, R _ _ hev0⟩))
  · unfold wpX_step
    exact vq_x_side0 h0 h1 (br_t rfl (br_f h0 (br_f h1 ⟨rfl, R _ _ hev0⟩)))
end
section
/-! complete: the walks -/
def vq_fo (f : Nat → Int32) : Nat → Int32
  | 0 => 17
  | n + 1 => vq_fo f n * 31 + f n
theorem vq_fo_cg {f g : Nat → Int32} : ∀ n, (∀ i, i < n → f i = g i) → vq_fo f n = vq_fo g n := by
  intro n
  induction n with
  | zero => intro _; rfl
  | succ n ih =>
    intro h
    rw [vq_fo, vq_fo, ih (fun i hi => h i (by omega)), h n (by omega)]
def vq_nv (va : Nat → Int32) (b w : Nat) (F : Int32) : Nat → Int32 := fun p => if b ≤ p ∧ p < b + w then F + nI (p - b) else va p
theorem vq_nv_s {va : Nat → Int32} {b w : Nat} {F : Int32} : upd (vq_nv va b w F) (b + w) (F + nI w) = vq_nv va b (w + 1) F := by
  funext p
  by_cases e : p = b + w
  · rw [e, pk_us, vq_nv, if_pos (by omega), show b + w - b = w by omega]
  · rw [pk_un e, vq_nv, vq_nv]
    by_cases h : b ≤ p ∧ p < b + w
    · rw [if_pos h, if_pos (by omega)]
    · rw [if_neg h, if_neg (by omega)]
theorem vq_nv_0 {va : Nat → Int32} {b : Nat} {F : Int32} : vq_nv va b 0 F = va := by
  funext p
  rw [vq_nv, if_neg (by omega)]
def vq_ms (g : Nat → Nat) (me0 me : Nat → Int32) (F : Int32) (oc j sc : Nat) : Prop :=
  (∀ i, i < sc → me (g i) = if oc ≤ i ∧ i < oc + j then F + nI (i - oc) else me0 (g i)) ∧ ∀ p, (∀ i, i < sc → p ≠ g i) → me p = me0 p
section vq_CO
variable {f_ringRoom f_tableBase f_receiptBase f_openChain f_receiptChain f_slotMask f_indexMask f_freeHead f_freeCount f_freeTableHead f_freeTableCount f_openCount f_receiptCount f_heldCount : Int32} {a_memory a_next a_tableOf a_tableNext a_tags a_sizes a_outs a_directs a_writtens a_heads a_tails a_held a_slots a_unpublished a_index a_unchecked a_seen a_event a_state a_pending : Nat → Int32}
theorem vq_x_proc_b {post : SX → Prop} {h F : Int32} {g : Nat → Nat} {oc w sc : Nat} {me0 : Nat → Int32} (hw : vq_wk a_next a_tableOf h g sc) (hinj : ∀ i j, i < sc → j < sc → g i = g j → i = j) (h8 : sc ≤ 8) (how : oc + w ≤ sc)
    (hp : ∀ me : Nat → Int32, vq_ms g me0 me F oc w sc → post (f_ringRoom, f_tableBase, f_receiptBase, f_openChain, f_receiptChain, f_slotMask, f_indexMask, f_freeHead, f_freeCount, f_freeTableHead, f_freeTableCount, f_openCount, f_receiptCount, f_heldCount, me, a_next, a_tableOf, a_tableNext, a_tags, a_sizes, a_outs, a_directs, a_writtens, a_heads, a_tails, a_held, a_slots, a_unpublished, a_index, a_unchecked, a_seen, a_event, a_state, a_pending)) :
    ∀ (n j : Nat) (a_memory : Nat → Int32) (x4 : Int32), j ≤ w → (oc + j < sc → x4 = nI (g (oc + j))) → w - j < n → vq_ms g me0 a_memory F oc j sc → wX_process_64 post (nI w) F f_ringRoom f_tableBase f_receiptBase f_openChain f_receiptChain f_slotMask f_indexMask f_freeHead f_freeCount f_freeTableHead f_freeTableCount f_openCount f_receiptCount f_heldCount n x4 (nI j) a_memory a_next a_tableOf a_tableNext a_tags a_sizes a_outs a_directs a_writtens a_heads a_tails a_held a_slots a_unpublished a_index a_unchecked a_seen a_event a_state a_pending := by
  intro n
  induction n with
  | zero => intro j me x4 _ _ h; omega
  | succ n ih =>
    intro j me x4 hj ex hn hm
    by_cases e : j = w
    · subst e
      exact br_t (nI_le (Nat.le_refl _) (by omega)) (hp me hm)
    · have hg := hw.2.2 (oc + j) (by omega)
      rw [ex (by omega)]
      refine br_f (nI_ge (by omega) (by omega)) ⟨vp_in_nI hg (by decide), ?_⟩
      intro me2 em2
      rw [nI_clamp (by omega)] at em2
      refine vq_x_aft ?_
      intro x6 e6
      rw [e6, nI_1]
      refine ih (j + 1) me2 _ (by omega) (fun hlt => hw.2.1 (oc + j) hlt) (by omega) ⟨?_, ?_⟩
      · intro i hi
        rw [em2]
        by_cases ei : i = oc + j
        · rw [ei, pk_us, if_pos (by omega), show oc + j - oc = j by omega]
        · rw [pk_un (fun z => ei (hinj i (oc + j) hi (by omega) z)), hm.1 i hi]
          by_cases hc : oc ≤ i ∧ i < oc + j
          · rw [if_pos hc, if_pos (by omega)]
          · rw [if_neg hc, if_neg (by omega)]
      · intro p hpp
        rw [em2, pk_un (hpp (oc + j) (by omega))]
        exact hm.2 p hpp
theorem vq_x_proc_a {post : SX → Prop} {h : Int32} {g : Nat → Nat} {oc w sc : Nat} (hw : vq_wk a_next a_tableOf h g sc) (hinj : ∀ i j, i < sc → j < sc → g i = g j → i = j) (h8 : sc ≤ 8) (how : oc + w ≤ sc)
    (hp : ∀ me : Nat → Int32, vq_ms g a_memory me (vq_fo (fun j => a_memory (g j)) oc) oc w sc → post (f_ringRoom, f_tableBase, f_receiptBase, f_openChain, f_receiptChain, f_slotMask, f_indexMask, f_freeHead, f_freeCount, f_freeTableHead, f_freeTableCount, f_openCount, f_receiptCount, f_heldCount, me, a_next, a_tableOf, a_tableNext, a_tags, a_sizes, a_outs, a_directs, a_writtens, a_heads, a_tails, a_held, a_slots, a_unpublished, a_index, a_unchecked, a_seen, a_event, a_state, a_pending)) :
    ∀ (n i : Nat) (x4 : Int32), i ≤ oc → (i < sc → x4 = nI (g i)) → oc - i < n → wX_process_26 post (nI w) (nI oc) f_ringRoom f_tableBase f_receiptBase f_openChain f_receiptChain f_slotMask f_indexMask f_freeHead f_freeCount f_freeTableHead f_freeTableCount f_openCount f_receiptCount f_heldCount a_memory a_next a_tableOf a_tableNext a_tags a_sizes a_outs a_directs a_writtens a_heads a_tails a_held a_slots a_unpublished a_index a_unchecked a_seen a_event a_state a_pending n x4 (vq_fo (fun j => a_memory (g j)) i) (nI i) := by
  intro n
  induction n with
  | zero => intro i x4 _ _ h; omega
  | succ n ih =>
    intro i x4 hi ex hn
    by_cases e : i = oc
    · subst e
      refine br_t (nI_le (Nat.le_refl _) (by omega)) ⟨w + 1, ?_⟩
      refine vq_x_proc_b (me0 := a_memory) hw hinj h8 how hp (w + 1) 0 a_memory x4 (by omega) (fun hlt => ex (by omega)) (by omega) ⟨?_, fun _ _ => rfl⟩
      intro i' hi'
      rw [if_neg (by omega)]
    · have hg := hw.2.2 i (by omega)
      rw [ex (by omega)]
      refine br_f (nI_ge (by omega) (by omega)) ⟨vp_in_nI hg (by decide), ?_⟩
      intro x5 e5
      rw [nI_clamp (by omega)] at e5
      refine vq_x_aft ?_
      intro x6 e6
      rw [e6, nI_1, e5]
      exact ih (i + 1) _ (by omega) (fun hlt => hw.2.1 i hlt) (by omega)
theorem vq_x_proc {post : SX → Prop} {g : Nat → Nat} {x oc w sc : Nat} (hx : x < 18) (ho : a_outs x = nI oc) (hw : vq_wk a_next a_tableOf (a_heads x) g sc) (hinj : ∀ i j, i < sc → j < sc → g i = g j → i = j) (h8 : sc ≤ 8) (how : oc + w ≤ sc)
    (hp : ∀ me : Nat → Int32, vq_ms g a_memory me (vq_fo (fun j => a_memory (g j)) oc) oc w sc → post (f_ringRoom, f_tableBase, f_receiptBase, f_openChain, f_receiptChain, f_slotMask, f_indexMask, f_freeHead, f_freeCount, f_freeTableHead, f_freeTableCount, f_openCount, f_receiptCount, f_heldCount, me, a_next, a_tableOf, a_tableNext, a_tags, a_sizes, a_outs, a_directs, a_writtens, a_heads, a_tails, a_held, a_slots, a_unpublished, a_index, a_unchecked, a_seen, a_event, a_state, a_pending)) : wpX_process post (f_ringRoom, f_tableBase, f_receiptBase, f_openChain, f_receiptChain, f_slotMask, f_indexMask, f_freeHead, f_freeCount, f_freeTableHead, f_freeTableCount, f_openCount, f_receiptCount, f_heldCount, a_memory, a_next, a_tableOf, a_tableNext, a_tags, a_sizes, a_outs, a_directs, a_writtens, a_heads, a_tails, a_held, a_slots, a_unpublished, a_index, a_unchecked, a_seen, a_event, a_state, a_pending) (nI x) (nI w) := by
  have ix : vp_in (nI x) 18 := vp_in_nI hx (by decide)
  have cx : (nI x).toNatClampNeg = x := nI_clamp (by omega)
  refine ⟨ix, ?_⟩
  intro x3 e3
  rw [cx, ho] at e3
  refine ⟨ix, ?_⟩
  rw [cx, e3]
  refine vq_x_ent ⟨oc + 1, ?_⟩
  exact vq_x_proc_a hw hinj h8 how hp (oc + 1) 0 _ (by omega) (fun h => hw.1 h) (by omega)
theorem vq_x_rmh_l {post : SX → Prop} {m p : Nat} {h0 : Nat → Int32} (hm : m < 16) (em : f_heldCount = nI m)
    (hp : ∀ he : Nat → Int32, (∀ j, j < m → he j = if j < p then h0 j else h0 (j + 1)) → post (f_ringRoom, f_tableBase, f_receiptBase, f_openChain, f_receiptChain, f_slotMask, f_indexMask, f_freeHead, f_freeCount, f_freeTableHead, f_freeTableCount, f_openCount, f_receiptCount, f_heldCount, a_memory, a_next, a_tableOf, a_tableNext, a_tags, a_sizes, a_outs, a_directs, a_writtens, a_heads, a_tails, he, a_slots, a_unpublished, a_index, a_unchecked, a_seen, a_event, a_state, a_pending)) :
    ∀ (n i : Nat) (a_held : Nat → Int32), i ≤ m → p ≤ i → m - i < n → (∀ j, p ≤ j → j < i → a_held j = h0 (j + 1)) → (∀ j, j < p ∨ i ≤ j → a_held j = h0 j) → wX_removeHeld_12 post f_ringRoom f_tableBase f_receiptBase f_openChain f_receiptChain f_slotMask f_indexMask f_freeHead f_freeCount f_freeTableHead f_freeTableCount f_openCount f_receiptCount f_heldCount n (nI i) a_memory a_next a_tableOf a_tableNext a_tags a_sizes a_outs a_directs a_writtens a_heads a_tails a_held a_slots a_unpublished a_index a_unchecked a_seen a_event a_state a_pending := by
  intro n
  induction n with
  | zero => intro i he _ _ h; omega
  | succ n ih =>
    intro i he hi hpi hn m1 m2
    subst em
    by_cases e : i = m
    · subst e
      refine br_t (nI_le (Nat.le_refl _) (by omega)) (hp he ?_)
      intro j hj
      by_cases z : j < p
      · rw [if_pos z]; exact m2 j (Or.inl z)
      · rw [if_neg z]; exact m1 j (by omega) hj
    · refine br_f (nI_ge (by omega) (by omega)) ?_
      rw [nI_1]
      refine ⟨vp_in_nI (by omega) (by decide), vp_in_nI (by omega) (by decide), ?_⟩
      intro he2 ehe
      rw [nI_clamp (by omega), nI_clamp (by omega)] at ehe
      intro x2 e2
      rw [e2]
      refine ih (i + 1) he2 (by omega) (by omega) (by omega) ?_ ?_
      · intro j hj1 hj2
        rw [ehe]
        by_cases z : j = i
        · rw [z, pk_us]; exact m2 (i + 1) (Or.inr (by omega))
        · rw [pk_un z]; exact m1 j hj1 (by omega)
      · intro j hj
        rw [ehe, pk_un (by omega)]
        exact m2 j (by omega)
theorem vq_x_rmh {post : SX → Prop} {m p : Nat} (hm : m < 16) (em : f_heldCount = nI (m + 1)) (hpm : p ≤ m)
    (hp : ∀ he : Nat → Int32, (∀ j, j < m → he j = if j < p then a_held j else a_held (j + 1)) → post (f_ringRoom, f_tableBase, f_receiptBase, f_openChain, f_receiptChain, f_slotMask, f_indexMask, f_freeHead, f_freeCount, f_freeTableHead, f_freeTableCount, f_openCount, f_receiptCount, nI m, a_memory, a_next, a_tableOf, a_tableNext, a_tags, a_sizes, a_outs, a_directs, a_writtens, a_heads, a_tails, he, a_slots, a_unpublished, a_index, a_unchecked, a_seen, a_event, a_state, a_pending)) : wpX_removeHeld post (f_ringRoom, f_tableBase, f_receiptBase, f_openChain, f_receiptChain, f_slotMask, f_indexMask, f_freeHead, f_freeCount, f_freeTableHead, f_freeTableCount, f_openCount, f_receiptCount, f_heldCount, a_memory, a_next, a_tableOf, a_tableNext, a_tags, a_sizes, a_outs, a_directs, a_writtens, a_heads, a_tails, a_held, a_slots, a_unpublished, a_index, a_unchecked, a_seen, a_event, a_state, a_pending) (nI p) := by
  intro hc ehc
  rw [em, nI_pred] at ehc
  rw [ehc]
  exact ⟨m + 1, vq_x_rmh_l (h0 := a_held) hm rfl hp (m + 1) p a_held hpm (Nat.le_refl _) (by omega) (fun j h1 h2 => absurd h2 (by omega)) (fun _ _ => rfl)⟩
end vq_CO
section vq_CY
variable {g_clock : Int64} {g_descriptors g_modulus g_allTables : Int32} {b_since : Nat → Int64} {b_at b_tags b_size b_direct b_written b_values b_kinds b_state b_pending b_index b_event b_unchecked : Nat → Int32}
theorem vq_y_comp_b {post : Int32 → SY → Prop} {c oc sc w : Nat} {F : Int32} {va0 : Nat → Int32} (hc : c < 18) (hs : b_size c = nI sc) (h8 : sc ≤ 8) (how : oc + w ≤ sc) (hk : ∀ i, i < sc → b_kinds (c * 8 + i) = if i < oc then 0 else 1)
    (hp : post (nI w) (g_clock + 1, g_descriptors, g_modulus, g_allTables, upd b_at c 4, vp_updL b_since c (g_clock + 1), b_tags, b_size, b_direct, upd b_written c (nI w), vq_nv va0 (c * 8 + oc) w F, b_kinds, b_state, b_pending, b_index, b_event, b_unchecked)) :
    ∀ n i, oc ≤ i → i ≤ sc → sc - i < n → wY_complete_42 post (nI c) (nI w) g_clock g_descriptors g_modulus g_allTables n F (nI (vq_mn (i - oc) w)) (nI i) b_at b_since b_tags b_size b_direct b_written (vq_nv va0 (c * 8 + oc) (vq_mn (i - oc) w) F) b_kinds b_state b_pending b_index b_event b_unchecked := by
  have ic : vp_in (nI c) 18 := vp_in_nI hc (by decide)
  have cc : (nI c).toNatClampNeg = c := nI_clamp (by omega)
  intro n
  induction n with
  | zero => intro i _ _ h; omega
  | succ n ih =>
    intro i hoi hi hn
    refine ⟨ic, ?_⟩
    rw [cc, hs]
    by_cases e : i = sc
    · subst e
      refine br_t (nI_le (Nat.le_refl _) (by omega)) ⟨ic, ?_⟩
      intro wr ewr
      refine vq_y_move hc ?_
      rw [ewr]
      have e1 : vq_mn (i - oc) w = w := by unfold vq_mn; split <;> omega
      rw [e1]
      exact hp
    · refine br_f (nI_ge (by omega) (by omega)) ?_
      intro x9 e9
      have e9' : x9 = nI (c * 8 + i) := by rw [e9, show (8 : Int32) = nI 8 from rfl, pk_mul, nI_add]
      have ip : vp_in (nI (c * 8 + i)) 144 := vp_in_nI (by omega) (by decide)
      have cp : (nI (c * 8 + i)).toNatClampNeg = c * 8 + i := nI_clamp (by omega)
      rw [e9']
      refine ⟨ip, ?_⟩
      rw [cp, hk i (by omega), if_neg (by omega)]
      refine br_f (by decide) ?_
      have hmn : vq_mn (i - oc) w ≤ w := by unfold vq_mn; split <;> omega
      refine pk_le w (vq_mn (i - oc) w) (fun hle => ?_) (fun hlt => ⟨ip, ?_⟩)
      · intro x8 e8
        rw [e8, nI_1]
        have e1 : vq_mn (i + 1 - oc) w = vq_mn (i - oc) w := by
          revert hle hmn; unfold vq_mn; split <;> split <;> omega
        have := ih (i + 1) (by omega) (by omega) (by omega)
        rw [e1] at this
        exact this
      · intro va2 ev x7 e7 x8 e8
        have e0 : vq_mn (i - oc) w = i - oc := by
          revert hlt hmn; unfold vq_mn; split <;> omega
        have e1 : vq_mn (i + 1 - oc) w = i - oc + 1 := by
          rw [e0] at hlt
          unfold vq_mn; split <;> omega
        rw [e0] at ev e7
        have ev2 : va2 = vq_nv va0 (c * 8 + oc) (i - oc + 1) F := by
          rw [ev, ← vq_nv_s, show c * 8 + oc + (i - oc) = c * 8 + i by omega]
        rw [e7, e8, nI_1, nI_1, ev2]
        have := ih (i + 1) (by omega) (by omega) (by omega)
        rw [e1] at this
        exact this
theorem vq_y_comp_a {post : Int32 → SY → Prop} {c oc sc w : Nat} (hc : c < 18) (hs : b_size c = nI sc) (h8 : sc ≤ 8) (how : oc + w ≤ sc) (hk : ∀ i, i < sc → b_kinds (c * 8 + i) = if i < oc then 0 else 1)
    (hp : post (nI w) (g_clock + 1, g_descriptors, g_modulus, g_allTables, upd b_at c 4, vp_updL b_since c (g_clock + 1), b_tags, b_size, b_direct, upd b_written c (nI w), vq_nv b_values (c * 8 + oc) w (vq_fo (fun j => b_values (c * 8 + j)) oc), b_kinds, b_state, b_pending, b_index, b_event, b_unchecked)) :
    ∀ n i, i ≤ oc → sc - i < n → wY_complete_42 post (nI c) (nI w) g_clock g_descriptors g_modulus g_allTables n (vq_fo (fun j => b_values (c * 8 + j)) i) 0 (nI i) b_at b_since b_tags b_size b_direct b_written b_values b_kinds b_state b_pending b_index b_event b_unchecked := by
  have ic : vp_in (nI c) 18 := vp_in_nI hc (by decide)
  have cc : (nI c).toNatClampNeg = c := nI_clamp (by omega)
  intro n
  induction n with
  | zero => intro i _ h; omega
  | succ n ih =>
    intro i hi hn
    by_cases e : i = oc
    · subst e
      have := vq_y_comp_b (va0 := b_values) hc hs h8 how hk hp (n + 1) i (Nat.le_refl _) (by omega) hn
      have e1 : vq_mn (i - i) w = 0 := by unfold vq_mn; split <;> omega
      rw [e1, vq_nv_0] at this
      exact this
    · refine ⟨ic, ?_⟩
      rw [cc, hs]
      refine br_f (nI_ge (by omega) (by omega)) ?_
      intro x9 e9
      have e9' : x9 = nI (c * 8 + i) := by rw [e9, show (8 : Int32) = nI 8 from rfl, pk_mul, nI_add]
      have ip : vp_in (nI (c * 8 + i)) 144 := vp_in_nI (by omega) (by decide)
      have cp : (nI (c * 8 + i)).toNatClampNeg = c * 8 + i := nI_clamp (by omega)
      rw [e9']
      refine ⟨ip, ?_⟩
      rw [cp, hk i (by omega), if_pos (by omega)]
      refine br_t rfl ⟨ip, ?_⟩
      intro x6 e6 x8 e8
      rw [e6, e8, nI_1]
      exact ih (i + 1) (by omega) (by omega)
end vq_CY
end
section
/-! complete -/
theorem vq_cw (v : Int32) (s : Nat) (hs : s < 2 ^ 31) : ∃ w, w ≤ s ∧ (if (0 : Int32) ≤ v then (if v ≤ nI s then v else nI s) else 0) = nI w := by
  by_cases h0 : (0 : Int32) ≤ v
  · rw [if_pos h0]
    obtain ⟨j, hj, rfl⟩ := nI_of (Int32.not_lt.mpr h0)
    by_cases h1 : j ≤ s
    · rw [if_pos (nI_le h1 hs)]; exact ⟨j, h1, rfl⟩
    · rw [if_neg (nI_ge (by omega) hj)]; exact ⟨s, Nat.le_refl _, rfl⟩
  · rw [if_neg h0]; exact ⟨0, Nat.zero_le _, rfl⟩
theorem i_vc_complete {k : Nat} {u : SX} {v : SY} (I : i_Rel k u v) (hk : k + 4 ≤ 2052) (v1 : Int32) (v2 : Int32) : wpX_complete (fun r u' => wpY_complete (fun r' v' => r' = r ∧ i_Rel (k + 4) u' v') v v1 v2) u v1 v2 := by
  refine vq_el (P := fun u v => wpX_complete (fun r u' => wpY_complete (fun r' v' => r' = r ∧ i_Rel (k + 4) u' v') v v1 v2) u v1 v2) I ?_
  intro f_ringRoom f_tableBase f_receiptBase f_openChain f_receiptChain f_slotMask f_indexMask f_freeHead f_freeCount f_freeTableHead f_freeTableCount f_openCount f_receiptCount f_heldCount a_memory a_next a_tableOf a_tableNext a_tags a_sizes a_outs a_directs a_writtens a_heads a_tails a_held a_slots a_unpublished a_index a_unchecked a_seen a_event a_state a_pending g_clock g_descriptors g_modulus g_allTables b_at b_since b_tags b_size b_direct b_written b_values b_kinds b_state b_pending b_index b_event b_unchecked N M TT L D T o sz g1 gL g3 g4 g5 g6 g7 g8 g9 hb
  have R : i_Rel (k + 4) (f_ringRoom, f_tableBase, f_receiptBase, f_openChain, f_receiptChain, f_slotMask, f_indexMask, f_freeHead, f_freeCount, f_freeTableHead, f_freeTableCount, f_openCount, f_receiptCount, f_heldCount, a_memory, a_next, a_tableOf, a_tableNext, a_tags, a_sizes, a_outs, a_directs, a_writtens, a_heads, a_tails, a_held, a_slots, a_unpublished, a_index, a_unchecked, a_seen, a_event, a_state, a_pending) (g_clock, g_descriptors, g_modulus, g_allTables, b_at, b_since, b_tags, b_size, b_direct, b_written, b_values, b_kinds, b_state, b_pending, b_index, b_event, b_unchecked) := i_up ⟨N, M, TT, L, D, T, o, sz, g1, gL, g3, g4, g5, g6, g7, g8, g9⟩
  have hN16 : N ≤ 16 := by have := g1.1.1; omega
  unfold wpX_complete wpY_complete
  rcases vq_pos v1 (L 3) with ⟨i, c, hi, rfl⟩ | hno
  · have hil := (List.getElem?_eq_some_iff.mp hi).1
    obtain ⟨hc, hac⟩ := vq_L_at gL (by omega) hi
    have fy : ∀ P : Int32 → Prop, P (nI c) → wpY_find P (g_clock, g_descriptors, g_modulus, g_allTables, b_at, b_since, b_tags, b_size, b_direct, b_written, b_values, b_kinds, b_state, b_pending, b_index, b_event, b_unchecked) 3 (nI i) := by
      intro P hP
      refine vq_y_find (q := 3) gL (by omega) ?_ ?_
      · intro i' c' hi' e
        have hil' := (List.getElem?_eq_some_iff.mp hi').1
        have : i = i' := vq_inj e (by omega) (by omega)
        subst this
        rw [hi] at hi'
        rw [← Option.some.inj hi']
        exact hP
      · intro hno
        exact absurd rfl (hno i hil)
    have hsub : vq_sub (b_at c) := ⟨3, by omega, by omega, hac⟩
    obtain ⟨hs1, hne, hdat, hcel, hlnk⟩ := (g6 c hc).2.2.2 hsub
    have hD := g3.1.2.1 c
    have hT5 : ∀ t, t ∈ T c → t < 5 := fun t ht => by have := g3.2.1.2.1 c t ht; omega
    have hxm := vq_hdm hne
    obtain ⟨x, ex⟩ : ∃ x, x = (D c).headD 0 := ⟨_, rfl⟩
    rw [← ex] at hdat hlnk hxm
    have hx16 := hD _ hxm
    obtain ⟨d1, d2, d3, d4, d5, d6⟩ := id hdat
    obtain ⟨c1, c2, c3⟩ := id hcel
    have hsh := vq_shape0 hlnk.1
    have hwk : vq_wk a_next a_tableOf (a_heads x) (vq_pl (D c) (T c)) (sz c) := vq_wk_live hsh c2 hD hT5 hlnk.2.2.2.2 (g3.1.2.2.2 c) hne hlnk.2.2.1
    have hinj : ∀ i j, i < sz c → j < sz c → vq_pl (D c) (T c) i = vq_pl (D c) (T c) j → i = j := fun i j h1 h2 h3 => vq_pl_inj hsh (g3.1.1 c) hD h1 h2 h3
    have ix : vp_in (nI x) 18 := vp_in_nI (by omega) (by decide)
    have cx : (nI x).toNatClampNeg = x := nI_clamp (by omega)
    have eh := g7.2 i c hi
    rw [← ex] at eh
    obtain ⟨w, hw, ew⟩ := vq_cw v2 (sz c - o c) (by omega)
    refine br_f (nI_pos (by omega)) (br_t (by rw [g7.1]; exact nI_lt hil (by omega)) ⟨vp_in_nI (by omega) (by decide), ?_⟩)
    intro x3 e3
    rw [nI_clamp (by omega), eh] at e3
    rw [e3, cx, d2, d4, pk_sub c1]
    refine ⟨ix, ix, vq_x_clamp ?_⟩
    rw [ew]
    refine vq_x_proc (by omega) d4 hwk hinj c2 (by omega) ?_
    intro me hme
    refine ⟨ix, ?_⟩
    intro wr ewr
    have hm3 : (L 3).length = (L 3).length - 1 + 1 := by omega
    refine vq_x_rmh (m := (L 3).length - 1) (by omega) (by rw [← hm3]; exact g7.1) (by omega) ?_
    intro he hhe
    have gL2 := vq_L_mv (q := 3) (q' := 4) gL (by omega) (by omega) (by omega) (by omega) hi
    have hbd := vq_bnd (D := D) (N := N) gL2 (by
      intro c' hc' hs'
      by_cases ec : c' = c
      · rw [ec]; exact hne
      · rw [pk_un ec] at hs'
        exact ((g6 c' hc').2.2.2 hs').2.1) g3.2.2.1
    have q1 : vq_gs (vq_gs L 3 ((L 3).eraseIdx i)) 4 (L 4 ++ [c]) 1 = L 1 := by rw [vq_gsn (by omega), vq_gsn (by omega)]
    have q2 : vq_gs (vq_gs L 3 ((L 3).eraseIdx i)) 4 (L 4 ++ [c]) 2 = L 2 := by rw [vq_gsn (by omega), vq_gsn (by omega)]
    have q3 : vq_gs (vq_gs L 3 ((L 3).eraseIdx i)) 4 (L 4 ++ [c]) 3 = (L 3).eraseIdx i := by rw [vq_gsn (by omega), vq_gss]
    have q4 : vq_gs (vq_gs L 3 ((L 3).eraseIdx i)) 4 (L 4 ++ [c]) 4 = L 4 ++ [c] := vq_gss
    have q5 : vq_gs (vq_gs L 3 ((L 3).eraseIdx i)) 4 (L 4 ++ [c]) 5 = L 5 := by rw [vq_gsn (by omega), vq_gsn (by omega)]
    have q0 : vq_gs (vq_gs L 3 ((L 3).eraseIdx i)) 4 (L 4 ++ [c]) 0 = L 0 := by rw [vq_gsn (by omega), vq_gsn (by omega)]
    have q6 : vq_gs (vq_gs L 3 ((L 3).eraseIdx i)) 4 (L 4 ++ [c]) 6 = L 6 := by rw [vq_gsn (by omega), vq_gsn (by omega)]
    have hel : ((L 3).eraseIdx i).length = (L 3).length - 1 := List.length_eraseIdx_of_lt hil
    rw [q1, q2, q3, q4, q5, List.length_append, List.length_singleton] at hbd
    obtain ⟨j, hj, ej, rg1⟩ := vq_rg_push (c := c) g1.1 g8.2 (by omega)
    rw [← ex] at rg1
    refine vq_x_push (s := 1) (j := j) (by omega) (by rw [g1.2.1]; exact ej) (by omega) ?_
    refine fy _ (br_t (nI_pos' (by omega)) ?_)
    refine vq_y_ins hc d3 c2 (fun i hi => (c3 i hi).2) ?_
    refine vq_y_clamp ?_
    rw [ew]
    refine ⟨sz c + 1, ?_⟩
    refine vq_y_comp_a hc d3 c2 (by omega) (fun i hi => (c3 i hi).2) ?_ (sz c + 1) 0 (by omega) (by omega)
    refine ⟨rfl, ?_⟩
    have hF : vq_fo (fun j => a_memory (vq_pl (D c) (T c) j)) (o c) = vq_fo (fun j => b_values (c * 8 + j)) (o c) := vq_fo_cg _ (fun i hi => (c3 i (by omega)).1)
    rw [hF] at hme
    refine ⟨N, M, TT, vq_gs (vq_gs L 3 ((L 3).eraseIdx i)) 4 (L 4 ++ [c]), D, T, o, sz, g1, vq_L_up gL2 (by omega), g3, g4, ?_, ?_, ?_, ?_, g9⟩
    · unfold vq_G5
      rw [q0, q6]
      exact g5
    · intro c' hc'
      by_cases ec : c' = c
      · subst ec
        rw [pk_us]
        refine ⟨fun z => absurd z (by decide), fun z => absurd z (by decide), fun z => absurd z (by decide), fun _ => ⟨hs1, hne, ?_, ?_, ?_⟩⟩
        · rw [← ex]
          exact ⟨d1, d2, d3, d4, d5, by rw [ewr, pk_us, pk_us]⟩
        · refine ⟨c1, c2, fun i' hi' => ⟨?_, (c3 i' hi').2⟩⟩
          rw [hme.1 i' hi', vq_nv]
          by_cases hr : o c' ≤ i' ∧ i' < o c' + w
          · rw [if_pos hr, if_pos (by omega), show c' * 8 + i' - (c' * 8 + o c') = i' - o c' by omega]
          · rw [if_neg hr, if_neg (by omega)]
            exact (c3 i' hi').1
        · rw [← ex]
          exact hlnk
      · rw [pk_un ec]
        have hC := g6 c' hc'
        refine vq_C1_fr hC ?_ ?_ (fun _ _ => rfl) ⟨rfl, rfl, rfl, pk_un ec⟩ ?_
        · intro y hy
          have hn := vq_neD g3.1 hxm ec hy (fun z => (hC.2.2.2 z).2.1)
          exact ⟨rfl, rfl, rfl, rfl, by rw [ewr, pk_un hn], rfl, rfl⟩
        · intro p hp
          exact hme.2 p (fun i' hi' => vq_PA_ne g3.1 g3.2.1 ec (vq_pl_PL hsh c2 hi') hp)
        · intro i' hi'
          refine ⟨?_, rfl⟩
          rw [vq_nv, if_neg (by omega)]
    · unfold vq_G7
      rw [q3]
      refine ⟨by rw [hel], ?_⟩
      intro i' c' hi'
      have hil' := (List.getElem?_eq_some_iff.mp hi').1
      rw [hhe i' (by omega)]
      rw [List.getElem?_eraseIdx] at hi'
      by_cases z : i' < i
      · rw [if_pos z] at hi' ⊢
        exact g7.2 i' c' hi'
      · rw [if_neg z] at hi' ⊢
        exact g7.2 (i' + 1) c' hi'
    · unfold vq_G8
      rw [q1, q2, q4, q5]
      refine ⟨?_, ?_⟩
      · rw [pk_un (by omega)]
        exact vq_rg_sl g8.1 (fun j' hj' => pk_un (by omega)) (by omega)
      · rw [pk_us, show 1 * 16 + j = 16 + j by omega]
        exact rg1
  · have fy : wpY_complete (fun r' v' => r' = -9 ∧ i_Rel (k + 4) (f_ringRoom, f_tableBase, f_receiptBase, f_openChain, f_receiptChain, f_slotMask, f_indexMask, f_freeHead, f_freeCount, f_freeTableHead, f_freeTableCount, f_openCount, f_receiptCount, f_heldCount, a_memory, a_next, a_tableOf, a_tableNext, a_tags, a_sizes, a_outs, a_directs, a_writtens, a_heads, a_tails, a_held, a_slots, a_unpublished, a_index, a_unchecked, a_seen, a_event, a_state, a_pending) v') (g_clock, g_descriptors, g_modulus, g_allTables, b_at, b_since, b_tags, b_size, b_direct, b_written, b_values, b_kinds, b_state, b_pending, b_index, b_event, b_unchecked) v1 v2 := by
      unfold wpY_complete
      exact vq_y_find (q := 3) gL (by omega) (fun i c hi e => absurd e (hno i (List.getElem?_eq_some_iff.mp hi).1)) (fun _ => br_f (by decide) ⟨rfl, R⟩)
    refine br_c (fun _ => fy) (fun h => br_f ?_ fy)
    intro z
    obtain ⟨j, hj, rfl⟩ := nI_of h
    rw [g7.1, nI_ltI hj (by omega)] at z
    exact hno j z rfl
end
section
/-! the constructors -/
theorem vq_cl (v : Int32) {a b : Nat} (hab : a ≤ b) (hb : b < 2 ^ 31) : ∃ w, a ≤ w ∧ w ≤ b ∧ (if nI a ≤ v then (if v ≤ nI b then v else nI b) else nI a) = nI w := by
  by_cases h0 : nI a ≤ v
  · rw [if_pos h0]
    have h00 : ¬ v < 0 := Int32.not_lt.mpr (Int32.le_trans (nI_pos' (by omega)) h0)
    obtain ⟨j, hj, rfl⟩ := nI_of h00
    have haj := (nI_leI (by omega) hj).mp h0
    by_cases h1 : j ≤ b
    · rw [if_pos (nI_le h1 hb)]; exact ⟨j, haj, h1, rfl⟩
    · rw [if_neg (nI_ge (by omega) hj)]; exact ⟨b, hab, Nat.le_refl _, rfl⟩
  · rw [if_neg h0]; exact ⟨a, Nat.le_refl _, hab, rfl⟩
theorem vq_shl : ∀ s, s < 9 → (1 : Int32) <<< (nI s &&& 31) = nI (2 ^ s) := by decide
section vq_IN
variable {f_ringRoom f_tableBase f_receiptBase f_openChain f_receiptChain f_slotMask f_indexMask f_freeHead f_freeCount f_freeTableHead f_freeTableCount f_openCount f_receiptCount f_heldCount : Int32} {a_memory a_next a_tableOf a_tableNext a_tags a_sizes a_outs a_directs a_writtens a_heads a_tails a_held a_slots a_unpublished a_index a_unchecked a_seen a_event a_state a_pending : Nat → Int32}
theorem vq_x_lk44 {post : SX → Prop} {TT : Nat} (hT : TT ≤ 4) (eT : f_freeTableCount = nI TT)
    (hp : ∀ (tn : Nat → Int32) (th : Int32), (∀ t, t + 1 < TT → tn t = nI (t + 1)) → (0 < TT → th = 0) → post (f_ringRoom, f_tableBase, f_receiptBase, f_openChain, f_receiptChain, f_slotMask, f_indexMask, 0, f_freeCount, th, f_freeTableCount, f_openCount, f_receiptCount, f_heldCount, a_memory, a_next, a_tableOf, tn, a_tags, a_sizes, a_outs, a_directs, a_writtens, a_heads, a_tails, a_held, a_slots, a_unpublished, a_index, a_unchecked, a_seen, a_event, a_state, a_pending)) :
    ∀ (n i : Nat) (a_tableNext : Nat → Int32), i ≤ 4 → 4 - i < n → (∀ t, t < i → t + 1 < TT → a_tableNext t = nI (t + 1)) → wX_linkFreeLists_44 post f_ringRoom f_tableBase f_receiptBase f_openChain f_receiptChain f_slotMask f_indexMask f_freeHead f_freeCount f_freeTableHead f_freeTableCount f_openCount f_receiptCount f_heldCount n (nI i) a_memory a_next a_tableOf a_tableNext a_tags a_sizes a_outs a_directs a_writtens a_heads a_tails a_held a_slots a_unpublished a_index a_unchecked a_seen a_event a_state a_pending := by
  subst eT
  intro n
  induction n with
  | zero => intro i tn _ h; omega
  | succ n ih =>
    intro i tn hi hn hm
    by_cases e : i = 4
    · subst e
      refine br_t (nI_le (a := 4) (b := 4) (by omega) (by omega)) ?_
      refine pk_le TT 0 (fun h => hp tn _ (fun t ht => hm t (by omega) ht) (fun z => absurd z (by omega))) (fun h => hp tn _ (fun t ht => hm t (by omega) ht) (fun _ => rfl))
    · refine br_f (nI_ge (b := 4) (by omega) (by decide)) ?_
      rw [nI_1]
      refine pk_le TT (i + 1) (fun h => ⟨vp_in_nI (by omega) (by decide), ?_⟩) (fun h => ⟨vp_in_nI (by omega) (by decide), ?_⟩)
      · intro tn2 e2 x1 e1
        rw [nI_clamp (by omega)] at e2
        rw [e1]
        refine ih (i + 1) tn2 (by omega) (by omega) ?_
        intro t ht htT
        rw [e2, pk_un (by omega)]
        exact hm t (by omega) htT
      · intro tn2 e2 x1 e1
        rw [nI_clamp (by omega)] at e2
        rw [e1]
        refine ih (i + 1) tn2 (by omega) (by omega) ?_
        intro t ht htT
        rw [e2]
        by_cases z : t = i
        · rw [z, pk_us]
        · rw [pk_un z]
          exact hm t (by omega) htT
theorem vq_x_lk2 {post : SX → Prop} {N TT : Nat} (hT : TT ≤ 4) (eT : f_freeTableCount = nI TT) (hN : 1 ≤ N) (hN16 : N ≤ 16) (eN : f_slotMask = nI (N - 1))
    (hp : ∀ (nx tO tn : Nat → Int32) (th : Int32), (∀ d, d + 1 < N → nx d = nI (d + 1)) → (∀ t, t + 1 < TT → tn t = nI (t + 1)) → (0 < TT → th = 0) → post (f_ringRoom, f_tableBase, f_receiptBase, f_openChain, f_receiptChain, f_slotMask, f_indexMask, 0, f_freeCount, th, f_freeTableCount, f_openCount, f_receiptCount, f_heldCount, a_memory, nx, tO, tn, a_tags, a_sizes, a_outs, a_directs, a_writtens, a_heads, a_tails, a_held, a_slots, a_unpublished, a_index, a_unchecked, a_seen, a_event, a_state, a_pending)) :
    ∀ (n i : Nat) (a_next a_tableOf : Nat → Int32), i ≤ 16 → 16 - i < n → (∀ d, d < i → d + 1 < N → a_next d = nI (d + 1)) → wX_linkFreeLists_2 post f_ringRoom f_tableBase f_receiptBase f_openChain f_receiptChain f_slotMask f_indexMask f_freeHead f_freeCount f_freeTableHead f_freeTableCount f_openCount f_receiptCount f_heldCount n (nI i) a_memory a_next a_tableOf a_tableNext a_tags a_sizes a_outs a_directs a_writtens a_heads a_tails a_held a_slots a_unpublished a_index a_unchecked a_seen a_event a_state a_pending := by
  subst eN
  intro n
  induction n with
  | zero => intro i nx tO _ h; omega
  | succ n ih =>
    intro i nx tO hi hn hm
    by_cases e : i = 16
    · subst e
      refine br_t (nI_le (a := 16) (b := 16) (by omega) (by omega)) ⟨5, ?_⟩
      exact vq_x_lk44 hT eT (fun tn th h1 h2 => hp nx tO tn th (fun d hd => hm d (by omega) hd) h1 h2) 5 0 _ (by omega) (by omega) (fun t ht => absurd ht (by omega))
    · refine br_f (nI_ge (b := 16) (by omega) (by decide)) ?_
      have i16 : vp_in (nI i) 16 := vp_in_nI (by omega) (by decide)
      refine pk_le (N - 1) i (fun h => ⟨i16, ?_⟩) (fun h => ⟨i16, ?_⟩)
      · intro nx2 e2
        rw [nI_clamp (by omega)] at e2
        refine ⟨i16, ?_⟩
        intro tO2 et x1 e1
        rw [e1, nI_1]
        refine ih (i + 1) nx2 tO2 (by omega) (by omega) ?_
        intro d hd hdN
        rw [e2, pk_un (by omega)]
        exact hm d (by omega) hdN
      · intro nx2 e2
        rw [nI_clamp (by omega), nI_1] at e2
        refine ⟨i16, ?_⟩
        intro tO2 et x1 e1
        rw [e1, nI_1]
        refine ih (i + 1) nx2 tO2 (by omega) (by omega) ?_
        intro d hd hdN
        rw [e2]
        by_cases z : d = i
        · rw [z, pk_us]
        · rw [pk_un z]
          exact hm d (by omega) hdN
theorem vq_x_269 {post : SX → Prop} {x7 : Int32} (hp : post (f_ringRoom, f_tableBase, f_receiptBase, f_openChain, f_receiptChain, f_slotMask, f_indexMask, f_freeHead, f_freeCount, f_freeTableHead, f_freeTableCount, f_openCount, f_receiptCount, f_heldCount, a_memory, a_next, a_tableOf, a_tableNext, a_tags, a_sizes, a_outs, a_directs, a_writtens, a_heads, a_tails, a_held, a_slots, a_unpublished, upd (upd a_index 0 x7) 1 x7, a_unchecked, upd (upd a_seen 0 x7) 1 x7, upd (upd a_event 0 x7) 1 x7, upd (upd a_state 0 3) 1 3, a_pending)) : wX_init_269 post x7 f_ringRoom f_tableBase f_receiptBase f_openChain f_receiptChain f_slotMask f_indexMask f_freeHead f_freeCount f_freeTableHead f_freeTableCount f_openCount f_receiptCount f_heldCount 3 0 a_memory a_next a_tableOf a_tableNext a_tags a_sizes a_outs a_directs a_writtens a_heads a_tails a_held a_slots a_unpublished a_index a_unchecked a_seen a_event a_state a_pending := by
  have i0 : vp_in (0 : Int32) 2 := vp_in_nI (n := 0) (by omega) (by decide)
  have i1 : vp_in (1 : Int32) 2 := vp_in_nI (n := 1) (by omega) (by decide)
  refine br_f (by decide) ⟨i0, fun z1 e1 => ⟨i0, fun z2 e2 => ⟨i0, fun z3 e3 => ⟨i0, fun z4 e4 => fun y ey => ?_⟩⟩⟩⟩
  have ey1 : y = 1 := ey
  subst ey1
  refine br_f (by decide) ⟨i1, fun w1 d1 => ⟨i1, fun w2 d2 => ⟨i1, fun w3 d3 => ⟨i1, fun w4 d4 => fun y ey => ?_⟩⟩⟩⟩
  have ey2 : y = 2 := ey
  subst ey2
  refine br_t (by decide) ?_
  rw [d1, d2, d3, d4, e1, e2, e3, e4]
  exact hp
end vq_IN
section vq_IY
variable {g_clock : Int64} {g_descriptors g_modulus g_allTables : Int32} {b_since : Nat → Int64} {b_at b_tags b_size b_direct b_written b_values b_kinds b_state b_pending b_index b_event b_unchecked : Nat → Int32}
theorem vq_y_196 {post : SY → Prop} {x7 : Int32} (hp : post (g_clock, g_descriptors, g_modulus, g_allTables, b_at, b_since, b_tags, b_size, b_direct, b_written, b_values, b_kinds, upd (upd b_state 0 3) 1 3, b_pending, upd (upd b_index 0 x7) 1 x7, upd (upd b_event 0 x7) 1 x7, b_unchecked)) : wY_init_196 post x7 g_clock g_descriptors g_modulus g_allTables 3 0 b_at b_since b_tags b_size b_direct b_written b_values b_kinds b_state b_pending b_index b_event b_unchecked := by
  have i0 : vp_in (0 : Int32) 2 := vp_in_nI (n := 0) (by omega) (by decide)
  have i1 : vp_in (1 : Int32) 2 := vp_in_nI (n := 1) (by omega) (by decide)
  refine br_f (by decide) ⟨i0, fun z1 e1 => ⟨i0, fun z2 e2 => ⟨i0, fun z3 e3 => fun y ey => ?_⟩⟩⟩
  have ey1 : y = 1 := ey
  subst ey1
  refine br_f (by decide) ⟨i1, fun w1 d1 => ⟨i1, fun w2 d2 => ⟨i1, fun w3 d3 => fun y ey => ?_⟩⟩⟩
  have ey2 : y = 2 := ey
  subst ey2
  refine br_t (by decide) ?_
  rw [d1, d2, d3, e1, e2, e3]
  exact hp
theorem vq_y_172 {post : SY → Prop} {x7 : Int32} (hp : ∀ at2 : Nat → Int32, (∀ c, c < 18 → at2 c = -1) → post (g_clock, g_descriptors, g_modulus, g_allTables, at2, b_since, b_tags, b_size, b_direct, b_written, b_values, b_kinds, upd (upd b_state 0 3) 1 3, b_pending, upd (upd b_index 0 x7) 1 x7, upd (upd b_event 0 x7) 1 x7, b_unchecked)) :
    ∀ (n i : Nat) (b_at : Nat → Int32), i ≤ 18 → 18 - i < n → (∀ c, c < i → b_at c = -1) → wY_init_172 post x7 g_clock g_descriptors g_modulus g_allTables n (nI i) b_at b_since b_tags b_size b_direct b_written b_values b_kinds b_state b_pending b_index b_event b_unchecked := by
  intro n
  induction n with
  | zero => intro i at2 _ h; omega
  | succ n ih =>
    intro i at2 hi hn hm
    by_cases e : i = 18
    · subst e
      refine br_t (nI_le (a := 18) (b := 18) (by omega) (by omega)) ⟨3, ?_⟩
      exact vq_y_196 (hp at2 hm)
    · refine br_f (nI_ge (b := 18) (by omega) (by decide)) ⟨vp_in_nI (by omega) (by decide), ?_⟩
      intro at3 e3 x8 e8
      rw [nI_clamp (by omega)] at e3
      rw [e8, nI_1]
      refine ih (i + 1) at3 (by omega) (by omega) ?_
      intro c hc
      rw [e3]
      by_cases z : c = i
      · rw [z, pk_us]
      · rw [pk_un z]
        exact hm c (by omega)
end vq_IY
theorem vq_K0 {nx : Nat → Int32} {n m : Nat} (hm : n ≤ m) (h : ∀ d, d + 1 < n → nx d = nI (d + 1)) : vq_K nx (vq_gs (fun _ => []) 18 (List.range n)) m := by
  have key : ∀ c, c ≠ 18 → vq_gs (fun _ => ([] : List Nat)) 18 (List.range n) c = [] := fun c hc => vq_gsn hc
  have mem : ∀ c d, d ∈ vq_gs (fun _ => ([] : List Nat)) 18 (List.range n) c → c = 18 ∧ d < n := by
    intro c d hd
    by_cases e : c = 18
    · subst e
      rw [vq_gss, List.mem_range] at hd
      exact ⟨rfl, hd⟩
    · rw [key c e] at hd
      exact absurd hd List.not_mem_nil
  refine ⟨?_, ?_, ?_, ?_⟩
  · intro c
    by_cases e : c = 18
    · subst e; rw [vq_gss]; exact List.nodup_range
    · rw [key c e]; exact List.nodup_nil
  · intro c d hd
    have := (mem c d hd).2
    omega
  · intro c c' d h1 h2
    rw [(mem c d h1).1, (mem c' d h2).1]
  · intro c i d e hd he
    have hc := (mem c d (List.mem_of_getElem? hd)).1
    subst hc
    rw [vq_gss] at hd he
    have l1 := (List.getElem?_eq_some_iff.mp he).1
    rw [List.length_range] at l1
    rw [List.getElem?_range (by omega)] at hd he
    have e1 := Option.some.inj hd
    have e2 := Option.some.inj he
    rw [← e1, ← e2]
    exact h i (by omega)
theorem vq_sm0 (n : Nat) : vq_sm (fun c => (vq_gs (fun _ => ([] : List Nat)) 18 (List.range n) c).length) 19 = n := by
  have s1 : vq_sm (fun c => (vq_gs (fun _ => ([] : List Nat)) 18 (List.range n) c).length) 19 = vq_sm (fun c => (vq_gs (fun _ => ([] : List Nat)) 18 (List.range n) c).length) 18 + (vq_gs (fun _ => ([] : List Nat)) 18 (List.range n) 18).length := rfl
  have s2 : vq_sm (fun c => (vq_gs (fun _ => ([] : List Nat)) 18 (List.range n) c).length) 18 = vq_sm (fun _ => 0) 18 := vq_sm_cg (fun c hc => by
    show (vq_gs (fun _ => ([] : List Nat)) 18 (List.range n) c).length = 0
    rw [vq_gsn (by omega)]; rfl)
  rw [s1, s2, vq_gss, List.length_range]
  show 0 + n = n
  omega
theorem vq_hd00 {n : Nat} {x : Int32} (h : 0 < n → x = 0) : ∀ e, (vq_gs (fun _ => ([] : List Nat)) 18 (List.range n) 18)[0]? = some e → x = nI e := by
  intro e he
  rw [vq_gss] at he
  have l1 := (List.getElem?_eq_some_iff.mp he).1
  rw [List.length_range] at l1
  rw [List.getElem?_range l1] at he
  rw [← Option.some.inj he]
  exact h l1
theorem i_vc0 (k0 : Int32) (k1 : Int32) (k2 : Int32) (k3 : Int32) : wpX_init (fun u => wpY_init (fun v => i_Rel 4 u v) k0 k1 k2 k3) k0 k1 k2 k3 := by
  obtain ⟨s, hs1, hs2, es⟩ := vq_cl k0 (a := 2) (b := 4) (by omega) (by omega)
  obtain ⟨b, hb1, hb2, eb⟩ := vq_cl k1 (a := s + 1) (b := 8) (by omega) (by omega)
  have hM1 : 1 ≤ 2 ^ b := Nat.one_le_two_pow
  have hN1 : 1 ≤ 2 ^ s := Nat.one_le_two_pow
  have hN : ∀ TT, TT ≤ 4 → vq_N (2 ^ s) (2 ^ b) TT := by
    intro TT hTT
    have h1 : s = 2 ∨ s = 3 ∨ s = 4 := by omega
    have h2 : b = 3 ∨ b = 4 ∨ b = 5 ∨ b = 6 ∨ b = 7 ∨ b = 8 := by omega
    refine ⟨?_, ?_, ?_, hTT⟩
    · rcases h1 with rfl | rfl | rfl <;> decide
    · rcases h2 with rfl | rfl | rfl | rfl | rfl | rfl <;> decide
    · rw [show 2 * 2 ^ s = 2 ^ (s + 1) by rw [Nat.pow_succ]; omega]
      exact Nat.pow_le_pow_right (by decide) hb1
  have hN16 : 2 ^ s ≤ 16 := by have := (hN 0 (by omega)).1; omega
  have hM256 : 2 ^ b ≤ 256 := by have := (hN 0 (by omega)).2.1; omega
  obtain ⟨fi, _, hf2, ef⟩ := vq_cl k2 (a := 0) (b := 2 ^ b - 1) (by omega) (by omega)
  obtain ⟨TT, _, hT, eT⟩ := vq_cl k3 (a := 0) (b := 4) (by omega) (by omega)
  have em1 : nI (2 ^ b) - 1 = nI (2 ^ b - 1) := by rw [show (1 : Int32) = nI 1 from rfl, pk_sub hM1]
  have en1 : nI (2 ^ s) - 1 = nI (2 ^ s - 1) := by rw [show (1 : Int32) = nI 1 from rfl, pk_sub hN1]
  unfold wpX_init wpY_init
  refine vq_x_clamp ?_
  rw [show (if (2 : Int32) ≤ k0 then (if k0 ≤ 4 then k0 else 4) else 2) = nI s from es]
  refine vq_x_clamp ?_
  rw [nI_1, show (if nI (s + 1) ≤ k1 then (if k1 ≤ 8 then k1 else 8) else nI (s + 1)) = nI b from eb]
  intro sm esm im eim
  rw [vq_shl s (by omega), en1] at esm
  rw [vq_shl b (by omega), em1] at eim
  refine vq_x_clamp ?_
  rw [eim, show (if (0 : Int32) ≤ k2 then (if k2 ≤ nI (2 ^ b - 1) then k2 else nI (2 ^ b - 1)) else 0) = nI fi from ef]
  intro fc efc
  rw [esm, nI_1, show 2 ^ s - 1 + 1 = 2 ^ s by omega] at efc
  refine vq_x_clamp ?_
  rw [show (if (0 : Int32) ≤ k3 then (if k3 ≤ 4 then k3 else 4) else 0) = nI TT from eT, esm, efc]
  refine ⟨17, vq_x_lk2 (N := 2 ^ s) hT rfl hN1 hN16 rfl ?_ 17 0 _ _ (by omega) (by omega) (fun d hd => absurd hd (by omega))⟩
  intro nx tO tn th h1 h2 h3
  refine ⟨3, vq_x_269 ?_⟩
  refine vq_y_clamp ?_
  rw [show (if (2 : Int32) ≤ k0 then (if k0 ≤ 4 then k0 else 4) else 2) = nI s from es]
  intro de ede
  rw [vq_shl s (by omega)] at ede
  refine vq_y_clamp ?_
  rw [nI_1, show (if nI (s + 1) ≤ k1 then (if k1 ≤ 8 then k1 else 8) else nI (s + 1)) = nI b from eb]
  intro mo emo
  rw [vq_shl b (by omega)] at emo
  refine vq_y_clamp ?_
  rw [emo, em1, show (if (0 : Int32) ≤ k2 then (if k2 ≤ nI (2 ^ b - 1) then k2 else nI (2 ^ b - 1)) else 0) = nI fi from ef]
  refine vq_y_clamp ?_
  rw [show (if (0 : Int32) ≤ k3 then (if k3 ≤ 4 then k3 else 4) else 0) = nI TT from eT, ede]
  refine ⟨19, vq_y_172 ?_ 19 0 _ (by omega) (by omega) (fun c hc => absurd hc (by omega))⟩
  intro at2 hat
  refine ⟨2 ^ s, 2 ^ b, TT, fun _ => [], vq_gs (fun _ => []) 18 (List.range (2 ^ s)), vq_gs (fun _ => []) 18 (List.range TT), fun _ => 0, fun _ => 0, ⟨hN TT hT, rfl, rfl, rfl, rfl, rfl⟩, ?_, ⟨vq_K0 hN16 h1, vq_K0 hT h2, vq_sm0 _, vq_sm0 _⟩, ⟨vq_hd00 (fun _ => rfl), ?_, vq_hd00 h3, ?_⟩, ⟨rfl, Nat.zero_le _, rfl, Nat.zero_le _⟩, ?_, ⟨rfl, fun i c h => by simp at h⟩, ⟨?_, ?_⟩, rfl, rfl, rfl, rfl, rfl, ?_⟩
  · refine ⟨fun c hc => Or.inl (hat c hc), ?_, fun _ _ => List.Pairwise.nil, fun c _ => Int.le_refl _, by decide, by decide⟩
    intro q hq c
    refine ⟨fun z => absurd z List.not_mem_nil, fun z => ?_⟩
    have := z.2
    rw [hat c z.1] at this
    exact absurd this (vq_m1 q (by omega))
  · rw [vq_gss, List.length_range]
  · rw [vq_gss, List.length_range]
  · intro c hc
    rw [hat c hc, vq_gsn (by omega), vq_gsn (by omega)]
    exact ⟨fun _ => ⟨rfl, rfl⟩, fun z => absurd z (by decide), fun z => absurd z (by decide), fun z => absurd rfl (vq_subne z).1⟩
  · exact ⟨fi, by omega, rfl, by rw [List.length_nil, Nat.add_zero, Nat.mod_eq_of_lt (by omega)]; rfl, rfl, fun i c h => by simp at h⟩
  · exact ⟨fi, by omega, rfl, by rw [List.length_nil, Nat.add_zero, Nat.mod_eq_of_lt (by omega)]; rfl, rfl, fun i c h => by simp at h⟩
  · intro s hs
    refine ⟨⟨fi, by omega, ?_⟩, 0, by omega, rfl⟩
    have : s = 0 ∨ s = 1 := by omega
    rcases this with rfl | rfl <;> rfl
end
