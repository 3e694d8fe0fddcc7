section
theorem pk_us {f : Nat → Int32} {k : Nat} {x : Int32} : upd f k x k = x := if_pos rfl
theorem pk_un {f : Nat → Int32} {k j : Nat} {x : Int32} (h : j ≠ k) : upd f k x j = f j := if_neg h
theorem pk_sub {a b : Nat} (h : b ≤ a) : nI a - nI b = nI (a - b) := by
  obtain ⟨c, rfl⟩ : ∃ c, a = c + b := ⟨a - b, by omega⟩
  rw [← nI_add, Int32.add_sub_cancel, Nat.add_sub_cancel]
theorem pk_mul (a b : Nat) : nI a * nI b = nI (a * b) := (Int32.ofNat_mul a b).symm
theorem pk_le {x y : Int32} {A B : Prop} (a b : Nat) (f : a ≤ b → A) (g : b < a → B) (hx : x = nI a := by rfl) (hy : y = nI b := by rfl) (ha : a < 2 ^ 31 := by omega) (hb : b < 2 ^ 31 := by omega) : (x ≤ y → A) ∧ (¬ x ≤ y → B) := by
  subst hx hy
  rw [nI_leI ha hb]
  exact ⟨f, fun z => g (by omega)⟩
theorem pk_lt {x y : Int32} {A B : Prop} (a b : Nat) (f : a < b → A) (g : b ≤ a → B) (hx : x = nI a := by rfl) (hy : y = nI b := by rfl) (ha : a < 2 ^ 31 := by omega) (hb : b < 2 ^ 31 := by omega) : (x < y → A) ∧ (¬ x < y → B) := by
  subst hx hy
  rw [nI_ltI ha hb]
  exact ⟨f, fun z => g (by omega)⟩
theorem pk_eq {x y : Int32} {A B : Prop} (a b : Nat) (f : a = b → A) (g : a ≠ b → B) (hx : x = nI a := by rfl) (hy : y = nI b := by rfl) (ha : a < 2 ^ 31 := by omega) (hb : b < 2 ^ 31 := by omega) : (x = y → A) ∧ (¬ x = y → B) := by
  subst hx hy
  rw [nI_eq ha hb]
  exact ⟨f, g⟩
theorem pk_in {x : Int32} (n N : Nat) (h : n < N) (hx : x = nI n := by rfl) (hN : N < 2 ^ 31 := by omega) : vp_in x N := by
  subst hx
  exact vp_in_nI h hN
theorem pk_cl {x : Int32} (n : Nat) (hx : x = nI n := by rfl) (h : n < 2 ^ 31 := by omega) : x.toNatClampNeg = n := by
  subst hx
  exact nI_clamp h
theorem pk_tn {n : Nat} (h : n < 2 ^ 32) : (nI n).toBitVec.toNat = n := Nat.mod_eq_of_lt h
theorem pk_and (x : Int32) {m : Int32} (k : Nat) (hm : m.toBitVec.toNat = 2 ^ k - 1) : x &&& m = nI (x.toBitVec.toNat % 2 ^ k) := by
  apply Int32.toBitVec_inj.mp
  apply BitVec.eq_of_toNat_eq
  rw [Int32.toBitVec_and, BitVec.toNat_and, hm, Nat.and_two_pow_sub_one_eq_mod]
  show _ = (BitVec.ofNat 32 _).toNat
  rw [BitVec.toNat_ofNat]
  exact (Nat.mod_eq_of_lt (Nat.lt_of_le_of_lt (Nat.mod_le _ _) x.toBitVec.isLt)).symm
theorem pk_andN {n : Nat} (h : n < 2 ^ 32) {m : Int32} (k : Nat) (hm : m.toBitVec.toNat = 2 ^ k - 1) : nI n &&& m = nI (n % 2 ^ k) := by
  rw [pk_and _ k hm, pk_tn h]
theorem pk_shl (a s : Int32) (k : Nat) (hs : (s.toBitVec.smod 32).toNat = k) : (a <<< s).toBitVec.toNat = a.toBitVec.toNat * 2 ^ k % 2 ^ 32 := by
  show (a.toBitVec <<< (s.toBitVec.smod 32).toNat).toNat = _
  rw [hs, BitVec.toNat_shiftLeft, Nat.shiftLeft_eq]
theorem pk_shlN {n : Nat} (s : Int32) (k : Nat) (hs : (s.toBitVec.smod 32).toNat = k) (h : n * 2 ^ k < 2 ^ 32) : nI n <<< s = nI (n * 2 ^ k) := by
  apply Int32.toBitVec_inj.mp
  apply BitVec.eq_of_toNat_eq
  have hn : n < 2 ^ 32 := Nat.lt_of_le_of_lt (Nat.le_mul_of_pos_right n (Nat.two_pow_pos k)) h
  rw [pk_shl _ _ k hs, pk_tn hn, pk_tn h, Nat.mod_eq_of_lt h]
theorem pk_shr (a s : Int32) (k : Nat) (hs : (s.toBitVec.smod 32).toNat = k) : (a >>> s).toInt = a.toInt >>> k := by
  show (a.toBitVec.sshiftRight (s.toBitVec.smod 32).toNat).toInt = _
  rw [hs, BitVec.toInt_sshiftRight]
  rfl
theorem pk_shrN {n : Nat} (h : n < 2 ^ 31) (s : Int32) (k : Nat) (hs : (s.toBitVec.smod 32).toNat = k) : nI n >>> s = nI (n / 2 ^ k) := by
  apply Int32.toInt_inj.mp
  have h2 : n / 2 ^ k ≤ n := Nat.div_le_self _ _
  rw [pk_shr _ _ k hs, nI_toInt h, nI_toInt (by omega), Int.shiftRight_eq_div_pow]
  rfl
theorem s_l : ∀ n, n < 32 → ((nI n &&& 31).toBitVec.smod 32).toNat = n := by decide +kernel
end
section
abbrev ly_B : Type := Nat × Nat × Nat
def ly_le (p q : ly_B) : Bool := decide (p.1 ≤ q.1) && (decide (p.2.1 ≤ q.2.1) && decide (p.2.2 ≤ q.2.2))
theorem ly_le_iff {p q : ly_B} : ly_le p q = true ↔ p.1 ≤ q.1 ∧ p.2.1 ≤ q.2.1 ∧ p.2.2 ≤ q.2.2 := by
  simp only [ly_le, Bool.and_eq_true, decide_eq_true_eq]
theorem ly_le_n {p q : ly_B} : ly_le p q = false ↔ ¬ (p.1 ≤ q.1 ∧ p.2.1 ≤ q.2.1 ∧ p.2.2 ≤ q.2.2) := by
  rw [← ly_le_iff, Bool.not_eq_true]
theorem ly_le_r (p : ly_B) : ly_le p p = true := ly_le_iff.mpr ⟨Nat.le_refl _, Nat.le_refl _, Nat.le_refl _⟩
theorem ly_le_t {p q r : ly_B} (h : ly_le p q = true) (k : ly_le q r = true) : ly_le p r = true := by
  rw [ly_le_iff] at h k ⊢
  omega
theorem ly_le_a {p q : ly_B} (h : ly_le p q = true) (k : ly_le q p = true) : p = q := by
  rw [ly_le_iff] at h k
  exact Prod.ext (by omega) (Prod.ext (by omega) (by omega))
/-- the list with the box gathered into it -/
def ly_gat (G : List ly_B) (p : ly_B) : List ly_B :=
  if G.any (fun q => ly_le q p) = true then G else G.filter (fun q => !ly_le p q) ++ [p]
theorem ly_gat_t {G : List ly_B} {p : ly_B} (h : G.any (fun q => ly_le q p) = true) : ly_gat G p = G := if_pos h
theorem ly_gat_f {G : List ly_B} {p : ly_B} (h : G.any (fun q => ly_le q p) = false) :
    ly_gat G p = G.filter (fun q => !ly_le p q) ++ [p] := if_neg (by rw [h]; exact Bool.false_ne_true)
def ly_inc (a b : ly_B) : Prop := ly_le a b = false ∧ ly_le b a = false
/-- G is the antichain of the least boxes of S -/
def ly_Fr (G : List ly_B) (S : ly_B → Prop) : Prop :=
  (∀ p, p ∈ G → S p) ∧ (∀ p, S p → ∃ q, q ∈ G ∧ ly_le q p = true) ∧ List.Pairwise ly_inc G
theorem ly_Fr_0 : ly_Fr [] (fun _ => False) :=
  ⟨fun _ h => absurd h List.not_mem_nil, fun _ h => h.elim, List.Pairwise.nil⟩
theorem ly_Fr_ex {G : List ly_B} {S S' : ly_B → Prop} (h : ly_Fr G S) (e : ∀ p, S p → S' p)
    (f : ∀ p, S' p → ∃ q, S q ∧ ly_le q p = true) : ly_Fr G S' := by
  refine ⟨fun p hp => e p (h.1 p hp), fun p hp => ?_, h.2.2⟩
  obtain ⟨q, hq, hqp⟩ := f p hp
  obtain ⟨r, hr, hrq⟩ := h.2.1 q hq
  exact ⟨r, hr, ly_le_t hrq hqp⟩
theorem ly_Fr_gat {G : List ly_B} {S : ly_B → Prop} {p : ly_B} (h : ly_Fr G S) : ly_Fr (ly_gat G p) (fun q => S q ∨ q = p) := by
  obtain ⟨h1, h2, h3⟩ := h
  cases ha : G.any (fun q => ly_le q p) with
  | true =>
    rw [ly_gat_t ha]
    obtain ⟨r, hr, hrp⟩ := List.any_eq_true.mp ha
    refine ⟨fun q hq => Or.inl (h1 q hq), fun q hq => ?_, h3⟩
    rcases hq with hq | hq
    · exact h2 q hq
    · rw [hq]; exact ⟨r, hr, hrp⟩
  | false =>
    rw [ly_gat_f ha]
    have hn : ∀ q, q ∈ G → ly_le q p = false := by
      intro q hq
      have h := List.any_eq_false.mp ha q hq
      rw [Bool.not_eq_true] at h
      exact h
    refine ⟨fun q hq => ?_, fun q hq => ?_, ?_⟩
    · rcases List.mem_append.mp hq with hq | hq
      · exact Or.inl (h1 q (List.mem_filter.mp hq).1)
      · exact Or.inr (List.mem_singleton.mp hq)
    · rcases hq with hq | hq
      · obtain ⟨r, hr, hrq⟩ := h2 q hq
        cases hb : ly_le p r with
        | true => exact ⟨p, List.mem_append_right _ (List.mem_singleton.mpr rfl), ly_le_t hb hrq⟩
        | false => exact ⟨r, List.mem_append_left _ (List.mem_filter.mpr ⟨hr, by rw [hb]; rfl⟩), hrq⟩
      · rw [hq]; exact ⟨p, List.mem_append_right _ (List.mem_singleton.mpr rfl), ly_le_r p⟩
    · rw [List.pairwise_append]
      refine ⟨h3.filter _, List.pairwise_singleton _ _, fun a ha' b hb => ?_⟩
      obtain ⟨haG, hap⟩ := List.mem_filter.mp ha'
      rw [List.mem_singleton.mp hb]
      refine ⟨hn a haG, ?_⟩
      rw [Bool.not_eq_true'] at hap
      exact hap
theorem ly_Fr_fold : ∀ (L G : List ly_B) (S : ly_B → Prop), ly_Fr G S → ly_Fr (L.foldl ly_gat G) (fun q => S q ∨ q ∈ L)
  | [], _, _, h => ly_Fr_ex h (fun _ hp => Or.inl hp) (fun p hp => ⟨p, hp.elim id (fun z => absurd z List.not_mem_nil), ly_le_r p⟩)
  | p :: L, G, S, h => by
    refine ly_Fr_ex (ly_Fr_fold L (ly_gat G p) _ (ly_Fr_gat (p := p) h)) (fun q hq => ?_) (fun q hq => ⟨q, ?_, ly_le_r q⟩)
    · rcases hq with (hq | hq) | hq
      · exact Or.inl hq
      · exact Or.inr (by rw [hq]; exact List.mem_cons_self)
      · exact Or.inr (List.mem_cons_of_mem _ hq)
    · rcases hq with hq | hq
      · exact Or.inl (Or.inl hq)
      · rcases List.mem_cons.mp hq with hq | hq
        · exact Or.inl (Or.inr hq)
        · exact Or.inr hq
theorem ly_Fr_L (L : List ly_B) : ly_Fr (L.foldl ly_gat []) (fun q => q ∈ L) :=
  ly_Fr_ex (ly_Fr_fold L [] _ ly_Fr_0) (fun _ hp => hp.elim (fun z => z.elim) id) (fun p hp => ⟨p, Or.inr hp, ly_le_r p⟩)
theorem ly_gat_len (G : List ly_B) (p : ly_B) : (ly_gat G p).length ≤ G.length + 1 := by
  cases ha : G.any (fun q => ly_le q p) with
  | true => rw [ly_gat_t ha]; omega
  | false =>
    rw [ly_gat_f ha, List.length_append]
    have h := List.length_filter_le (fun q => !ly_le p q) G
    have h1 : [p].length = 1 := rfl
    omega
theorem ly_fold_len : ∀ (L G : List ly_B), (L.foldl ly_gat G).length ≤ G.length + L.length
  | [], _ => Nat.le_refl _
  | p :: L, G => by
    have h := ly_fold_len L (ly_gat G p)
    have h1 := ly_gat_len G p
    rw [List.foldl_cons, List.length_cons]
    omega
theorem ly_gat_mem {G : List ly_B} {p q : ly_B} (h : q ∈ ly_gat G p) : q ∈ G ∨ q = p := by
  cases ha : G.any (fun q => ly_le q p) with
  | true => rw [ly_gat_t ha] at h; exact Or.inl h
  | false =>
    rw [ly_gat_f ha] at h
    rcases List.mem_append.mp h with hq | hq
    · exact Or.inl (List.mem_filter.mp hq).1
    · exact Or.inr (List.mem_singleton.mp hq)
theorem ly_fold_mem : ∀ (L G : List ly_B) (q : ly_B), q ∈ L.foldl ly_gat G → q ∈ G ∨ q ∈ L
  | [], _, _, h => Or.inl h
  | p :: L, G, q, h => by
    rcases ly_fold_mem L (ly_gat G p) q h with h | h
    · rcases ly_gat_mem h with h | h
      · exact Or.inl h
      · exact Or.inr (by rw [h]; exact List.mem_cons_self)
    · exact Or.inr (List.mem_cons_of_mem _ h)
def ly_cm (o : Option Nat) (x : Nat) : Option Nat := match o with
  | none => some x
  | some m => if x < m then some x else some m
/-- one step of a search for the least value among those that pass -/
def ly_stp (q : ly_B → Bool) (v : ly_B → Nat) (o : Option Nat) (p : ly_B) : Option Nat := if q p = true then ly_cm o (v p) else o
theorem ly_stp_t {q : ly_B → Bool} {v : ly_B → Nat} {o : Option Nat} {p : ly_B} (h : q p = true) : ly_stp q v o p = ly_cm o (v p) := if_pos h
theorem ly_stp_f {q : ly_B → Bool} {v : ly_B → Nat} {o : Option Nat} {p : ly_B} (h : q p = false) : ly_stp q v o p = o := if_neg (by rw [h]; exact Bool.false_ne_true)
def ly_Mn (q : ly_B → Bool) (v : ly_B → Nat) (L : List ly_B) (o : Option Nat) : Prop :=
  (∀ m, o = some m → (∃ p, p ∈ L ∧ q p = true ∧ v p = m) ∧ ∀ p, p ∈ L → q p = true → m ≤ v p) ∧ (o = none → ∀ p, p ∈ L → q p = false)
theorem ly_Mn_0 (q : ly_B → Bool) (v : ly_B → Nat) : ly_Mn q v [] none :=
  ⟨fun _ h => (nomatch h), fun _ _ h => absurd h List.not_mem_nil⟩
theorem ly_Mn_stp {q : ly_B → Bool} {v : ly_B → Nat} {L : List ly_B} {o : Option Nat} (p : ly_B) (h : ly_Mn q v L o) :
    ly_Mn q v (L ++ [p]) (ly_stp q v o p) := by
  obtain ⟨h1, h2⟩ := h
  cases hq : q p with
  | false =>
    rw [ly_stp_f hq]
    refine ⟨fun m e => ?_, fun e r hr => ?_⟩
    · obtain ⟨⟨s, hs, hs1, hs2⟩, hm⟩ := h1 m e
      refine ⟨⟨s, List.mem_append_left _ hs, hs1, hs2⟩, fun r hr hqr => ?_⟩
      rcases List.mem_append.mp hr with hr | hr
      · exact hm r hr hqr
      · rw [List.mem_singleton.mp hr, hq] at hqr; exact absurd hqr Bool.false_ne_true
    · rcases List.mem_append.mp hr with hr | hr
      · exact h2 e r hr
      · rw [List.mem_singleton.mp hr]; exact hq
  | true =>
    rw [ly_stp_t hq]
    have hp : p ∈ L ++ [p] := List.mem_append_right _ (List.mem_singleton.mpr rfl)
    cases o with
    | none =>
      refine ⟨fun m e => ?_, fun e => (nomatch e)⟩
      have e : v p = m := Option.some.inj e
      refine ⟨⟨p, hp, hq, e⟩, fun r hr hqr => ?_⟩
      rcases List.mem_append.mp hr with hr | hr
      · have h3 := h2 rfl r hr
        rw [h3] at hqr; exact absurd hqr Bool.false_ne_true
      · rw [List.mem_singleton.mp hr]; exact Nat.le_of_eq e.symm
    | some k =>
      obtain ⟨⟨s, hs, hs1, hs2⟩, hm⟩ := h1 k rfl
      by_cases hlt : v p < k
      · have e0 : ly_cm (some k) (v p) = some (v p) := if_pos hlt
        rw [e0]
        refine ⟨fun m e => ?_, fun e => (nomatch e)⟩
        have e : v p = m := Option.some.inj e
        refine ⟨⟨p, hp, hq, e⟩, fun r hr hqr => ?_⟩
        rcases List.mem_append.mp hr with hr | hr
        · have h3 := hm r hr hqr
          omega
        · rw [List.mem_singleton.mp hr]; exact Nat.le_of_eq e.symm
      · have e0 : ly_cm (some k) (v p) = some k := if_neg hlt
        rw [e0]
        refine ⟨fun m e => ?_, fun e => (nomatch e)⟩
        have e : k = m := Option.some.inj e
        refine ⟨⟨s, List.mem_append_left _ hs, hs1, by omega⟩, fun r hr hqr => ?_⟩
        rcases List.mem_append.mp hr with hr | hr
        · have h3 := hm r hr hqr
          omega
        · rw [List.mem_singleton.mp hr]; omega
theorem ly_Mn_fold {q : ly_B → Bool} {v : ly_B → Nat} : ∀ (M L : List ly_B) (o : Option Nat), ly_Mn q v L o → ly_Mn q v (L ++ M) (M.foldl (ly_stp q v) o)
  | [], L, o, h => by rw [List.append_nil]; exact h
  | p :: M, L, o, h => by
    have e : L ++ p :: M = (L ++ [p]) ++ M := by rw [List.append_assoc]; rfl
    rw [e]
    exact ly_Mn_fold M (L ++ [p]) _ (ly_Mn_stp p h)
theorem ly_Mn_L (q : ly_B → Bool) (v : ly_B → Nat) (L : List ly_B) : ly_Mn q v L (L.foldl (ly_stp q v) none) :=
  ly_Mn_fold L [] none (ly_Mn_0 q v)
/-- the least value over the front is the least value over all -/
theorem ly_min {q : ly_B → Bool} {v : ly_B → Nat} {F M : List ly_B} (h : ly_Fr F (fun p => p ∈ M))
    (mq : ∀ a b, ly_le a b = true → q b = true → q a = true) (mv : ∀ a b, ly_le a b = true → v a ≤ v b) :
    F.foldl (ly_stp q v) none = M.foldl (ly_stp q v) none := by
  have h1 := ly_Mn_L q v F
  have h2 := ly_Mn_L q v M
  generalize F.foldl (ly_stp q v) none = o1 at h1
  generalize M.foldl (ly_stp q v) none = o2 at h2
  obtain ⟨f1, f2, f3⟩ := h
  cases o1 with
  | none =>
    cases o2 with
    | none => rfl
    | some m =>
      obtain ⟨⟨s, hs, hs1, hs2⟩, hm⟩ := h2.1 m rfl
      obtain ⟨r, hr, hrs⟩ := f2 s hs
      have := h1.2 rfl r hr
      rw [mq r s hrs hs1] at this
      exact absurd this.symm Bool.false_ne_true
  | some k =>
    obtain ⟨⟨s, hs, hs1, hs2⟩, hk⟩ := h1.1 k rfl
    cases o2 with
    | none =>
      have := h2.2 rfl s (f1 s hs)
      rw [hs1] at this
      exact absurd this.symm Bool.false_ne_true
    | some m =>
      obtain ⟨⟨t, ht, ht1, ht2⟩, hm⟩ := h2.1 m rfl
      obtain ⟨r, hr, hrt⟩ := f2 t ht
      have a1 := hk r hr (mq r t hrt ht1)
      have a2 := mv r t hrt
      have a3 := hm s (f1 s hs) hs1
      exact congrArg some (by omega)
/-- whether v shows that the box w isn't to be counted -/
def ly_bad (f : Nat → ly_B) (w v : Nat) : Bool := if f v = f w then decide (v < w) else ly_le (f v) (f w)
def ly_isB (f : Nat → ly_B) (n w : Nat) : Bool := !(List.range n).any (ly_bad f w)
theorem ly_isB_iff {f : Nat → ly_B} {n w : Nat} : ly_isB f n w = true ↔ ∀ v, v < n → ly_bad f w v = false := by
  rw [ly_isB, Bool.not_eq_true', List.any_eq_false]
  constructor
  · intro h v hv
    have := h v (List.mem_range.mpr hv)
    rw [Bool.not_eq_true] at this
    exact this
  · intro h v hv
    rw [h v (List.mem_range.mp hv)]
    exact Bool.false_ne_true
theorem ly_least (P : Nat → Prop) : ∀ n, P n → ∃ k, k ≤ n ∧ P k ∧ ∀ j, j < k → ¬ P j := by
  intro n
  induction n using Nat.strongRecOn with
  | ind n ih =>
    intro hn
    by_cases h : ∃ j, j < n ∧ P j
    · obtain ⟨j, hj, pj⟩ := h
      obtain ⟨k, hk, pk, hl⟩ := ih j hj pj
      exact ⟨k, by omega, pk, hl⟩
    · exact ⟨n, Nat.le_refl _, hn, fun j hj pj => h ⟨j, hj, pj⟩⟩
theorem ly_inc_ne {L : List ly_B} (h : List.Pairwise ly_inc L) : L.Nodup := by
  refine List.Pairwise.imp ?_ h
  intro a b hab e
  rw [e] at hab
  have := hab.1
  rw [ly_le_r] at this
  exact absurd this.symm Bool.false_ne_true
theorem ly_inc_eq {L : List ly_B} (h : List.Pairwise ly_inc L) : ∀ a, a ∈ L → ∀ b, b ∈ L → ly_le a b = true → a = b := by
  induction h with
  | nil => intro a ha; exact absurd ha List.not_mem_nil
  | cons hx _ ih =>
    intro a ha b hb hab
    rcases List.mem_cons.mp ha with ha' | ha'
    · rcases List.mem_cons.mp hb with hb' | hb'
      · rw [ha', hb']
      · have := (hx b hb').1
        rw [← ha', hab] at this
        exact absurd this.symm Bool.false_ne_true
    · rcases List.mem_cons.mp hb with hb' | hb'
      · have := (hx a ha').2
        rw [← hb', hab] at this
        exact absurd this.symm Bool.false_ne_true
      · exact ih a ha' b hb' hab
/-- as many first ones of their kind that none beats as the front has boxes -/
theorem ly_count {f : Nat → ly_B} {n : Nat} {F : List ly_B} (h : ly_Fr F (fun p => p ∈ (List.range n).map f)) :
    ((List.range n).filter (ly_isB f n)).length = F.length := by
  obtain ⟨f1, f2, f3⟩ := h
  have hF : F.Nodup := ly_inc_ne f3
  have hH : (((List.range n).filter (ly_isB f n)).map f).Nodup := by
    show List.Pairwise (fun a b => a ≠ b) _
    rw [List.pairwise_map]
    refine List.Pairwise.imp_of_mem ?_ ((List.pairwise_lt_range (n := n)).filter (ly_isB f n))
    intro a b ha hb hab e
    have hb2 := ly_isB_iff.mp (List.mem_filter.mp hb).2 a (List.mem_range.mp (List.mem_filter.mp ha).1)
    rw [ly_bad, if_pos e, decide_eq_false_iff_not] at hb2
    exact hb2 hab
  have e : (((List.range n).filter (ly_isB f n)).map f).length = ((List.range n).filter (ly_isB f n)).length := List.length_map _
  rw [← e]
  refine Nat.le_antisymm (List.Nodup.length_le_of_subset hH ?_) (List.Nodup.length_le_of_subset hF ?_)
  · intro p hp
    obtain ⟨w, hw, rfl⟩ := List.mem_map.mp hp
    obtain ⟨hw1, hw2⟩ := List.mem_filter.mp hw
    obtain ⟨q, hq, hqw⟩ := f2 (f w) (List.mem_map.mpr ⟨w, hw1, rfl⟩)
    obtain ⟨v, hv, hvq⟩ := List.mem_map.mp (f1 q hq)
    by_cases ee : f v = f w
    · rw [← ee, hvq]; exact hq
    · have hb := ly_isB_iff.mp hw2 v (List.mem_range.mp hv)
      rw [ly_bad, if_neg ee, hvq, hqw] at hb
      exact absurd hb.symm Bool.false_ne_true
  · intro p hp
    obtain ⟨v0, hv0, ev0⟩ := List.mem_map.mp (f1 p hp)
    obtain ⟨w, hw, ew, hl⟩ := ly_least (fun k => f k = p) v0 ev0
    have hv0' := List.mem_range.mp hv0
    refine List.mem_map.mpr ⟨w, List.mem_filter.mpr ⟨List.mem_range.mpr (by omega), ly_isB_iff.mpr fun v hv => ?_⟩, ew⟩
    by_cases ee : f v = f w
    · rw [ly_bad, if_pos ee, decide_eq_false_iff_not]
      exact fun hvw => hl v hvw (ee.trans ew)
    · rw [ly_bad, if_neg ee]
      cases hle : ly_le (f v) (f w) with
      | false => rfl
      | true =>
        obtain ⟨q, hq, hqv⟩ := f2 (f v) (List.mem_map.mpr ⟨v, List.mem_range.mpr hv, rfl⟩)
        rw [ew] at hle
        have eq := ly_inc_eq f3 q hq p hp (ly_le_t hqv hle)
        rw [eq] at hqv
        exact absurd ((ly_le_a hle hqv).trans ew.symm) ee
end
section
abbrev ly_W : Type := Nat → Bool
abbrev ly_G : Type := ly_W → ly_B
abbrev ly_T : Type := Nat × Nat
def ly_ind (m : Nat) (p : ly_B) : ly_B := (p.1, p.2.1 + m, p.2.2 + m)
/-- two boxes one below the other (2) or beside each other -/
def ly_jn (k : Nat) (p q : ly_B) : ly_B :=
  if k = 2 then (p.1 + q.1 + 1, (if p.2.1 ≤ q.2.1 then q.2.1 else p.2.1), q.2.2)
  else (p.1 + q.1, (if p.2.1 ≤ p.2.2 + q.2.1 then p.2.2 + q.2.1 else p.2.1), p.2.2 + q.2.2)
def ly_op (k : Nat) (z : Bool) (p q : ly_B) : ly_B := if k = 4 then (if z = true then q else p) else ly_jn k p q
theorem ly_jn_mono {k : Nat} {p q p' q' : ly_B} (h : ly_le p p' = true) (g : ly_le q q' = true) : ly_le (ly_jn k p q) (ly_jn k p' q') = true := by
  rw [ly_le_iff] at h g ⊢
  by_cases h2 : k = 2
  · simp only [ly_jn, if_pos h2]
    refine ⟨by omega, ?_, by omega⟩
    split <;> split <;> omega
  · simp only [ly_jn, if_neg h2]
    refine ⟨by omega, ?_, by omega⟩
    split <;> split <;> omega
theorem ly_ind_mono {m : Nat} {p p' : ly_B} (h : ly_le p p' = true) : ly_le (ly_ind m p) (ly_ind m p') = true := by
  rw [ly_le_iff] at h ⊢
  simp only [ly_ind]
  omega
theorem ly_ind0 (p : ly_B) : ly_ind 0 p = p := rfl
def ly_ch : List ly_T → Nat
  | [] => 0
  | t :: T => if t.1 = 4 then ly_ch T + 1 else ly_ch T
def ly_st (t : ly_T) (k : Nat) (s : List ly_G) : List ly_G :=
  if t.1 = 0 then (fun _ => (0, t.2, t.2)) :: s
  else if t.1 = 3 then (match s with | g :: s' => (fun b => ly_ind t.2 (g b)) :: s' | [] => [])
  else (match s with | h :: g :: s' => (fun b => ly_op t.1 (b k) (g b) (h b)) :: s' | s' => s')
/-- what the tokens (the newest first) put on the stack (its top first): a box for each way of choosing -/
def ly_sem : List ly_T → List ly_G
  | [] => []
  | t :: T => ly_st t (ly_ch T) (ly_sem T)
theorem ly_sem0 {m : Nat} {T : List ly_T} : ly_sem ((0, m) :: T) = (fun _ => (0, m, m)) :: ly_sem T := rfl
theorem ly_sem3 {m : Nat} {T : List ly_T} {g : ly_G} {s : List ly_G} (h : ly_sem T = g :: s) :
    ly_sem ((3, m) :: T) = (fun b => ly_ind m (g b)) :: s := by
  show ly_st (3, m) (ly_ch T) (ly_sem T) = _
  rw [h]; rfl
theorem ly_semJ {k m : Nat} {T : List ly_T} {g h : ly_G} {s : List ly_G} (h0 : k ≠ 0) (h3 : k ≠ 3) (e : ly_sem T = h :: g :: s) :
    ly_sem ((k, m) :: T) = (fun b => ly_op k (b (ly_ch T)) (g b) (h b)) :: s := by
  show ly_st (k, m) (ly_ch T) (ly_sem T) = _
  rw [e, ly_st, if_neg h0, if_neg h3]
theorem ly_ch4 {m : Nat} {T : List ly_T} : ly_ch ((4, m) :: T) = ly_ch T + 1 := rfl
theorem ly_chn {k m : Nat} {T : List ly_T} (h : k ≠ 4) : ly_ch ((k, m) :: T) = ly_ch T := if_neg h
/-- the token may follow the tokens -/
def ly_ok1 (k m : Nat) (T : List ly_T) : Prop :=
  k ≤ 4 ∧ (k = 0 → m ≤ 40 ∧ (ly_sem T).length < 10) ∧ (k = 3 → m ≤ 20 ∧ 1 ≤ (ly_sem T).length) ∧
    (k ≠ 0 → k ≠ 3 → 2 ≤ (ly_sem T).length) ∧ (k = 4 → ly_ch T < 6)
def ly_ok : List ly_T → Prop
  | [] => True
  | t :: T => ly_ok1 t.1 t.2 T ∧ ly_ok T
theorem ly_len1 {s : List ly_G} (h : 1 ≤ s.length) : ∃ g s', s = g :: s' := by
  cases s with
  | nil => exact absurd h (by decide)
  | cons g s' => exact ⟨g, s', rfl⟩
theorem ly_len2 {s : List ly_G} (h : 2 ≤ s.length) : ∃ g g' s', s = g :: g' :: s' := by
  cases s with
  | nil => exact absurd h (by decide)
  | cons g s' =>
    rw [List.length_cons] at h
    obtain ⟨g', s'', e⟩ := ly_len1 (s := s') (by omega)
    exact ⟨g, g', s'', by rw [e]⟩
theorem ly_ok_ch : ∀ T : List ly_T, ly_ok T → ly_ch T ≤ 6
  | [], _ => by decide
  | (k, m) :: T, h => by
    have ih := ly_ok_ch T h.2
    by_cases h4 : k = 4
    · have h5 : ly_ch T < 6 := h.1.2.2.2.2 h4
      rw [h4, ly_ch4]; omega
    · rw [ly_chn h4]; exact ih
theorem ly_ok_len : ∀ T : List ly_T, ly_ok T → (ly_sem T).length ≤ 10
  | [], _ => by decide
  | (k, m) :: T, h => by
    have ih := ly_ok_len T h.2
    obtain ⟨h1, h2, h3, h4, h5⟩ := h.1
    dsimp only at h1 h2 h3 h4 h5
    by_cases k0 : k = 0
    · have := (h2 k0).2
      rw [k0, ly_sem0, List.length_cons]; omega
    · by_cases k3 : k = 3
      · obtain ⟨g, s, e⟩ := ly_len1 (h3 k3).2
        rw [e, List.length_cons] at ih
        rw [k3, ly_sem3 e, List.length_cons]; exact ih
      · obtain ⟨g, g', s, e⟩ := ly_len2 (h4 k0 k3)
        rw [e, List.length_cons, List.length_cons] at ih
        rw [ly_semJ k0 k3 e, List.length_cons]; omega
/-- sums of ends and of widths over a stack of boxes; no last is above its width -/
def ly_sE : List ly_B → Nat
  | [] => 0
  | p :: s => p.1 + ly_sE s
def ly_sW : List ly_B → Nat
  | [] => 0
  | p :: s => p.2.1 + ly_sW s
def ly_sL : List ly_B → Prop
  | [] => True
  | p :: s => p.2.2 ≤ p.2.1 ∧ ly_sL s
def ly_at (s : List ly_G) (b : ly_W) : List ly_B := s.map (fun g => g b)
theorem ly_at_c {g : ly_G} {s : List ly_G} {b : ly_W} : ly_at (g :: s) b = g b :: ly_at s b := rfl
theorem ly_bnd (b : ly_W) : ∀ T : List ly_T, ly_ok T →
    ly_sE (ly_at (ly_sem T) b) ≤ T.length ∧ ly_sW (ly_at (ly_sem T) b) ≤ 40 * T.length ∧ ly_sL (ly_at (ly_sem T) b)
  | [], _ => ⟨Nat.le_refl _, Nat.le_refl _, trivial⟩
  | (k, m) :: T, h => by
    have ih := ly_bnd b T h.2
    obtain ⟨h1, h2, h3, h4, h5⟩ := h.1
    dsimp only at h1 h2 h3 h4 h5
    rw [List.length_cons]
    by_cases k0 : k = 0
    · have := (h2 k0).1
      rw [k0, ly_sem0, ly_at_c]
      simp only [ly_sE, ly_sW, ly_sL]
      exact ⟨by omega, by omega, Nat.le_refl _, ih.2.2⟩
    · by_cases k3 : k = 3
      · obtain ⟨g, s, e⟩ := ly_len1 (h3 k3).2
        have := (h3 k3).1
        rw [e, ly_at_c] at ih
        simp only [ly_sE, ly_sW, ly_sL] at ih
        rw [k3, ly_sem3 e, ly_at_c]
        simp only [ly_sE, ly_sW, ly_sL, ly_ind]
        exact ⟨by omega, by omega, by omega, ih.2.2.2⟩
      · obtain ⟨g, g', s, e⟩ := ly_len2 (h4 k0 k3)
        rw [e, ly_at_c, ly_at_c] at ih
        simp only [ly_sE, ly_sW, ly_sL] at ih
        obtain ⟨i1, i2, i3, i4, i5⟩ := ih
        rw [ly_semJ k0 k3 e, ly_at_c]
        simp only [ly_sE, ly_sW, ly_sL]
        generalize g b = x at *
        generalize g' b = y at *
        refine ⟨?_, ?_, ?_, i5⟩
        · unfold ly_op ly_jn
          split
          · split <;> omega
          · split
            · dsimp only; omega
            · dsimp only; omega
        · unfold ly_op ly_jn
          split
          · split <;> omega
          · split
            · dsimp only; split <;> omega
            · dsimp only; split <;> omega
        · unfold ly_op ly_jn
          split
          · split <;> omega
          · split
            · dsimp only; split <;> omega
            · dsimp only; split <;> omega
def ly_bd (p : ly_B) : Prop := p.1 ≤ 48 ∧ p.2.1 ≤ 1920 ∧ p.2.2 ≤ 1920
theorem ly_sBd : ∀ s : List ly_B, ly_sE s ≤ 48 → ly_sW s ≤ 1920 → ly_sL s → ∀ p, p ∈ s → ly_bd p
  | [], _, _, _, _, h => absurd h List.not_mem_nil
  | q :: s, h1, h2, h3, p, h => by
    simp only [ly_sE, ly_sW, ly_sL] at h1 h2 h3
    rcases List.mem_cons.mp h with h | h
    · rw [h]; exact ⟨by omega, by omega, by omega⟩
    · exact ly_sBd s (by omega) (by omega) h3.2 p h
theorem ly_semBd {T : List ly_T} (h : ly_ok T) (hn : T.length ≤ 48) (b : ly_W) : ∀ p, p ∈ ly_at (ly_sem T) b → ly_bd p := by
  obtain ⟨h1, h2, h3⟩ := ly_bnd b T h
  exact ly_sBd _ (by omega) (by omega) h3
theorem ly_gBd {T : List ly_T} (h : ly_ok T) (hn : T.length ≤ 48) {g : ly_G} (hg : g ∈ ly_sem T) (b : ly_W) : ly_bd (g b) :=
  ly_semBd h hn b _ (List.mem_map.mpr ⟨g, hg, rfl⟩)
end
section
/-- a document: its boxes by the ways, the front, the number of its choices -/
abbrev ly_D : Type := ly_G × List ly_B × Nat
def ly_C : List ly_D → Nat
  | [] => 0
  | d :: s => d.2.2 + ly_C s
def ly_In (g : ly_G) (lo hi : Nat) : Prop := ∀ b b' : ly_W, (∀ j, lo ≤ j → j < hi → b j = b' j) → g b = g b'
def ly_Rg (g : ly_G) (p : ly_B) : Prop := ∃ b, p = g b
def ly_Gd : List ly_D → Prop
  | [] => True
  | d :: s => (ly_Fr d.2.1 (ly_Rg d.1) ∧ d.2.1.length ≤ 2 ^ d.2.2 ∧ ly_In d.1 (ly_C s) (ly_C s + d.2.2)) ∧ ly_Gd s
theorem ly_dText (m : Nat) {s : List ly_D} (h : ly_Gd s) :
    ly_Gd ((fun _ => (0, m, m), [(0, m, m)].foldl ly_gat [], 0) :: s) := by
  refine ⟨⟨?_, Nat.le_refl _, fun _ _ _ => rfl⟩, h⟩
  refine ly_Fr_ex (ly_Fr_L [(0, m, m)]) (fun p hp => ⟨fun _ => true, List.mem_singleton.mp hp⟩) (fun p hp => ⟨p, ?_, ly_le_r p⟩)
  obtain ⟨b, e⟩ := hp
  exact List.mem_singleton.mpr e
theorem ly_dInd (m : Nat) {g : ly_G} {F : List ly_B} {c : Nat} {s : List ly_D} (h : ly_Gd ((g, F, c) :: s)) :
    ly_Gd ((fun b => ly_ind m (g b), (F.map (ly_ind m)).foldl ly_gat [], c) :: s) := by
  obtain ⟨⟨h1, h2, h3⟩, hs⟩ := h
  dsimp only at h1 h2 h3
  refine ⟨⟨?_, ?_, fun b b' hb => congrArg (ly_ind m) (h3 b b' hb)⟩, hs⟩
  · refine ly_Fr_ex (ly_Fr_L (F.map (ly_ind m))) (fun p hp => ?_) (fun p hp => ?_)
    · obtain ⟨q, hq, e⟩ := List.mem_map.mp hp
      obtain ⟨b, eb⟩ := h1.1 q hq
      exact ⟨b, by rw [← e, eb]⟩
    · obtain ⟨b, eb⟩ := hp
      obtain ⟨q, hq, hle⟩ := h1.2.1 (g b) ⟨b, rfl⟩
      exact ⟨ly_ind m q, List.mem_map.mpr ⟨q, hq, rfl⟩, by rw [eb]; exact ly_ind_mono hle⟩
  · have := ly_fold_len (F.map (ly_ind m)) []
    rw [List.length_map, List.length_nil] at this
    dsimp only
    omega
def ly_all (k : Nat) (A B : List ly_B) : List ly_B := A.flatMap (fun p => B.map (ly_jn k p))
theorem ly_all_len (k : Nat) (B : List ly_B) : ∀ A : List ly_B, (ly_all k A B).length = A.length * B.length
  | [] => by rw [List.length_nil, Nat.zero_mul]; rfl
  | p :: A => by
    have ih := ly_all_len k B A
    have e : ly_all k (p :: A) B = B.map (ly_jn k p) ++ ly_all k A B := rfl
    rw [e, List.length_append, List.length_map, ih, List.length_cons, Nat.succ_mul, Nat.add_comm]
theorem ly_all_mem {k : Nat} {A B : List ly_B} {r : ly_B} : r ∈ ly_all k A B ↔ ∃ p, p ∈ A ∧ ∃ q, q ∈ B ∧ ly_jn k p q = r := by
  rw [ly_all, List.mem_flatMap]
  constructor
  · rintro ⟨p, hp, h⟩
    obtain ⟨q, hq, e⟩ := List.mem_map.mp h
    exact ⟨p, hp, q, hq, e⟩
  · rintro ⟨p, hp, q, hq, e⟩
    exact ⟨p, hp, List.mem_map.mpr ⟨q, hq, e⟩⟩
/-- any two boxes of two documents are boxes by one way of choosing -/
theorem ly_mrg {g h : ly_G} {F H : List ly_B} {c d : Nat} {s : List ly_D} (I : ly_Gd ((h, H, d) :: (g, F, c) :: s)) {p q : ly_B} (hp : p ∈ F) (hq : q ∈ H) :
    ∃ b : ly_W, p = g b ∧ q = h b := by
  obtain ⟨⟨a1, a2, a3⟩, ⟨b1, b2, b3⟩, hs⟩ := I
  simp only [ly_C] at a1 a2 a3 b1 b2 b3
  obtain ⟨b, eb⟩ := b1.1 p hp
  obtain ⟨b', eb'⟩ := a1.1 q hq
  refine ⟨fun j => if j < ly_C s + c then b j else b' j, ?_, ?_⟩
  · rw [eb]
    refine b3 _ _ fun j _ hj => ?_
    show b j = if j < ly_C s + c then b j else b' j
    rw [if_pos hj]
  · rw [eb']
    refine a3 _ _ fun j hj _ => ?_
    show b' j = if j < ly_C s + c then b j else b' j
    rw [if_neg (by omega)]
theorem ly_dJoin {k : Nat} (hk : k ≠ 4) (x : Nat) {g h : ly_G} {F H : List ly_B} {c d : Nat} {s : List ly_D} (I : ly_Gd ((h, H, d) :: (g, F, c) :: s)) :
    ly_Gd ((fun b => ly_op k (b x) (g b) (h b), (ly_all k F H).foldl ly_gat [], d + c) :: s) := by
  have I' := I
  obtain ⟨⟨a1, a2, a3⟩, ⟨b1, b2, b3⟩, hs⟩ := I
  simp only [ly_C] at a1 a2 a3 b1 b2 b3
  have eo : ∀ b : ly_W, ly_op k (b x) (g b) (h b) = ly_jn k (g b) (h b) := fun b => if_neg hk
  refine ⟨⟨?_, ?_, fun b b' hb => ?_⟩, hs⟩
  · refine ly_Fr_ex (ly_Fr_L (ly_all k F H)) (fun p hp => ?_) (fun p hp => ?_)
    · obtain ⟨q, hq, r, hr, e⟩ := ly_all_mem.mp hp
      obtain ⟨b, eb, eb'⟩ := ly_mrg I' hq hr
      refine ⟨b, ?_⟩
      dsimp only
      rw [eo, ← e, eb, eb']
    · obtain ⟨b, eb⟩ := hp
      dsimp only at eb
      rw [eo] at eb
      obtain ⟨q, hq, hle⟩ := b1.2.1 (g b) ⟨b, rfl⟩
      obtain ⟨r, hr, hle'⟩ := a1.2.1 (h b) ⟨b, rfl⟩
      exact ⟨ly_jn k q r, ly_all_mem.mpr ⟨q, hq, r, hr, rfl⟩, by rw [eb]; exact ly_jn_mono hle hle'⟩
  · have := ly_fold_len (ly_all k F H) []
    rw [ly_all_len, List.length_nil] at this
    have h4 : F.length * H.length ≤ 2 ^ c * 2 ^ d := Nat.mul_le_mul b2 a2
    rw [← Nat.pow_add, Nat.add_comm c d] at h4
    dsimp only
    omega
  · dsimp only
    rw [eo, eo, b3 b b' (fun j h1 h2 => hb j h1 (by dsimp only; omega)), a3 b b' (fun j h1 h2 => hb j (by omega) (by dsimp only; omega))]
theorem ly_dEither {g h : ly_G} {F H : List ly_B} {c d : Nat} {s : List ly_D} (I : ly_Gd ((h, H, d) :: (g, F, c) :: s)) :
    ly_Gd ((fun b => ly_op 4 (b (ly_C ((h, H, d) :: (g, F, c) :: s))) (g b) (h b), (F.map (ly_ind 0) ++ H.map (ly_ind 0)).foldl ly_gat [], d + c + 1) :: s) := by
  obtain ⟨⟨a1, a2, a3⟩, ⟨b1, b2, b3⟩, hs⟩ := I
  simp only [ly_C] at a1 a2 a3 b1 b2 b3 ⊢
  have eF : F.map (ly_ind 0) = F := (List.map_congr_left (fun p _ => ly_ind0 p)).trans (List.map_id _)
  have eH : H.map (ly_ind 0) = H := (List.map_congr_left (fun p _ => ly_ind0 p)).trans (List.map_id _)
  rw [eF, eH]
  have eo : ∀ (z : Bool) (p q : ly_B), ly_op 4 z p q = if z = true then q else p := fun _ _ _ => rfl
  refine ⟨⟨?_, ?_, fun b b' hb => ?_⟩, hs⟩
  · refine ly_Fr_ex (ly_Fr_L (F ++ H)) (fun p hp => ?_) (fun p hp => ?_)
    · rcases List.mem_append.mp hp with hp | hp
      · obtain ⟨b, eb⟩ := b1.1 p hp
        refine ⟨fun j => if j = d + (c + ly_C s) then false else b j, ?_⟩
        dsimp only
        rw [eo, if_pos rfl, if_neg Bool.false_ne_true, eb]
        refine b3 _ _ fun j _ hj => ?_
        show b j = if j = d + (c + ly_C s) then false else b j
        rw [if_neg (by omega)]
      · obtain ⟨b, eb⟩ := a1.1 p hp
        refine ⟨fun j => if j = d + (c + ly_C s) then true else b j, ?_⟩
        dsimp only
        rw [eo, if_pos rfl, if_pos rfl, eb]
        refine a3 _ _ fun j _ hj => ?_
        show b j = if j = d + (c + ly_C s) then true else b j
        rw [if_neg (by omega)]
    · obtain ⟨b, eb⟩ := hp
      dsimp only at eb
      rw [eo] at eb
      by_cases hz : b (d + (c + ly_C s)) = true
      · rw [if_pos hz] at eb
        obtain ⟨r, hr, hle⟩ := a1.2.1 (h b) ⟨b, rfl⟩
        exact ⟨r, List.mem_append_right _ hr, by rw [eb]; exact hle⟩
      · rw [if_neg hz] at eb
        obtain ⟨r, hr, hle⟩ := b1.2.1 (g b) ⟨b, rfl⟩
        exact ⟨r, List.mem_append_left _ hr, by rw [eb]; exact hle⟩
  · have := ly_fold_len (F ++ H) []
    rw [List.length_append, List.length_nil] at this
    have h1 : 2 ^ c ≤ 2 ^ (d + c) := Nat.pow_le_pow_right (by decide) (by omega)
    have h2 : 2 ^ d ≤ 2 ^ (d + c) := Nat.pow_le_pow_right (by decide) (by omega)
    have h3 : 2 ^ (d + c + 1) = 2 ^ (d + c) * 2 := Nat.pow_succ _ _
    dsimp only
    omega
  · dsimp only at hb ⊢
    rw [eo, eo, hb (d + (c + ly_C s)) (by omega) (by omega), b3 b b' (fun j h1 h2 => hb j h1 (by omega)), a3 b b' (fun j h1 h2 => hb j (by omega) (by omega))]
theorem ly_Gd_C : ∀ (P s : List ly_D), ly_C (P ++ s) = ly_C P + ly_C s
  | [], s => (Nat.zero_add _).symm
  | d :: P, s => by
    show d.2.2 + ly_C (P ++ s) = d.2.2 + ly_C P + ly_C s
    rw [ly_Gd_C P s]; omega
theorem ly_Gd_drop : ∀ (P s : List ly_D), ly_Gd (P ++ s) → ly_Gd s
  | [], _, h => h
  | _ :: P, s, h => ly_Gd_drop P s h.2
theorem ly_bits : ∀ (n : Nat) (b : ly_W), ∃ w, w < 2 ^ n ∧ ∀ j, j < n → w.testBit j = b j
  | 0, _ => ⟨0, by decide, fun j hj => absurd hj (by omega)⟩
  | n + 1, b => by
    obtain ⟨w, hw, h⟩ := ly_bits n b
    have h2 : 2 ^ (n + 1) = 2 ^ n * 2 := Nat.pow_succ _ _
    cases hb : b n with
    | false =>
      refine ⟨w, by omega, fun j hj => ?_⟩
      by_cases e : j = n
      · rw [e, hb]; exact Nat.testBit_lt_two_pow hw
      · exact h j (by omega)
    | true =>
      refine ⟨2 ^ n + w, by omega, fun j hj => ?_⟩
      by_cases e : j = n
      · rw [e, hb, Nat.testBit_two_pow_add_eq, Nat.testBit_lt_two_pow hw]; rfl
      · rw [Nat.testBit_two_pow_add_gt (by omega)]; exact h j (by omega)
def ly_bt (w : Nat) : ly_W := fun j => w.testBit j
/-- the front of a document on the stack is the front of its boxes by the ways below 2 to the choices -/
theorem ly_ways {P s : List ly_D} {g : ly_G} {F : List ly_B} {c n : Nat} (h : ly_Gd (P ++ (g, F, c) :: s)) (hn : ly_C (P ++ (g, F, c) :: s) = n) :
    ly_Fr F (fun p => p ∈ (List.range (2 ^ n)).map (fun w => g (ly_bt w))) := by
  obtain ⟨⟨h1, h2, h3⟩, hs⟩ := ly_Gd_drop _ _ h
  rw [ly_Gd_C] at hn
  simp only [ly_C] at hn h1 h2 h3
  refine ly_Fr_ex h1 (fun p hp => ?_) (fun p hp => ⟨p, ?_, ly_le_r p⟩)
  · obtain ⟨b, eb⟩ := hp
    obtain ⟨w, hw, hb⟩ := ly_bits n b
    refine List.mem_map.mpr ⟨w, List.mem_range.mpr hw, ?_⟩
    rw [eb]
    exact h3 _ _ fun j _ hj => hb j (by omega)
  · obtain ⟨w, _, e⟩ := List.mem_map.mp hp
    exact ⟨ly_bt w, e.symm⟩
end
section
/-- the three arrays hold the boxes of the list from o on -/
def ly_Rp (a b c : Nat → Int32) : Nat → List ly_B → Prop
  | _, [] => True
  | o, p :: L => (a o = nI p.1 ∧ b o = nI p.2.1 ∧ c o = nI p.2.2) ∧ ly_Rp a b c (o + 1) L
theorem ly_Rp_cg {a b c a' b' c' : Nat → Int32} : ∀ (L : List ly_B) (o : Nat),
    (∀ j, o ≤ j → j < o + L.length → a' j = a j ∧ b' j = b j ∧ c' j = c j) → ly_Rp a b c o L → ly_Rp a' b' c' o L
  | [], _, _, _ => trivial
  | p :: L, o, h, H => by
    rw [List.length_cons] at h
    obtain ⟨e1, e2, e3⟩ := h o (Nat.le_refl _) (by omega)
    refine ⟨⟨e1.trans H.1.1, e2.trans H.1.2.1, e3.trans H.1.2.2⟩, ?_⟩
    exact ly_Rp_cg L (o + 1) (fun j h1 h2 => h j (by omega) (by omega)) H.2
theorem ly_Rp_app {a b c : Nat → Int32} (M : List ly_B) : ∀ (L : List ly_B) (o : Nat),
    ly_Rp a b c o L → ly_Rp a b c (o + L.length) M → ly_Rp a b c o (L ++ M)
  | [], _, _, h => h
  | p :: L, o, H, h => by
    refine ⟨H.1, ly_Rp_app M L (o + 1) H.2 ?_⟩
    have e : o + (p :: L).length = o + 1 + L.length := by rw [List.length_cons]; omega
    rw [e] at h
    exact h
theorem ly_Rp_snoc {a b c : Nat → Int32} {o k : Nat} {L : List ly_B} (p : ly_B) (H : ly_Rp a b c o L) (hk : k = o + L.length) :
    ly_Rp (upd a k (nI p.1)) (upd b k (nI p.2.1)) (upd c k (nI p.2.2)) o (L ++ [p]) := by
  refine ly_Rp_app [p] L o (ly_Rp_cg L o (fun j _ h2 => ?_) H) ?_
  · exact ⟨pk_un (by omega), pk_un (by omega), pk_un (by omega)⟩
  · rw [← hk]
    exact ⟨⟨pk_us, pk_us, pk_us⟩, trivial⟩
theorem ly_Rp_out {a b c : Nat → Int32} {o k : Nat} {L : List ly_B} {x y z : Int32} (H : ly_Rp a b c o L) (hk : k < o ∨ o + L.length ≤ k) :
    ly_Rp (upd a k x) (upd b k y) (upd c k z) o L :=
  ly_Rp_cg L o (fun j _ _ => ⟨pk_un (by omega), pk_un (by omega), pk_un (by omega)⟩) H
theorem ly_Rp_fn {a b c : Nat → Int32} {f : Nat → ly_B} : ∀ (n o : Nat), (∀ j, o ≤ j → j < o + n → a j = nI (f j).1 ∧ b j = nI (f j).2.1 ∧ c j = nI (f j).2.2) →
    ly_Rp a b c o ((List.range' o n).map f)
  | 0, _, _ => trivial
  | n + 1, o, h => ⟨h o (Nat.le_refl _) (by omega), ly_Rp_fn n (o + 1) fun j h1 h2 => h j (by omega) (by omega)⟩
/-- a stack of boxes (its top first) in the reference's arrays -/
def ly_Sk (a b c : Nat → Int32) : List ly_B → Prop
  | [] => True
  | p :: s => (a s.length = nI p.1 ∧ b s.length = nI p.2.1 ∧ c s.length = nI p.2.2) ∧ ly_Sk a b c s
theorem ly_Sk_cg {a b c a' b' c' : Nat → Int32} : ∀ s : List ly_B, (∀ j, j < s.length → a' j = a j ∧ b' j = b j ∧ c' j = c j) → ly_Sk a b c s → ly_Sk a' b' c' s
  | [], _, _ => trivial
  | p :: s, h, H => by
    rw [List.length_cons] at h
    obtain ⟨e1, e2, e3⟩ := h s.length (by omega)
    exact ⟨⟨e1.trans H.1.1, e2.trans H.1.2.1, e3.trans H.1.2.2⟩, ly_Sk_cg s (fun j hj => h j (by omega)) H.2⟩
theorem ly_Sk_drop {a b c : Nat → Int32} : ∀ (r s : List ly_B), ly_Sk a b c (r ++ s) → ly_Sk a b c s
  | [], _, h => h
  | _ :: r, s, h => ly_Sk_drop r s h.2
/-- the tokens (the newest first) in the reference's arrays -/
def ly_Tk (cd ag : Nat → Int32) : List ly_T → Prop
  | [] => True
  | t :: T => (cd T.length = nI t.1 ∧ (t.1 = 0 ∨ t.1 = 3 → ag T.length = nI t.2)) ∧ ly_Tk cd ag T
theorem ly_Tk_upd {cd ag : Nat → Int32} {x y : Int32} {n : Nat} : ∀ T : List ly_T, T.length ≤ n → ly_Tk cd ag T → ly_Tk (upd cd n x) (upd ag n y) T
  | [], _, _ => trivial
  | t :: T, h, H => by
    rw [List.length_cons] at h
    refine ⟨⟨(pk_un (by omega)).trans H.1.1, fun z => (pk_un (by omega)).trans (H.1.2 z)⟩, ly_Tk_upd T (by omega) H.2⟩
/-- the documents (the top first) in the component's arrays -/
def ly_Dk (n a b c : Nat → Int32) : List ly_D → Prop
  | [] => True
  | d :: s => (n s.length = nI d.2.1.length ∧ d.2.1.length ≤ 64 ∧ ly_Rp a b c (64 * s.length) d.2.1) ∧ ly_Dk n a b c s
theorem ly_Dk_cg {n a b c n' a' b' c' : Nat → Int32} : ∀ s : List ly_D, (∀ j, j < s.length → n' j = n j) →
    (∀ j, j < 64 * s.length → a' j = a j ∧ b' j = b j ∧ c' j = c j) → ly_Dk n a b c s → ly_Dk n' a' b' c' s
  | [], _, _, _ => trivial
  | d :: s, h1, h2, H => by
    rw [List.length_cons] at h1 h2
    have := H.1.2.1
    refine ⟨⟨(h1 s.length (by omega)).trans H.1.1, H.1.2.1, ly_Rp_cg _ _ (fun j _ hj => h2 j (by omega)) H.1.2.2⟩, ?_⟩
    exact ly_Dk_cg s (fun j hj => h1 j (by omega)) (fun j hj => h2 j (by omega)) H.2
theorem ly_Dk_drop {n a b c : Nat → Int32} : ∀ (P s : List ly_D), ly_Dk n a b c (P ++ s) → ly_Dk n a b c s
  | [], _, h => h
  | _ :: P, s, h => ly_Dk_drop P s h.2
theorem ly_cut {α : Type} : ∀ (L : List α) (k : Nat), k < L.length → ∃ (P : List α) (d : α) (s : List α), L = P ++ d :: s ∧ P.length = k
  | [], k, h => absurd h (Nat.not_lt_zero k)
  | d :: L, 0, _ => ⟨[], d, L, rfl, rfl⟩
  | d :: L, k + 1, h => by
    obtain ⟨P, e, s, hL, hk⟩ := ly_cut L k (Nat.lt_of_succ_lt_succ h)
    exact ⟨d :: P, e, s, by rw [hL]; rfl, by rw [List.length_cons, hk]⟩
/-- an answer: -1 for none -/
def ly_en : Option Nat → Int32
  | none => -1
  | some m => nI m
def ly_ob (o : Option Nat) : Prop := ∀ m, o = some m → m < 2 ^ 31
theorem ly_ob0 : ly_ob none := fun _ h => (nomatch h)
theorem ly_ob_stp {q : ly_B → Bool} {v : ly_B → Nat} {o : Option Nat} {p : ly_B} (h : ly_ob o) (hp : v p < 2 ^ 31) : ly_ob (ly_stp q v o p) := by
  intro m e
  cases hq : q p with
  | false => rw [ly_stp_f hq] at e; exact h m e
  | true =>
    rw [ly_stp_t hq] at e
    cases o with
    | none => cases e; exact hp
    | some k =>
      have h0 := h k rfl
      have e' : (if v p < k then some (v p) else some k) = some m := e
      split at e'
      · cases e'; exact hp
      · cases e'; exact h0
end
section
section
variable {post : SX → Prop} {ft fc fd : Int32} {cnt e w l : Nat → Int32}
theorem ly_xg3 {a b c : Nat → Int32} {p : ly_B} {g : Nat} (hp : ly_bd p) (hg : g ≤ 64) : ∀ (B : List ly_B) (k n : Nat),
    ly_Rp a b c k B → (∀ q, q ∈ B → ly_bd q) → k + B.length = g → B.length < n →
    (B.any (fun q => ly_le q p) = true → post (ft, fc, fd, nI g, cnt, e, w, l, a, b, c)) →
    (B.any (fun q => ly_le q p) = false → ∃ n58, wX_gather_58 post (nI p.1) (nI p.2.1) (nI p.2.2) ft fc fd (nI g) n58 0 0 cnt e w l a b c) →
    wX_gather_3 post (nI p.1) (nI p.2.1) (nI p.2.2) ft fc fd (nI g) cnt e w l a b c n (nI k)
  | _, _, 0, _, _, _, hn, _, _ => absurd hn (Nat.not_lt_zero _)
  | [], k, n + 1, _, _, hk, _, _, hF => br_t (nI_le (by rw [List.length_nil] at hk; omega) (by rw [List.length_nil] at hk; omega)) (hF rfl)
  | q :: B, k, n + 1, H, hb, hk, hn, hT, hF => by
    rw [List.length_cons] at hk hn
    obtain ⟨⟨e1, e2, e3⟩, HB⟩ := H
    obtain ⟨p1, p2, p3⟩ := hp
    obtain ⟨q1, q2, q3⟩ := hb q List.mem_cons_self
    have hi : vp_in (nI k) 65 := vp_in_nI (by omega) (by omega)
    have hc : (nI k).toNatClampNeg = k := nI_clamp (by omega)
    have nx : ly_le q p = false → wX_gather_3 post (nI p.1) (nI p.2.1) (nI p.2.2) ft fc fd (nI g) cnt e w l a b c n (nI (k + 1)) := by
      intro hq
      have ea : (q :: B).any (fun q => ly_le q p) = B.any (fun q => ly_le q p) := by rw [List.any_cons, hq, Bool.false_or]
      rw [ea] at hT hF
      exact ly_xg3 ⟨p1, p2, p3⟩ hg B (k + 1) n HB (fun r hr => hb r (List.mem_cons_of_mem _ hr)) (by omega) (by omega) hT hF
    refine br_f (nI_ge (by omega) (by omega)) ⟨hi, ?_⟩
    rw [hc, e1]
    refine pk_lt p.1 q.1 (fun h => nm_r (nI_1 k) (nx (ly_le_n.mpr (by omega)))) (fun h1 => ⟨hi, ?_⟩)
    rw [e2]
    refine pk_lt p.2.1 q.2.1 (fun h => nm_r (nI_1 k) (nx (ly_le_n.mpr (by omega)))) (fun h2 => ⟨hi, ?_⟩)
    rw [e3]
    refine pk_lt p.2.2 q.2.2 (fun h => nm_r (nI_1 k) (nx (ly_le_n.mpr (by omega)))) (fun h3 => hT ?_)
    rw [List.any_cons, ly_le_iff.mpr ⟨h1, h2, h3⟩, Bool.true_or]
theorem ly_xg58 {p : ly_B} {g : Nat} (hp : ly_bd p) (hg : g ≤ 64) : ∀ (B A : List ly_B) (a b c : Nat → Int32) (k n : Nat),
    ly_Rp a b c 0 A → ly_Rp a b c k B → (∀ q, q ∈ B → ly_bd q) → A.length ≤ k → k + B.length = g → B.length < n →
    (∀ a' b' c' : Nat → Int32, ly_Rp a' b' c' 0 (A ++ (B.filter (fun q => !ly_le p q) ++ [p])) →
      post (ft, fc, fd, nI (A ++ (B.filter (fun q => !ly_le p q) ++ [p])).length, cnt, e, w, l, a', b', c')) →
    wX_gather_58 post (nI p.1) (nI p.2.1) (nI p.2.2) ft fc fd (nI g) n (nI A.length) (nI k) cnt e w l a b c
  | _, _, _, _, _, _, 0, _, _, _, _, _, hn, _ => absurd hn (Nat.not_lt_zero _)
  | [], A, a, b, c, k, n + 1, HA, _, _, hA, hk, _, K => by
    rw [List.length_nil] at hk
    have hi : vp_in (nI A.length) 65 := vp_in_nI (by omega) (by omega)
    have hc : (nI A.length).toNatClampNeg = A.length := nI_clamp (by omega)
    have hl : nI (A ++ (([] : List ly_B).filter (fun q => !ly_le p q) ++ [p])).length = nI A.length + 1 := by
      rw [nI_1]; exact congrArg nI (List.length_append)
    have K' := K (upd a A.length (nI p.1)) (upd b A.length (nI p.2.1)) (upd c A.length (nI p.2.2)) (ly_Rp_snoc p HA (Nat.zero_add _).symm)
    rw [hl] at K'
    refine br_t (nI_le (by omega) (by omega)) ⟨hi, nm_e ⟨hi, nm_e ⟨hi, nm_e (nm_e ?_)⟩⟩⟩
    rw [hc]
    exact K'
  | q :: B, A, a, b, c, k, n + 1, HA, HB, hb, hA, hk, hn, K => by
    rw [List.length_cons] at hk hn
    obtain ⟨⟨e1, e2, e3⟩, HB⟩ := HB
    obtain ⟨p1, p2, p3⟩ := hp
    obtain ⟨q1, q2, q3⟩ := hb q List.mem_cons_self
    have hi : vp_in (nI k) 65 := vp_in_nI (by omega) (by omega)
    have hc : (nI k).toNatClampNeg = k := nI_clamp (by omega)
    have hi4 : vp_in (nI A.length) 65 := vp_in_nI (by omega) (by omega)
    have hc4 : (nI A.length).toNatClampNeg = A.length := nI_clamp (by omega)
    have kp : ly_le p q = false → wX_gather_104 post (wX_gather_58 post (nI p.1) (nI p.2.1) (nI p.2.2) ft fc fd (nI g) n) (nI p.1) (nI p.2.1) (nI p.2.2) (nI A.length) (nI k) ft fc fd (nI g) cnt e w l a b c := by
      intro hq
      have ef : (q :: B).filter (fun q => !ly_le p q) = q :: B.filter (fun q => !ly_le p q) := List.filter_cons_of_pos (by rw [hq]; rfl)
      rw [ef] at K
      have ea : A ++ (q :: B.filter (fun q => !ly_le p q) ++ [p]) = (A ++ [q]) ++ (B.filter (fun q => !ly_le p q) ++ [p]) := by
        rw [List.append_assoc]; rfl
      rw [ea] at K
      have R := ly_xg58 ⟨p1, p2, p3⟩ hg B (A ++ [q]) (upd a A.length (nI q.1)) (upd b A.length (nI q.2.1)) (upd c A.length (nI q.2.2)) (k + 1) n
        (ly_Rp_snoc q HA (Nat.zero_add _).symm) (ly_Rp_out HB (Or.inl (by omega))) (fun r hr => hb r (List.mem_cons_of_mem _ hr))
        (by rw [List.length_append]; exact Nat.succ_le_succ hA) (by omega) (by omega) K
      have el : nI A.length + 1 = nI (A ++ [q]).length := by rw [nI_1]; rw [List.length_append]; rfl
      refine br_t rfl ⟨hi, hi4, nm_e ⟨hi, hi4, nm_e ⟨hi, hi4, nm_e (nm_r el (nm_r (nI_1 k) ?_))⟩⟩⟩
      rw [hc, hc4, e1, e2, e3]
      exact R
    refine br_f (nI_ge (by omega) (by omega)) ⟨hi, ?_⟩
    rw [hc, e1]
    refine pk_lt q.1 p.1 (fun h => kp (ly_le_n.mpr (by omega))) (fun h1 => ⟨hi, ?_⟩)
    rw [e2]
    refine pk_lt q.2.1 p.2.1 (fun h => kp (ly_le_n.mpr (by omega))) (fun h2 => ⟨hi, ?_⟩)
    rw [e3]
    refine pk_lt q.2.2 p.2.2 (fun h => kp (ly_le_n.mpr (by omega))) (fun h3 => ?_)
    have ef : (q :: B).filter (fun q => !ly_le p q) = B.filter (fun q => !ly_le p q) := List.filter_cons_of_neg (by rw [ly_le_iff.mpr ⟨h1, h2, h3⟩]; decide)
    rw [ef] at K
    refine br_f (by decide) (nm_r (nI_1 k) ?_)
    exact ly_xg58 ⟨p1, p2, p3⟩ hg B A a b c (k + 1) n HA HB (fun r hr => hb r (List.mem_cons_of_mem _ hr)) (by omega) (by omega) (by omega) K
/-- gather puts the box into the list -/
theorem ly_xgat {a b c : Nat → Int32} {G : List ly_B} {p : ly_B} {x y z fg : Int32} (HG : ly_Rp a b c 0 G) (hb : ∀ q, q ∈ G → ly_bd q) (hp : ly_bd p)
    (hl : G.length ≤ 64) (hg : fg = nI G.length) (hx : x = nI p.1) (hy : y = nI p.2.1) (hz : z = nI p.2.2)
    (K : ∀ a' b' c' : Nat → Int32, ly_Rp a' b' c' 0 (ly_gat G p) → post (ft, fc, fd, nI (ly_gat G p).length, cnt, e, w, l, a', b', c')) :
    wpX_gather post (ft, fc, fd, fg, cnt, e, w, l, a, b, c) x y z := by
  subst hg hx hy hz
  refine ⟨G.length + 1, ?_⟩
  refine ly_xg3 hp hl G 0 (G.length + 1) HG hb (Nat.zero_add _) (Nat.lt_succ_self _) (fun h => ?_) (fun h => ⟨G.length + 1, ?_⟩)
  · rw [ly_gat_t h] at K
    exact K a b c HG
  · rw [ly_gat_f h] at K
    exact ly_xg58 hp hl G [] a b c 0 (G.length + 1) trivial HG hb (Nat.le_refl _) (Nat.zero_add _) (Nat.lt_succ_self _) K
end
end
section
section
variable {post : SX → Prop} {ft fc fd : Int32} {cnt e w l : Nat → Int32}
theorem ly_gat_bd {G : List ly_B} {p : ly_B} (h : ∀ q, q ∈ G → ly_bd q) (hp : ly_bd p) : ∀ q, q ∈ ly_gat G p → ly_bd q := by
  intro q hq
  rcases ly_gat_mem hq with hq | hq
  · exact h q hq
  · rw [hq]; exact hp
theorem ly_64 (i : Nat) : (64 : Int32) * nI i = nI (64 * i) := pk_mul 64 i
theorem ly_xind5 {i m f : Nat} (hi : i < 10) (hf : f ≤ 64) (hc : cnt i = nI f) : ∀ (B : List ly_B) (G : List ly_B) (a b c : Nat → Int32) (k n : Nat),
    k + B.length = 64 * i + f → ly_Rp e w l k B → (∀ q, q ∈ B → ly_bd (ly_ind m q)) → ly_Rp a b c 0 G → (∀ q, q ∈ G → ly_bd q) →
    G.length + B.length ≤ 64 → B.length < n →
    (∀ a' b' c' : Nat → Int32, ly_Rp a' b' c' 0 ((B.map (ly_ind m)).foldl ly_gat G) →
      post (ft, fc, fd, nI ((B.map (ly_ind m)).foldl ly_gat G).length, cnt, e, w, l, a', b', c')) →
    wX_indent_5 post (nI i) (nI m) n (nI k) ft fc fd (nI G.length) cnt e w l a b c
  | _, _, _, _, _, _, 0, _, _, _, _, _, _, hn, _ => absurd hn (Nat.not_lt_zero _)
  | [], G, a, b, c, k, n + 1, hk, _, _, HG, _, _, _, K => by
    rw [List.length_nil] at hk
    have hci : (nI i).toNatClampNeg = i := nI_clamp (by omega)
    refine And.intro (vp_in_nI hi (by omega)) ?_
    rw [hci, hc, ly_64, nI_add]
    exact br_t (nI_le (by omega) (by omega)) (K a b c HG)
  | q :: B, G, a, b, c, k, n + 1, hk, HB, hb, HG, hbG, hl, hn, K => by
    rw [List.length_cons] at hk hn hl
    obtain ⟨⟨e1, e2, e3⟩, HB⟩ := HB
    have hci : (nI i).toNatClampNeg = i := nI_clamp (by omega)
    have hck : (nI k).toNatClampNeg = k := nI_clamp (by omega)
    have hik : vp_in (nI k) 640 := vp_in_nI (by omega) (by omega)
    refine And.intro (vp_in_nI hi (by omega)) ?_
    rw [hci, hc, ly_64, nI_add]
    refine br_f (nI_ge (by omega) (by omega)) ⟨hik, hik, hik, ?_⟩
    have hbq := hb q List.mem_cons_self
    refine ly_xgat (p := ly_ind m q) HG hbG hbq (by omega) rfl (by rw [hck, e1]; rfl) (by rw [hck, e2, nI_add]; rfl) (by rw [hck, e3, nI_add]; rfl) ?_
    intro a' b' c' H'
    have hl' := ly_gat_len G (ly_ind m q)
    refine nm_r (nI_1 k) ?_
    exact ly_xind5 hi hf hc B (ly_gat G (ly_ind m q)) a' b' c' (k + 1) n (by omega) HB (fun r hr => hb r (List.mem_cons_of_mem _ hr)) H'
      (ly_gat_bd hbG hbq) (by omega) (by omega) K
theorem ly_xind {i m : Nat} {F G : List ly_B} {a b c : Nat → Int32} {x y fg : Int32} (hi : i < 10) (hf : F.length ≤ 64) (hc : cnt i = nI F.length)
    (HF : ly_Rp e w l (64 * i) F) (hb : ∀ q, q ∈ F → ly_bd (ly_ind m q)) (HG : ly_Rp a b c 0 G) (hbG : ∀ q, q ∈ G → ly_bd q)
    (hl : G.length + F.length ≤ 64) (hx : x = nI i) (hy : y = nI m) (hg : fg = nI G.length)
    (K : ∀ a' b' c' : Nat → Int32, ly_Rp a' b' c' 0 ((F.map (ly_ind m)).foldl ly_gat G) →
      post (ft, fc, fd, nI ((F.map (ly_ind m)).foldl ly_gat G).length, cnt, e, w, l, a', b', c')) :
    wpX_indent post (ft, fc, fd, fg, cnt, e, w, l, a, b, c) x y := by
  subst hx hy hg
  refine nm_r (ly_64 i) ⟨F.length + 1, ?_⟩
  exact ly_xind5 hi hf hc F G a b c (64 * i) (F.length + 1) rfl HF hb HG hbG hl (Nat.lt_succ_self _) K
theorem ly_xjb {k i j : Nat} {p q : ly_B} {G : List ly_B} {a b c : Nat → Int32} {x y z fg : Int32} (hk : k < 5) (hi : i < 640) (hj : j < 640)
    (hp : e i = nI p.1 ∧ w i = nI p.2.1 ∧ l i = nI p.2.2) (hq : e j = nI q.1 ∧ w j = nI q.2.1 ∧ l j = nI q.2.2)
    (bp : ly_bd p) (bq : ly_bd q) (bj : ly_bd (ly_jn k p q)) (HG : ly_Rp a b c 0 G) (hbG : ∀ q, q ∈ G → ly_bd q)
    (hl : G.length ≤ 64) (hx : x = nI k) (hy : y = nI i) (hz : z = nI j) (hg : fg = nI G.length)
    (K : ∀ a' b' c' : Nat → Int32, ly_Rp a' b' c' 0 (ly_gat G (ly_jn k p q)) →
      post (ft, fc, fd, nI (ly_gat G (ly_jn k p q)).length, cnt, e, w, l, a', b', c')) :
    wpX_joinBoxes post (ft, fc, fd, fg, cnt, e, w, l, a, b, c) x y z := by
  subst hx hy hz hg
  obtain ⟨p1, p2, p3⟩ := hp
  obtain ⟨q1, q2, q3⟩ := hq
  obtain ⟨bp1, bp2, bp3⟩ := bp
  obtain ⟨bq1, bq2, bq3⟩ := bq
  have ii : vp_in (nI i) 640 := vp_in_nI hi (by omega)
  have ij : vp_in (nI j) 640 := vp_in_nI hj (by omega)
  have ci : (nI i).toNatClampNeg = i := nI_clamp (by omega)
  have cj : (nI j).toNatClampNeg = j := nI_clamp (by omega)
  refine pk_eq k 2 (fun h => ⟨ii, ij, ?_⟩) (fun h => ⟨ii, ij, ?_⟩)
  · rw [ci, cj, p2, q2]
    refine pk_le p.2.1 q.2.1 (fun hw => ⟨ij, ?_⟩) (fun hw => ⟨ii, ?_⟩)
    · refine And.intro ii ⟨ij, ij, ?_⟩
      refine ly_xgat (p := ly_jn k p q) HG hbG bj hl rfl ?_ ?_ ?_ K
      · rw [ci, cj, p1, q1, nI_add, nI_1, ly_jn, if_pos h]
      · rw [ly_jn, if_pos h]; dsimp only; rw [if_pos hw]
      · rw [cj, q3, ly_jn, if_pos h]
    · refine And.intro ii ⟨ij, ij, ?_⟩
      refine ly_xgat (p := ly_jn k p q) HG hbG bj hl rfl ?_ ?_ ?_ K
      · rw [ci, cj, p1, q1, nI_add, nI_1, ly_jn, if_pos h]
      · rw [ly_jn, if_pos h]; dsimp only; rw [if_neg (by omega)]
      · rw [cj, q3, ly_jn, if_pos h]
  · have hs : l (nI i).toNatClampNeg + w (nI j).toNatClampNeg = nI (p.2.2 + q.2.1) := by rw [ci, cj, p3, q2, nI_add]
    refine nm_r hs ⟨ii, ij, ii, ?_⟩
    rw [ci, cj, p2]
    refine pk_le p.2.1 (p.2.2 + q.2.1) (fun hw => ?_) (fun hw => ⟨ii, ?_⟩)
    · refine And.intro ii ⟨ij, ?_⟩
      refine ly_xgat (p := ly_jn k p q) HG hbG bj hl rfl ?_ ?_ ?_ K
      · rw [p1, q1, nI_add, ly_jn, if_neg h]
      · rw [ly_jn, if_neg h]; dsimp only; rw [if_pos hw]
      · rw [ci, cj, p3, q3, nI_add, ly_jn, if_neg h]
    · refine And.intro ii ⟨ij, ?_⟩
      refine ly_xgat (p := ly_jn k p q) HG hbG bj hl rfl ?_ ?_ ?_ K
      · rw [p1, q1, nI_add, ly_jn, if_neg h]
      · rw [ly_jn, if_neg h]; dsimp only; rw [if_neg (by omega)]
      · rw [ci, cj, p3, q3, nI_add, ly_jn, if_neg h]
theorem ly_xj66 {J : Int32 → Int32 → Int32 → Int32 → Int32 → (Nat → Int32) → (Nat → Int32) → (Nat → Int32) → (Nat → Int32) → (Nat → Int32) → (Nat → Int32) → (Nat → Int32) → Prop}
    {k d f i : Nat} {p : ly_B} (hk : k < 5) (hd : d < 9) (hf : f ≤ 64) (hc : cnt (d + 1) = nI f) (hi : i < 640)
    (hp : e i = nI p.1 ∧ w i = nI p.2.1 ∧ l i = nI p.2.2) (bp : ly_bd p) : ∀ (B G : List ly_B) (a b c : Nat → Int32) (j n : Nat),
    j + B.length = 64 * d + 64 + f → ly_Rp e w l j B → (∀ q, q ∈ B → ly_bd q ∧ ly_bd (ly_jn k p q)) → ly_Rp a b c 0 G → (∀ q, q ∈ G → ly_bd q) →
    G.length + B.length ≤ 64 → B.length < n →
    (∀ a' b' c' : Nat → Int32, ly_Rp a' b' c' 0 ((B.map (ly_jn k p)).foldl ly_gat G) →
      J (nI (i + 1)) ft fc (nI d) (nI ((B.map (ly_jn k p)).foldl ly_gat G).length) cnt e w l a' b' c') →
    wX_joinTwo_66 post J (nI k) (nI i) n (nI j) ft fc (nI d) (nI G.length) cnt e w l a b c
  | _, _, _, _, _, _, 0, _, _, _, _, _, _, hn, _ => absurd hn (Nat.not_lt_zero _)
  | [], G, a, b, c, j, n + 1, hj, _, _, HG, _, _, _, K => by
    rw [List.length_nil] at hj
    have hcd : (nI d + 1).toNatClampNeg = d + 1 := by rw [nI_1]; exact nI_clamp (by omega)
    refine And.intro (by rw [nI_1]; exact vp_in_nI (by omega) (by omega)) ?_
    have hs : (64 * nI d + 64 : Int32) + cnt (nI d + 1).toNatClampNeg = nI (64 * d + 64 + f) := by
      rw [hcd, hc, ly_64, ← nI_add, ← nI_add]; rfl
    rw [hs]
    exact br_t (nI_le (by omega) (by omega)) (nm_r (nI_1 i) (K a b c HG))
  | q :: B, G, a, b, c, j, n + 1, hj, HB, hb, HG, hbG, hl, hn, K => by
    rw [List.length_cons] at hj hn hl
    obtain ⟨hq, HB⟩ := HB
    obtain ⟨bq, bj⟩ := hb q List.mem_cons_self
    have hcd : (nI d + 1).toNatClampNeg = d + 1 := by rw [nI_1]; exact nI_clamp (by omega)
    refine And.intro (by rw [nI_1]; exact vp_in_nI (by omega) (by omega)) ?_
    have hs : (64 * nI d + 64 : Int32) + cnt (nI d + 1).toNatClampNeg = nI (64 * d + 64 + f) := by
      rw [hcd, hc, ly_64, ← nI_add, ← nI_add]; rfl
    rw [hs]
    refine br_f (nI_ge (by omega) (by omega)) ?_
    refine ly_xjb hk hi (j := j) (by omega) hp hq bp bq bj HG hbG (by omega) rfl rfl rfl rfl ?_
    intro a' b' c' H'
    have hl' := ly_gat_len G (ly_jn k p q)
    refine nm_r (nI_1 j) ?_
    exact ly_xj66 hk hd hf hc hi hp bp B (ly_gat G (ly_jn k p q)) a' b' c' (j + 1) n (by omega) HB (fun r hr => hb r (List.mem_cons_of_mem _ hr)) H'
      (ly_gat_bd hbG bj) (by omega) (by omega) K
theorem ly_xj34 {k d f : Nat} {H : List ly_B} (hk : k < 5) (hd : d < 9) (hf : f ≤ 64) (hH : H.length ≤ 64) (hc : cnt d = nI f) (hc1 : cnt (d + 1) = nI H.length)
    (HH : ly_Rp e w l (64 * d + 64) H) : ∀ (A G : List ly_B) (a b c : Nat → Int32) (i n : Nat),
    i + A.length = 64 * d + f → ly_Rp e w l i A → (∀ p, p ∈ A → ly_bd p ∧ ∀ q, q ∈ H → ly_bd q ∧ ly_bd (ly_jn k p q)) → ly_Rp a b c 0 G → (∀ q, q ∈ G → ly_bd q) →
    G.length + A.length * H.length ≤ 64 → A.length < n →
    (∀ a' b' c' : Nat → Int32, ly_Rp a' b' c' 0 ((ly_all k A H).foldl ly_gat G) →
      post (ft, fc, nI d, nI ((ly_all k A H).foldl ly_gat G).length, cnt, e, w, l, a', b', c')) →
    wX_joinTwo_34 post (nI k) n (nI i) ft fc (nI d) (nI G.length) cnt e w l a b c
  | _, _, _, _, _, _, 0, _, _, _, _, _, _, hn, _ => absurd hn (Nat.not_lt_zero _)
  | [], G, a, b, c, i, n + 1, hi, _, _, HG, _, _, _, K => by
    rw [List.length_nil] at hi
    have hcd : (nI d).toNatClampNeg = d := nI_clamp (by omega)
    refine And.intro (vp_in_nI (by omega) (by omega)) ?_
    rw [hcd, hc, ly_64, nI_add]
    exact br_t (nI_le (by omega) (by omega)) (K a b c HG)
  | p :: A, G, a, b, c, i, n + 1, hi, HA, hb, HG, hbG, hl, hn, K => by
    rw [List.length_cons] at hi hn hl
    rw [Nat.succ_mul] at hl
    obtain ⟨hp, HA⟩ := HA
    obtain ⟨bp, bq⟩ := hb p List.mem_cons_self
    have hcd : (nI d).toNatClampNeg = d := nI_clamp (by omega)
    refine And.intro (vp_in_nI (by omega) (by omega)) ?_
    rw [hcd, hc, ly_64, nI_add]
    refine br_f (nI_ge (by omega) (by omega)) ?_
    refine nm_r (e' := nI (64 * d + 64)) (nI_add (64 * d) 64) ⟨H.length + 1, ?_⟩
    refine ly_xj66 hk hd hH hc1 (by omega) hp bp H G a b c (64 * d + 64) (H.length + 1) rfl HH bq HG hbG (by omega) (Nat.lt_succ_self _) ?_
    intro a' b' c' H'
    have hl' := ly_fold_len (H.map (ly_jn k p)) G
    rw [List.length_map] at hl'
    have e0 : (ly_all k (p :: A) H).foldl ly_gat G = (ly_all k A H).foldl ly_gat ((H.map (ly_jn k p)).foldl ly_gat G) := by
      show (H.map (ly_jn k p) ++ ly_all k A H).foldl ly_gat G = _
      rw [List.foldl_append]
    rw [e0] at K
    refine ly_xj34 hk hd hf hH hc hc1 HH A _ a' b' c' (i + 1) n (by omega) HA (fun r hr => hb r (List.mem_cons_of_mem _ hr)) H' ?_ (by omega) (by omega) K
    intro r hr
    rcases ly_fold_mem _ _ _ hr with hr | hr
    · exact hbG r hr
    · obtain ⟨q, hq, eq⟩ := List.mem_map.mp hr
      rw [← eq]; exact (bq q hq).2
/-- keep lays the gathered list at the depth -/
theorem ly_xk15 {d g : Nat} {a b c : Nat → Int32} (hd : d < 10) (hg : g ≤ 64) : ∀ (B A : List ly_B) (e w l : Nat → Int32) (k n : Nat),
    ly_Rp a b c k B → ly_Rp e w l (64 * d) A → A.length = k → k + B.length = g → B.length < n →
    (∀ e' w' l' : Nat → Int32, ly_Rp e' w' l' (64 * d) (A ++ B) → (∀ j, j < 64 * d → e' j = e j ∧ w' j = w j ∧ l' j = l j) →
      post (ft, fc, nI (d + 1), nI g, cnt, e', w', l', a, b, c)) →
    wX_keep_15 post ft fc (nI d) (nI g) n (nI k) cnt e w l a b c
  | _, _, _, _, _, _, 0, _, _, _, _, hn, _ => absurd hn (Nat.not_lt_zero _)
  | [], A, e, w, l, k, n + 1, _, HA, hA, hk, _, K => by
    rw [List.length_nil] at hk
    rw [List.append_nil] at K
    exact br_t (nI_le (by omega) (by omega)) (nm_r (nI_1 d) (K e w l HA (fun _ _ => ⟨rfl, rfl, rfl⟩)))
  | q :: B, A, e, w, l, k, n + 1, HB, HA, hA, hk, hn, K => by
    rw [List.length_cons] at hk hn
    obtain ⟨⟨e1, e2, e3⟩, HB⟩ := HB
    have hi : vp_in (nI k) 65 := vp_in_nI (by omega) (by omega)
    have hck : (nI k).toNatClampNeg = k := nI_clamp (by omega)
    have hs : (64 : Int32) * nI d + nI k = nI (64 * d + k) := by rw [ly_64, nI_add]
    have hj : vp_in ((64 : Int32) * nI d + nI k) 640 := by rw [hs]; exact vp_in_nI (by omega) (by omega)
    have hcj : ((64 : Int32) * nI d + nI k).toNatClampNeg = 64 * d + k := by rw [hs]; exact nI_clamp (by omega)
    have ea : A ++ q :: B = (A ++ [q]) ++ B := by rw [List.append_assoc]; rfl
    rw [ea] at K
    refine br_f (nI_ge (by omega) (by omega)) ⟨hi, hj, nm_e ⟨hi, hj, nm_e ⟨hi, hj, nm_e (nm_r (nI_1 k) ?_)⟩⟩⟩
    rw [hck, hcj, e1, e2, e3]
    refine ly_xk15 hd hg B (A ++ [q]) _ _ _ (k + 1) n HB (ly_Rp_snoc q HA (by omega)) (by rw [List.length_append]; exact congrArg Nat.succ hA) (by omega) (by omega) ?_
    intro e' w' l' H' hu
    refine K e' w' l' H' fun j hj' => ?_
    obtain ⟨u1, u2, u3⟩ := hu j hj'
    exact ⟨u1.trans (pk_un (by omega)), u2.trans (pk_un (by omega)), u3.trans (pk_un (by omega))⟩
theorem ly_xkeep {G : List ly_B} {a b c : Nat → Int32} {s : List ly_D} {g : ly_G} {h : Nat} {fg : Int32} (hs : s.length < 10) (hG : G.length ≤ 64) (HG : ly_Rp a b c 0 G)
    (HD : ly_Dk cnt e w l s) (hfd : fd = nI s.length) (hfg : fg = nI G.length)
    (K : ∀ n' e' w' l' : Nat → Int32, ly_Dk n' e' w' l' ((g, G, h) :: s) → post (ft, fc, nI (s.length + 1), nI G.length, n', e', w', l', a, b, c)) :
    wpX_keep post (ft, fc, fd, fg, cnt, e, w, l, a, b, c) := by
  subst hfd hfg
  have hc : (nI s.length).toNatClampNeg = s.length := nI_clamp (by omega)
  refine And.intro (vp_in_nI hs (by omega)) (nm_e ⟨G.length + 1, ?_⟩)
  rw [hc]
  refine ly_xk15 hs hG G [] e w l 0 (G.length + 1) HG trivial rfl (Nat.zero_add _) (Nat.lt_succ_self _) ?_
  intro e' w' l' H' hu
  refine K _ e' w' l' ⟨⟨pk_us, hG, H'⟩, ?_⟩
  exact ly_Dk_cg s (fun j hj => pk_un (by omega)) hu HD
end
end
section
def ly_Acc (k : Nat) (v : Int32) (t c d : Nat) : Prop :=
  t < 48 ∧ (k = 0 → d < 10 ∧ ¬ v < 0 ∧ ¬ 40 < v) ∧ (k = 3 → 1 ≤ d ∧ ¬ v < 0 ∧ ¬ 20 < v) ∧ (k ≠ 0 → k ≠ 3 → 2 ≤ d) ∧ (k = 4 → c < 6)
def ly_tk (k : Nat) : Nat := if k = 0 then 0 else if k = 3 then 1 else 2
section
variable {post : Int32 → SX → Prop} {ft fc fd fg : Int32} {cnt e w l a b c : Nat → Int32}
theorem ly_xhd {pst : Int32 → Prop} {k d : Nat} (hk : k ≤ 4) (hd : d ≤ 10)
    (h1 : (k = 0 → d < 10) ∧ (k = 3 → 1 ≤ d) ∧ (k ≠ 0 → k ≠ 3 → 2 ≤ d) → pst 1)
    (h0 : ¬ ((k = 0 → d < 10) ∧ (k = 3 → 1 ≤ d) ∧ (k ≠ 0 → k ≠ 3 → 2 ≤ d)) → pst 0) :
    wpX_hasDocuments pst (ft, fc, nI d, fg, cnt, e, w, l, a, b, c) (nI k) := by
  refine pk_eq k 0 (fun k0 => ?_) (fun k0 => ?_)
  · exact pk_le 10 d (fun h => h0 (by omega)) (fun h => h1 (by omega))
  · refine pk_eq k 3 (fun k3 => ?_) (fun k3 => ?_)
    · exact pk_lt d 1 (fun h => h0 (by omega)) (fun h => h1 (by omega))
    · exact pk_lt d 2 (fun h => h0 (by omega)) (fun h => h1 (by omega))
theorem ly_xtok {k t d ch : Nat} {v : Int32} (hk : k ≤ 4) (ht : t ≤ 48) (hd : d ≤ 10) (hch : ch ≤ 6)
    (hA : ly_Acc k v t ch d → wX_token_73 post (nI k) v (nI t) (nI ch) (nI d) fg cnt e w l a b c)
    (hR : ¬ ly_Acc k v t ch d → post (-1) (nI t, nI ch, nI d, fg, cnt, e, w, l, a, b, c)) :
    wpX_token post (nI t, nI ch, nI d, fg, cnt, e, w, l, a, b, c) (nI k) v := by
  refine br_f (nI_pos (by omega)) (br_f (nI_nlt (a := 4) (by omega) (by decide)) ?_)
  refine pk_le 48 t (fun h => hR fun A => by have := A.1; omega) (fun ht' => ?_)
  refine ly_xhd hk hd (fun hD => ?_) (fun hD => br_t rfl (hR fun A => hD ⟨fun z => (A.2.1 z).1, fun z => (A.2.2.1 z).1, A.2.2.2.1⟩))
  refine br_f (by decide) ?_
  obtain ⟨D0, D3, D2⟩ := hD
  have h57 : (k = 0 → ¬ v < 0 ∧ ¬ 40 < v) → (k = 3 → ¬ v < 0 ∧ ¬ 20 < v) → wX_token_57 post (nI k) v (nI t) (nI ch) (nI d) fg cnt e w l a b c := by
    intro g0 g3
    refine pk_eq k 4 (fun k4 => ?_) (fun k4 => hA ⟨ht', fun z => ⟨D0 z, g0 z⟩, fun z => ⟨D3 z, g3 z⟩, D2, fun z => absurd z k4⟩)
    exact pk_lt ch 6 (fun h => hA ⟨ht', fun z => ⟨D0 z, g0 z⟩, fun z => ⟨D3 z, g3 z⟩, D2, fun _ => h⟩) (fun h => hR fun A => by have := A.2.2.2.2 k4; omega)
  have h42 : (k = 0 → ¬ v < 0 ∧ ¬ 40 < v) → wX_token_42 post (nI k) v (nI t) (nI ch) (nI d) fg cnt e w l a b c := by
    intro g0
    refine pk_eq k 3 (fun k3 => ?_) (fun k3 => h57 g0 (fun z => absurd z k3))
    exact br_c (fun h => hR fun A => (A.2.2.1 k3).2.1 h) (fun n0 => br_c (fun h => hR fun A => (A.2.2.1 k3).2.2 h) (fun n1 => h57 g0 (fun _ => ⟨n0, n1⟩)))
  refine pk_eq k 0 (fun k0 => ?_) (fun k0 => h42 (fun z => absurd z k0))
  exact br_c (fun h => hR fun A => (A.2.1 k0).2.1 h) (fun n0 => br_c (fun h => hR fun A => (A.2.1 k0).2.2 h) (fun n1 => h42 (fun _ => ⟨n0, n1⟩)))
theorem ly_x163 {G : List ly_B} {s : List ly_D} (g : ly_G) (h : Nat) (hs : s.length < 10) (hG : G.length ≤ 64) (HG : ly_Rp a b c 0 G)
    (HD : ly_Dk cnt e w l s) (hfd : fd = nI s.length) (hfg : fg = nI G.length)
    (K : ∀ n' e' w' l' : Nat → Int32, ly_Dk n' e' w' l' ((g, G, h) :: s) → post (nI (s.length + 1)) (ft, fc, nI (s.length + 1), nI G.length, n', e', w', l', a, b, c)) :
    wX_token_163 post ft fc fd fg cnt e w l a b c := by
  unfold wX_token_163
  refine ly_xkeep (g := g) (h := h) hs hG HG HD hfd hfg ?_
  intro n' e' w' l' H
  exact K n' e' w' l' H
theorem ly_xt0 {m t : Nat} {s : List ly_D} (g : ly_G) (h : Nat) (hm : m ≤ 40) (hs : s.length < 10) (HD : ly_Dk cnt e w l s)
    (K : ∀ fg' n' e' w' l' a' b' c', ly_Dk n' e' w' l' ((g, [(0, m, m)].foldl ly_gat [], h) :: s) →
      post (nI (s.length + 1)) (nI (t + 1), fc, nI (s.length + 1), fg', n', e', w', l', a', b', c')) :
    wX_token_73 post (nI 0) (nI m) (nI t) fc (nI s.length) fg cnt e w l a b c := by
  refine nm_r (nI_1 t) (br_t rfl ?_)
  refine ly_xgat (G := []) (p := (0, m, m)) trivial (fun q hq => absurd hq List.not_mem_nil) ⟨by omega, by dsimp only; omega, by dsimp only; omega⟩ (by decide) rfl rfl rfl rfl ?_
  intro a' b' c' H'
  show wX_token_163 post _ _ _ _ _ _ _ _ _ _ _
  exact ly_x163 g h hs (Nat.le_trans (ly_gat_len [] (0, m, m)) (by decide)) H' HD rfl rfl fun n' e' w' l' H => K _ n' e' w' l' a' b' c' H
theorem ly_xt3 {m t c0 : Nat} {g0 : ly_G} {F : List ly_B} {s : List ly_D} (g : ly_G) (h : Nat) (hs : s.length < 10) (HD : ly_Dk cnt e w l ((g0, F, c0) :: s))
    (hb : ∀ q, q ∈ F → ly_bd (ly_ind m q))
    (K : ∀ fg' n' e' w' l' a' b' c', ly_Dk n' e' w' l' ((g, (F.map (ly_ind m)).foldl ly_gat [], h) :: s) →
      post (nI (s.length + 1)) (nI (t + 1), fc, nI (s.length + 1), fg', n', e', w', l', a', b', c')) :
    wX_token_73 post (nI 3) (nI m) (nI t) fc (nI (s.length + 1)) fg cnt e w l a b c := by
  obtain ⟨⟨d1, d2, d3⟩, HD⟩ := HD
  dsimp only at d1 d2 d3
  refine nm_r (nI_1 t) (br_f (by decide) (br_t rfl (nm_r (nI_pred s.length) ?_)))
  refine ly_xind (G := []) hs d2 d1 d3 hb trivial (fun q hq => absurd hq List.not_mem_nil) (by rw [List.length_nil]; omega) rfl rfl rfl ?_
  intro a' b' c' H'
  show wX_token_163 post _ _ _ _ _ _ _ _ _ _ _
  have hl := ly_fold_len (F.map (ly_ind m)) []
  rw [List.length_map, List.length_nil] at hl
  exact ly_x163 g h hs (by omega) H' HD rfl rfl fun n' e' w' l' H => K _ n' e' w' l' a' b' c' H
theorem ly_dep2 (n : Nat) : nI (n + 1 + 1) - 2 = nI n := (pk_sub (a := n + 1 + 1) (b := 2) (by omega)).trans (congrArg nI (by omega))
theorem ly_xt12 {k t c0 c1 : Nat} {v : Int32} {g0 g1 : ly_G} {F H : List ly_B} {s : List ly_D} (g : ly_G) (h : Nat) (hk : k < 5) (k0 : k ≠ 0) (k3 : k ≠ 3) (k4 : k ≠ 4) (hs : s.length + 1 < 10)
    (HD : ly_Dk cnt e w l ((g1, H, c1) :: (g0, F, c0) :: s))
    (hb : ∀ p, p ∈ F → ly_bd p ∧ ∀ q, q ∈ H → ly_bd q ∧ ly_bd (ly_jn k p q)) (hl : F.length * H.length ≤ 64)
    (K : ∀ fg' n' e' w' l' a' b' c', ly_Dk n' e' w' l' ((g, (ly_all k F H).foldl ly_gat [], h) :: s) →
      post (nI (s.length + 1)) (nI (t + 1), fc, nI (s.length + 1), fg', n', e', w', l', a', b', c')) :
    wX_token_73 post (nI k) v (nI t) fc (nI (s.length + 1 + 1)) fg cnt e w l a b c := by
  obtain ⟨⟨d1, d2, d3⟩, ⟨f1, f2, f3⟩, HD⟩ := HD
  simp only [List.length_cons] at d1 d2 d3 f1 f2 f3
  have n0 : ¬ nI k = 0 := fun z => k0 ((nI_eq (b := 0) (by omega) (by decide)).mp z)
  have n3 : ¬ nI k = 3 := fun z => k3 ((nI_eq (b := 3) (by omega) (by decide)).mp z)
  have n4 : ¬ nI k = 4 := fun z => k4 ((nI_eq (b := 4) (by omega) (by decide)).mp z)
  refine nm_r (nI_1 t) (br_f n0 (br_f n3 (nm_r (ly_dep2 s.length) (br_f n4 ?_))))
  refine nm_r (Int32.add_zero fc) (br_f n4 (nm_r (ly_64 s.length) ⟨F.length + 1, ?_⟩))
  refine ly_xj34 hk (by omega) f2 d2 f1 d1 d3 F [] a b c (64 * s.length) (F.length + 1) rfl f3 hb trivial (fun q hq => absurd hq List.not_mem_nil)
    (by rw [List.length_nil]; omega) (Nat.lt_succ_self _) ?_
  intro a' b' c' H'
  show wX_token_163 post _ _ _ _ _ _ _ _ _ _ _
  have hl' := ly_fold_len (ly_all k F H) []
  rw [ly_all_len, List.length_nil] at hl'
  exact ly_x163 g h (by omega) (by omega) H' HD rfl rfl fun n' e' w' l' H => K _ n' e' w' l' a' b' c' H
theorem ly_xt4 {t ch c0 c1 : Nat} {v : Int32} {g0 g1 : ly_G} {F H : List ly_B} {s : List ly_D} (g : ly_G) (h : Nat) (hs : s.length + 1 < 10)
    (HD : ly_Dk cnt e w l ((g1, H, c1) :: (g0, F, c0) :: s))
    (hbF : ∀ p, p ∈ F → ly_bd p) (hbH : ∀ q, q ∈ H → ly_bd q) (hl : F.length + H.length ≤ 64)
    (K : ∀ fg' n' e' w' l' a' b' c', ly_Dk n' e' w' l' ((g, (F.map (ly_ind 0) ++ H.map (ly_ind 0)).foldl ly_gat [], h) :: s) →
      post (nI (s.length + 1)) (nI (t + 1), nI (ch + 1), nI (s.length + 1), fg', n', e', w', l', a', b', c')) :
    wX_token_73 post (nI 4) v (nI t) (nI ch) (nI (s.length + 1 + 1)) fg cnt e w l a b c := by
  obtain ⟨⟨d1, d2, d3⟩, ⟨f1, f2, f3⟩, HD⟩ := HD
  simp only [List.length_cons] at d1 d2 d3 f1 f2 f3
  refine nm_r (nI_1 t) (br_f (by decide) (br_f (by decide) (nm_r (ly_dep2 s.length) (br_t rfl ?_))))
  refine nm_r (nI_1 ch) (br_t rfl ?_)
  refine ly_xind (G := []) (m := 0) (by omega) f2 f1 f3 hbF trivial (fun q hq => absurd hq List.not_mem_nil) (by rw [List.length_nil]; omega) rfl rfl rfl ?_
  intro a' b' c' H'
  have hl1 := ly_fold_len (F.map (ly_ind 0)) []
  rw [List.length_map, List.length_nil] at hl1
  refine ly_xind (G := (F.map (ly_ind 0)).foldl ly_gat []) (m := 0) (i := s.length + 1) hs d2 d1 d3 hbH H' ?_ (by omega) (nI_1 _) rfl rfl ?_
  · intro q hq
    rcases ly_fold_mem _ _ _ hq with hq | hq
    · exact absurd hq List.not_mem_nil
    · obtain ⟨r, hr, er⟩ := List.mem_map.mp hq
      rw [← er]; exact hbF r hr
  · intro a2 b2 c2 H2
    show wX_token_163 post _ _ _ _ _ _ _ _ _ _ _
    have hl2 := ly_fold_len (H.map (ly_ind 0)) ((F.map (ly_ind 0)).foldl ly_gat [])
    rw [List.length_map] at hl2
    rw [List.foldl_append] at K
    exact ly_x163 g h (by omega) (by omega) H2 HD rfl rfl fun n' e' w' l' H => K _ n' e' w' l' a2 b2 c2 H
end
section
variable {post : Int32 → SY → Prop} {fd : Int32} {cd ag ye yw yl be bw bl : Nat → Int32}
theorem ly_ytk {pst : Int32 → Prop} {k : Nat} (hk : k ≤ 4) (K : pst (nI (ly_tk k))) : wpY_takes pst (nI k) := by
  refine pk_eq k 0 (fun k0 => ?_) (fun k0 => pk_eq k 3 (fun k3 => ?_) (fun k3 => ?_))
  · rw [ly_tk, if_pos k0] at K; exact K
  · rw [ly_tk, if_neg k0, if_pos k3] at K; exact K
  · rw [ly_tk, if_neg k0, if_neg k3] at K; exact K
theorem ly_yt68 {k t ch d ch' d' : Nat} {v : Int32} (hk : k ≤ 4) (ht : t < 48) (hc : ch' = if k = 4 then ch + 1 else ch) (hd : d' + ly_tk k = d + 1) (hd0 : ly_tk k ≤ d)
    (K : post (nI d') (nI (t + 1), nI d', nI ch', fd, upd cd t (nI k), upd ag t v, ye, yw, yl, be, bw, bl)) :
    wY_token_68 post (nI k) v (nI t) (nI d) (nI ch) fd cd ag ye yw yl be bw bl := by
  have hi : vp_in (nI t) 48 := vp_in_nI ht (by omega)
  have hct : (nI t).toNatClampNeg = t := nI_clamp (by omega)
  have hh : nI d - nI (ly_tk k) + 1 = nI d' := by rw [pk_sub hd0, nI_1]; exact congrArg nI (by omega)
  refine And.intro hi (nm_r (e' := upd cd t (nI k)) (by rw [hct]) ⟨hi, nm_r (e' := upd ag t v) (by rw [hct]) (nm_r (nI_1 t) ?_)⟩)
  refine pk_eq k 4 (fun k4 => nm_r (nI_1 ch) ?_) (fun k4 => ?_)
  · rw [if_pos k4] at hc
    rw [← hc]
    exact ly_ytk hk (nm_r hh K)
  · rw [if_neg k4] at hc
    rw [← hc]
    exact ly_ytk hk (nm_r hh K)
def ly_Bad (k : Nat) (v : Int32) : Prop := (k = 0 ∧ (v < 0 ∨ 40 < v)) ∨ (k = 3 ∧ (v < 0 ∨ 20 < v))
theorem ly_ybad {pst : Int32 → Prop} {k : Nat} {v : Int32} (hk : k ≤ 4) (h1 : ly_Bad k v → pst 1) (h0 : ¬ ly_Bad k v → pst 0) : wpY_badArg pst (nI k) v := by
  have h14 : ¬ (k = 0 ∧ (v < 0 ∨ 40 < v)) → wY_badArg_14 pst (nI k) v := by
    intro g
    refine pk_eq k 3 (fun k3 => ?_) (fun k3 => h0 fun B => B.elim g (fun z => k3 z.1))
    refine br_c (fun h => h1 (Or.inr ⟨k3, Or.inl h⟩)) (fun n0 => br_c (fun h => h0 fun B => B.elim g fun z => z.2.elim n0 (Int32.not_lt.mpr h)) (fun n1 => h1 (Or.inr ⟨k3, Or.inr ?_⟩)))
    exact Int32.not_le.mp n1
  refine pk_eq k 0 (fun k0 => ?_) (fun k0 => h14 fun z => k0 z.1)
  exact br_c (fun h => h1 (Or.inl ⟨k0, Or.inl h⟩)) (fun n0 => br_c (fun h => h1 (Or.inl ⟨k0, Or.inr h⟩)) (fun n1 => h14 fun z => z.2.elim n0 n1))
theorem ly_ytok {k t d ch : Nat} {v : Int32} (hk : k ≤ 4) (ht : t ≤ 48) (hd : d ≤ 10) (hch : ch ≤ 6)
    (hA : ly_Acc k v t ch d → wY_token_68 post (nI k) v (nI t) (nI d) (nI ch) fd cd ag ye yw yl be bw bl)
    (hR : ¬ ly_Acc k v t ch d → post (-1) (nI t, nI d, nI ch, fd, cd, ag, ye, yw, yl, be, bw, bl)) :
    wpY_token post (nI t, nI d, nI ch, fd, cd, ag, ye, yw, yl, be, bw, bl) (nI k) v := by
  refine br_f (nI_pos (by omega)) (br_f (nI_nlt (a := 4) (by omega) (by decide)) ?_)
  refine ly_ybad hk (fun B => br_f (by decide) (hR fun A => ?_)) (fun B => br_t rfl ?_)
  · rcases B with ⟨k0, z⟩ | ⟨k3, z⟩
    · exact z.elim (A.2.1 k0).2.1 (A.2.1 k0).2.2
    · exact z.elim (A.2.2.1 k3).2.1 (A.2.2.1 k3).2.2
  have g0 : k = 0 → ¬ v < 0 ∧ ¬ 40 < v := fun k0 => ⟨fun z => B (Or.inl ⟨k0, Or.inl z⟩), fun z => B (Or.inl ⟨k0, Or.inr z⟩)⟩
  have g3 : k = 3 → ¬ v < 0 ∧ ¬ 20 < v := fun k3 => ⟨fun z => B (Or.inr ⟨k3, Or.inl z⟩), fun z => B (Or.inr ⟨k3, Or.inr z⟩)⟩
  have t0 : k = 0 → ly_tk k = 0 := fun k0 => if_pos k0
  have t3 : k = 3 → ly_tk k = 1 := fun k3 => by rw [k3]; rfl
  have t2 : k ≠ 0 → k ≠ 3 → ly_tk k = 2 := fun k0 k3 => by rw [ly_tk, if_neg k0, if_neg k3]
  have tt : ly_tk k ≤ 2 := by
    by_cases k0 : k = 0
    · rw [t0 k0]; omega
    · by_cases k3 : k = 3
      · rw [t3 k3]; omega
      · rw [t2 k0 k3]; omega
  refine ly_ytk hk ?_
  refine pk_lt d (ly_tk k) (fun h => hR fun A => ?_) (fun hT => ?_)
  · by_cases k0 : k = 0
    · have := t0 k0; omega
    · by_cases k3 : k = 3
      · have := t3 k3; have := (A.2.2.1 k3).1; omega
      · have := t2 k0 k3; have := A.2.2.2.1 k0 k3; omega
  have D3 : k = 3 → 1 ≤ d := fun k3 => by have := t3 k3; omega
  have D2 : k ≠ 0 → k ≠ 3 → 2 ≤ d := fun k0 k3 => by have := t2 k0 k3; omega
  refine pk_eq t 48 (fun h => hR fun A => by have := A.1; omega) (fun ht' => ?_)
  have h52 : (k = 0 → d < 10) → wY_token_52 post (nI k) v (nI t) (nI d) (nI ch) fd cd ag ye yw yl be bw bl := by
    intro D0
    refine pk_eq k 4 (fun k4 => ?_) (fun k4 => hA ⟨by omega, fun z => ⟨D0 z, g0 z⟩, fun z => ⟨D3 z, g3 z⟩, D2, fun z => absurd z k4⟩)
    exact pk_eq ch 6 (fun h => hR fun A => by have := A.2.2.2.2 k4; omega) (fun h => hA ⟨by omega, fun z => ⟨D0 z, g0 z⟩, fun z => ⟨D3 z, g3 z⟩, D2, fun _ => by omega⟩)
  refine pk_eq k 0 (fun k0 => ?_) (fun k0 => h52 fun z => absurd z k0)
  exact pk_eq d 10 (fun h => hR fun A => by have := (A.2.1 k0).1; omega) (fun h => h52 fun _ => by omega)
end
end
section
def ly_qE (x : Int32) (p : ly_B) : Bool := decide ((p.1 : Int) ≤ x.toInt)
def ly_qW (x : Int32) (p : ly_B) : Bool := decide ((p.2.1 : Int) ≤ x.toInt)
def ly_qL (x y : Int32) (p : ly_B) : Bool := ly_qE x p && ly_qW y p
def ly_vC (m r : Nat) (p : ly_B) : Nat := m * p.1 + (p.2.1 - r) * (p.2.1 - r)
theorem ly_ltI {x : Int32} {m : Nat} (hm : m < 2 ^ 31) : x < nI m ↔ ¬ (m : Int) ≤ x.toInt := by
  rw [Int32.lt_iff_toInt_lt, nI_toInt hm]; omega
theorem ly_qE_f {x : Int32} {p : ly_B} (h : x < nI p.1) (hp : ly_bd p) : ly_qE x p = false := decide_eq_false ((ly_ltI (by have := hp.1; omega)).mp h)
theorem ly_qE_t {x : Int32} {p : ly_B} (h : ¬ x < nI p.1) (hp : ly_bd p) : ly_qE x p = true := decide_eq_true (by
  rw [ly_ltI (by have := hp.1; omega)] at h; omega)
theorem ly_qW_f {x : Int32} {p : ly_B} (h : x < nI p.2.1) (hp : ly_bd p) : ly_qW x p = false := decide_eq_false ((ly_ltI (by have := hp.2.1; omega)).mp h)
theorem ly_qW_t {x : Int32} {p : ly_B} (h : ¬ x < nI p.2.1) (hp : ly_bd p) : ly_qW x p = true := decide_eq_true (by
  rw [ly_ltI (by have := hp.2.1; omega)] at h; omega)
theorem ly_cmp {o : Option Nat} {v : Nat} {y : Int32} {A B C I : Prop} (ho : ly_ob o) (hv : v < 2 ^ 31) (hy : y = nI v) (hI : I)
    (h1 : ly_cm o v = some v → A) (h2 : ly_cm o v = o → B) (h3 : ly_cm o v = some v → C) :
    (ly_en o < 0 → A) ∧ (¬ ly_en o < 0 → (I ∧ ((ly_en o ≤ y → B) ∧ (¬ ly_en o ≤ y → C)))) := by
  cases o with
  | none => exact br_t (by decide) (h1 rfl)
  | some m =>
    have hm := ho m rfl
    refine br_f (nI_pos hm) ⟨hI, pk_le m v (fun h => h2 (if_neg (by omega))) (fun h => h3 (if_pos h)) rfl hy hm hv⟩
theorem ly_cmp' {o : Option Nat} {v : Nat} {y : Int32} {A B C : Prop} (ho : ly_ob o) (hv : v < 2 ^ 31) (hy : y = nI v)
    (h1 : ly_cm o v = some v → A) (h2 : ly_cm o v = o → B) (h3 : ly_cm o v = some v → C) :
    (ly_en o < 0 → A) ∧ (¬ ly_en o < 0 → ((ly_en o ≤ y → B) ∧ (¬ ly_en o ≤ y → C))) := by
  cases o with
  | none => exact br_t (by decide) (h1 rfl)
  | some m =>
    have hm := ho m rfl
    exact br_f (nI_pos hm) (pk_le m v (fun h => h2 (if_neg (by omega))) (fun h => h3 (if_pos h)) rfl hy hm hv)
theorem ly_vC_bd {m r : Nat} {p : ly_B} (hm : m ≤ 100) (hp : ly_bd p) : ly_vC m r p < 2 ^ 31 := by
  obtain ⟨h1, h2, h3⟩ := hp
  have a1 : m * p.1 ≤ 100 * 48 := Nat.mul_le_mul hm h1
  have a2 : (p.2.1 - r) * (p.2.1 - r) ≤ 1920 * 1920 := Nat.mul_le_mul (by omega) (by omega)
  unfold ly_vC
  omega
section
variable {post : Int32 → Prop} {ft fc fg : Int32} {cnt e w l a b c : Nat → Int32}
theorem ly_dk {d k i : Nat} (hd : d = i + 1 + k) : (nI d - 1) - nI k = nI i := by
  have h1 : nI d - 1 = nI (d - 1) := pk_sub (a := d) (b := 1) (by omega)
  rw [h1, pk_sub (by omega)]
  exact congrArg nI (by omega)
theorem ly_xbox {d k i f : Nat} (hd : d = i + 1 + k) (hd10 : d ≤ 10) (hc : cnt i = nI f) (K : post (nI f)) :
    wpX_boxes post (ft, fc, nI d, fg, cnt, e, w, l, a, b, c) (nI k) := by
  refine br_f (nI_pos (by omega)) (br_t (nI_lt (by omega) (by omega)) ?_)
  rw [ly_dk hd]
  refine ⟨vp_in_nI (by omega) (by omega), ?_⟩
  rw [nI_clamp (by omega), hc]
  exact K
theorem ly_xbox0 {fd v : Int32} (h : ¬ v < 0 → ¬ v < fd) (K : post 0) : wpX_boxes post (ft, fc, fd, fg, cnt, e, w, l, a, b, c) v :=
  br_c (fun _ => K) (fun n0 => br_f (h n0) K)
theorem ly_ix {d k i : Nat} (hd : d = i + 1 + k) (j : Nat) : (64 : Int32) * ((nI d - 1) - nI k) + nI j = nI (64 * i + j) := by
  rw [ly_dk hd, ly_64, nI_add]
theorem ly_xlin5 {d k i f : Nat} {x : Int32} (hd : d = i + 1 + k) (hd10 : d ≤ 10) (hf : f ≤ 64) (hc : cnt i = nI f) : ∀ (B : List ly_B) (j n : Nat) (o : Option Nat),
    j + B.length = f → ly_Rp e w l (64 * i + j) B → (∀ q, q ∈ B → ly_bd q) → ly_ob o → B.length < n →
    post (ly_en (B.foldl (ly_stp (ly_qW x) (fun p => p.1)) o)) →
    wX_lines_5 post (nI k) x ft fc (nI d) fg cnt e w l a b c n (ly_en o) (nI j)
  | _, _, 0, _, _, _, _, _, hn, _ => absurd hn (Nat.not_lt_zero _)
  | [], j, n + 1, o, hj, _, _, _, _, K => by
    rw [List.length_nil] at hj
    unfold wX_lines_5
    exact ly_xbox hd hd10 hc (br_t (nI_le (by omega) (by omega)) K)
  | p :: B, j, n + 1, o, hj, HB, hb, ho, hn, K => by
    rw [List.length_cons] at hj hn
    obtain ⟨⟨e1, e2, e3⟩, HB⟩ := HB
    have bp := hb p List.mem_cons_self
    have hi : vp_in (nI (64 * i + j)) 640 := vp_in_nI (by omega) (by omega)
    have hcl : (nI (64 * i + j)).toNatClampNeg = 64 * i + j := nI_clamp (by omega)
    have b1 : p.1 < 2 ^ 31 := by have := bp.1; omega
    have nx := ly_xlin5 hd hd10 hf hc B (j + 1) n (ly_stp (ly_qW x) (fun p => p.1) o p) (by omega) HB (fun r hr => hb r (List.mem_cons_of_mem _ hr)) (ly_ob_stp ho b1) (by omega) K
    unfold wX_lines_5
    refine ly_xbox hd hd10 hc (br_f (nI_ge (by omega) (by omega)) (nm_r (ly_ix hd j) ⟨hi, ?_⟩))
    rw [hcl, e2]
    refine br_c (fun hq => nm_r (nI_1 j) ?_) (fun hq => ?_)
    · rw [ly_stp_f (ly_qW_f hq bp)] at nx; exact nx
    · rw [ly_stp_t (ly_qW_t hq bp)] at nx
      have st : ly_cm o p.1 = some p.1 → wX_lines_57 post (wX_lines_5 post (nI k) x ft fc (nI d) fg cnt e w l a b c n) (nI k) x (nI j) (nI (64 * i + j)) ft fc (nI d) fg cnt e w l a b c := by
        intro es
        rw [es] at nx
        exact And.intro hi (nm_r (by rw [hcl]; exact e1) (nm_r (nI_1 j) nx))
      refine ly_cmp ho b1 e1 hi st (fun ek => nm_r (nI_1 j) ?_) st
      rw [ek] at nx; exact nx
theorem ly_xwid5 {d k i f : Nat} {x : Int32} (hd : d = i + 1 + k) (hd10 : d ≤ 10) (hf : f ≤ 64) (hc : cnt i = nI f) : ∀ (B : List ly_B) (j n : Nat) (o : Option Nat),
    j + B.length = f → ly_Rp e w l (64 * i + j) B → (∀ q, q ∈ B → ly_bd q) → ly_ob o → B.length < n →
    post (ly_en (B.foldl (ly_stp (ly_qE x) (fun p => p.2.1)) o)) →
    wX_width_5 post (nI k) x ft fc (nI d) fg cnt e w l a b c n (ly_en o) (nI j)
  | _, _, 0, _, _, _, _, _, hn, _ => absurd hn (Nat.not_lt_zero _)
  | [], j, n + 1, o, hj, _, _, _, _, K => by
    rw [List.length_nil] at hj
    unfold wX_width_5
    exact ly_xbox hd hd10 hc (br_t (nI_le (by omega) (by omega)) K)
  | p :: B, j, n + 1, o, hj, HB, hb, ho, hn, K => by
    rw [List.length_cons] at hj hn
    obtain ⟨⟨e1, e2, e3⟩, HB⟩ := HB
    have bp := hb p List.mem_cons_self
    have hi : vp_in (nI (64 * i + j)) 640 := vp_in_nI (by omega) (by omega)
    have hcl : (nI (64 * i + j)).toNatClampNeg = 64 * i + j := nI_clamp (by omega)
    have b1 : p.2.1 < 2 ^ 31 := by have := bp.2.1; omega
    have nx := ly_xwid5 hd hd10 hf hc B (j + 1) n (ly_stp (ly_qE x) (fun p => p.2.1) o p) (by omega) HB (fun r hr => hb r (List.mem_cons_of_mem _ hr)) (ly_ob_stp ho b1) (by omega) K
    unfold wX_width_5
    refine ly_xbox hd hd10 hc (br_f (nI_ge (by omega) (by omega)) (nm_r (ly_ix hd j) ⟨hi, ?_⟩))
    rw [hcl, e1]
    refine br_c (fun hq => nm_r (nI_1 j) ?_) (fun hq => ?_)
    · rw [ly_stp_f (ly_qE_f hq bp)] at nx; exact nx
    · rw [ly_stp_t (ly_qE_t hq bp)] at nx
      have st : ly_cm o p.2.1 = some p.2.1 → wX_width_57 post (wX_width_5 post (nI k) x ft fc (nI d) fg cnt e w l a b c n) (nI k) x (nI j) (nI (64 * i + j)) ft fc (nI d) fg cnt e w l a b c := by
        intro es
        rw [es] at nx
        exact And.intro hi (nm_r (by rw [hcl]; exact e2) (nm_r (nI_1 j) nx))
      refine ly_cmp ho b1 e2 hi st (fun ek => nm_r (nI_1 j) ?_) st
      rw [ek] at nx; exact nx
theorem ly_xcos52 {d k i f m r : Nat} (hm : m ≤ 100) (hr : r ≤ 200) (hd : d = i + 1 + k) (hd10 : d ≤ 10) (hf : f ≤ 64) (hc : cnt i = nI f) : ∀ (B : List ly_B) (j n : Nat) (o : Option Nat),
    j + B.length = f → ly_Rp e w l (64 * i + j) B → (∀ q, q ∈ B → ly_bd q) → ly_ob o → B.length < n →
    post (ly_en (B.foldl (ly_stp (fun _ => true) (ly_vC m r)) o)) →
    wX_cost_52 post (nI k) (nI m) (nI r) ft fc (nI d) fg cnt e w l a b c n (ly_en o) (nI j)
  | _, _, 0, _, _, _, _, _, hn, _ => absurd hn (Nat.not_lt_zero _)
  | [], j, n + 1, o, hj, _, _, _, _, K => by
    rw [List.length_nil] at hj
    unfold wX_cost_52
    exact ly_xbox hd hd10 hc (br_t (nI_le (by omega) (by omega)) K)
  | p :: B, j, n + 1, o, hj, HB, hb, ho, hn, K => by
    rw [List.length_cons] at hj hn
    obtain ⟨⟨e1, e2, e3⟩, HB⟩ := HB
    have bp := hb p List.mem_cons_self
    have b2 := bp.2.1
    have hi : vp_in (nI (64 * i + j)) 640 := vp_in_nI (by omega) (by omega)
    have hcl : (nI (64 * i + j)).toNatClampNeg = 64 * i + j := nI_clamp (by omega)
    have b1 : ly_vC m r p < 2 ^ 31 := ly_vC_bd hm bp
    have nx := ly_xcos52 hm hr hd hd10 hf hc B (j + 1) n (ly_stp (fun _ => true) (ly_vC m r) o p) (by omega) HB (fun r hr => hb r (List.mem_cons_of_mem _ hr)) (ly_ob_stp ho b1) (by omega) K
    rw [ly_stp_t rfl] at nx
    have st : ∀ z : Int32, z = nI (p.2.1 - r) → wX_cost_104 post (wX_cost_52 post (nI k) (nI m) (nI r) ft fc (nI d) fg cnt e w l a b c n) (nI k) (nI m) (nI r) (ly_en o) (nI j) (nI (64 * i + j)) z ft fc (nI d) fg cnt e w l a b c := by
      intro z hz
      have hv : nI m * e (nI (64 * i + j)).toNatClampNeg + z * z = nI (ly_vC m r p) := by
        rw [hcl, e1, hz, pk_mul, pk_mul, nI_add]; rfl
      refine And.intro hi (nm_r hv ?_)
      refine ly_cmp' ho b1 rfl (fun es => nm_r (nI_1 j) ?_) (fun ek => nm_r (nI_1 j) ?_) (fun es => nm_r (nI_1 j) ?_)
      · rw [es] at nx; exact nx
      · rw [ek] at nx; exact nx
      · rw [es] at nx; exact nx
    unfold wX_cost_52
    refine ly_xbox hd hd10 hc (br_f (nI_ge (by omega) (by omega)) (nm_r (ly_ix hd j) ⟨hi, ?_⟩))
    rw [hcl, e2]
    refine pk_le p.2.1 r (fun hle => st 0 ?_) (fun hlt => ⟨hi, st _ ?_⟩)
    · rw [Nat.sub_eq_zero_of_le hle]; rfl
    · exact pk_sub (by omega)
theorem ly_xlas6 {d k i f : Nat} {x y : Int32} (hd : d = i + 1 + k) (hd10 : d ≤ 10) (hf : f ≤ 64) (hc : cnt i = nI f) : ∀ (B : List ly_B) (j n : Nat) (o : Option Nat),
    j + B.length = f → ly_Rp e w l (64 * i + j) B → (∀ q, q ∈ B → ly_bd q) → ly_ob o → B.length < n →
    post (ly_en (B.foldl (ly_stp (ly_qL x y) (fun p => p.2.2)) o)) →
    wX_last_6 post (nI k) x y ft fc (nI d) fg cnt e w l a b c n (ly_en o) (nI j)
  | _, _, 0, _, _, _, _, _, hn, _ => absurd hn (Nat.not_lt_zero _)
  | [], j, n + 1, o, hj, _, _, _, _, K => by
    rw [List.length_nil] at hj
    unfold wX_last_6
    exact ly_xbox hd hd10 hc (br_t (nI_le (by omega) (by omega)) K)
  | p :: B, j, n + 1, o, hj, HB, hb, ho, hn, K => by
    rw [List.length_cons] at hj hn
    obtain ⟨⟨e1, e2, e3⟩, HB⟩ := HB
    have bp := hb p List.mem_cons_self
    have hi : vp_in (nI (64 * i + j)) 640 := vp_in_nI (by omega) (by omega)
    have hcl : (nI (64 * i + j)).toNatClampNeg = 64 * i + j := nI_clamp (by omega)
    have b1 : p.2.2 < 2 ^ 31 := by have := bp.2.2; omega
    have nx := ly_xlas6 hd hd10 hf hc B (j + 1) n (ly_stp (ly_qL x y) (fun p => p.2.2) o p) (by omega) HB (fun r hr => hb r (List.mem_cons_of_mem _ hr)) (ly_ob_stp ho b1) (by omega) K
    have no : ly_qL x y p = false → wX_last_58 post (wX_last_6 post (nI k) x y ft fc (nI d) fg cnt e w l a b c n) (nI k) x y (ly_en o) (nI j) (nI (64 * i + j)) ft fc (nI d) fg cnt e w l a b c := by
      intro hq
      rw [ly_stp_f hq] at nx
      exact br_t rfl (nm_r (nI_1 j) nx)
    unfold wX_last_6
    refine ly_xbox hd hd10 hc (br_f (nI_ge (by omega) (by omega)) (nm_r (ly_ix hd j) ⟨hi, ?_⟩))
    rw [hcl, e1]
    refine br_c (fun hq => no ?_) (fun hq => ⟨hi, ?_⟩)
    · rw [ly_qL, ly_qE_f hq bp, Bool.false_and]
    rw [e2]
    refine br_c (fun hq2 => no ?_) (fun hq2 => ?_)
    · rw [ly_qL, ly_qW_f hq2 bp, Bool.and_false]
    have hq3 : ly_qL x y p = true := by rw [ly_qL, ly_qE_t hq bp, ly_qW_t hq2 bp]; rfl
    rw [ly_stp_t hq3] at nx
    have st : ly_cm o p.2.2 = some p.2.2 → wX_last_83 post (wX_last_6 post (nI k) x y ft fc (nI d) fg cnt e w l a b c n) (nI k) x y (nI j) (nI (64 * i + j)) ft fc (nI d) fg cnt e w l a b c := by
      intro es
      rw [es] at nx
      exact And.intro hi (nm_r (by rw [hcl]; exact e3) (nm_r (nI_1 j) nx))
    refine br_f (by decide) ?_
    rw [hcl]
    refine ly_cmp ho b1 e3 hi st (fun ek => nm_r (nI_1 j) ?_) st
    rw [ek] at nx; exact nx
end
end
section
section
variable {post : SY → Prop} {fh fe : Int32} {cd ag be bw bl : Nat → Int32}
theorem ly_ymost {pst : Int32 → Prop} {x y : Int32} {m n : Nat} (hx : x = nI m) (hy : y = nI n) (hm : m < 2 ^ 31) (hn : n < 2 ^ 31)
    (K : pst (nI (if m ≤ n then n else m))) : wpY_most pst x y := by
  subst hx hy
  refine pk_le m n (fun h => ?_) (fun h => ?_)
  · rw [if_pos h] at K; exact K
  · rw [if_neg (by omega)] at K; exact K
theorem ly_yjoin {ft : Int32} {e w l : Nat → Int32} {k : Nat} {z : Bool} {y : Int32} {p q : ly_B} {s : List ly_B} (hk : k < 5) (k0 : k ≠ 0) (k3 : k ≠ 3)
    (hs : s.length < 10) (bp : ly_bd p) (bq : ly_bd q) (HS : ly_Sk e w l (q :: p :: s)) (hy : y = if z = true then 1 else 0)
    (K : ∀ e' w' l' : Nat → Int32, ly_Sk e' w' l' (ly_op k z p q :: s) → post (ft, fh, fe, nI (s.length + 1), cd, ag, e', w', l', be, bw, bl)) :
    wpY_join post (ft, fh, fe, nI (s.length + 1 + 1), cd, ag, e, w, l, be, bw, bl) (nI k) y := by
  obtain ⟨⟨q1, q2, q3⟩, ⟨p1, p2, p3⟩, HS⟩ := HS
  rw [List.length_cons] at q1 q2 q3
  obtain ⟨bp1, bp2, bp3⟩ := bp
  obtain ⟨bq1, bq2, bq3⟩ := bq
  have ia : vp_in (nI s.length) 11 := vp_in_nI (by omega) (by omega)
  have ib : vp_in (nI (s.length + 1)) 11 := vp_in_nI (by omega) (by omega)
  have ca : (nI s.length).toNatClampNeg = s.length := nI_clamp (by omega)
  have cb : (nI (s.length + 1)).toNatClampNeg = s.length + 1 := nI_clamp (by omega)
  have fin : ∀ r : ly_B, ly_op k z p q = r → post (ft, fh, fe, nI (s.length + 1), cd, ag, upd e s.length (nI r.1), upd w s.length (nI r.2.1), upd l s.length (nI r.2.2), be, bw, bl) := by
    intro r hr
    rw [hr] at K
    exact K _ _ _ ⟨⟨pk_us, pk_us, pk_us⟩, ly_Sk_cg s (fun j hj => ⟨pk_un (by omega), pk_un (by omega), pk_un (by omega)⟩) HS⟩
  refine nm_r (nI_pred (s.length + 1)) (nm_r (nI_pred s.length) ?_)
  refine pk_eq k 1 (fun k1 => ?_) (fun k1 => pk_eq k 2 (fun k2 => ?_) (fun k2 => ?_))
  · have eo : ly_op k z p q = (p.1 + q.1, (if p.2.1 ≤ p.2.2 + q.2.1 then p.2.2 + q.2.1 else p.2.1), p.2.2 + q.2.2) := by rw [k1]; rfl
    have F := fin _ eo
    refine ⟨ia, ib, ia, nm_r (e' := upd e s.length (nI (p.1 + q.1))) (by rw [ca, cb, p1, q1, nI_add]) ⟨ia, ia, ib, ?_⟩⟩
    refine ly_ymost (m := p.2.1) (n := p.2.2 + q.2.1) (by rw [ca, p2]) (by rw [ca, cb, p3, q2, nI_add]) (by omega) (by omega) ?_
    refine ⟨ia, nm_r (congrArg (fun t => upd w t _) ca) ⟨ia, ib, ia, nm_r (e' := upd l s.length (nI (p.2.2 + q.2.2))) (by rw [ca, cb, p3, q3, nI_add]) F⟩⟩
  · have eo : ly_op k z p q = (p.1 + q.1 + 1, (if p.2.1 ≤ q.2.1 then q.2.1 else p.2.1), q.2.2) := by rw [k2]; rfl
    have F := fin _ eo
    refine ⟨ia, ib, ia, nm_r (e' := upd e s.length (nI (p.1 + q.1 + 1))) (by rw [ca, cb, p1, q1, nI_1, nI_add]; rfl) ⟨ia, ib, ?_⟩⟩
    refine ly_ymost (m := p.2.1) (n := q.2.1) (by rw [ca, p2]) (by rw [cb, q2]) (by omega) (by omega) ?_
    refine ⟨ia, nm_r (congrArg (fun t => upd w t _) ca) ⟨ib, ia, nm_r (e' := upd l s.length (nI q.2.2)) (by rw [ca, cb, q3]) F⟩⟩
  · have k4 : k = 4 := by omega
    cases z with
    | false =>
      have eo : ly_op k false p q = p := by rw [k4]; rfl
      rw [eo] at K
      exact br_t hy (K e w l ⟨⟨p1, p2, p3⟩, HS⟩)
    | true =>
      have eo : ly_op k true p q = q := by rw [k4]; rfl
      have F := fin _ eo
      have hy1 : ¬ y = 0 := by rw [hy]; decide
      exact br_f hy1 ⟨ib, ia, nm_r (e' := upd e s.length (nI q.1)) (by rw [ca, cb, q1]) ⟨ib, ia, nm_r (e' := upd w s.length (nI q.2.1)) (by rw [ca, cb, q2])
        ⟨ib, ia, nm_r (e' := upd l s.length (nI q.2.2)) (by rw [ca, cb, q3]) F⟩⟩⟩
theorem ly_bit {v c : Nat} (hv : v < 64) (hc : c < 32) : (nI v >>> (nI c &&& 31)) &&& 1 = nI (v / 2 ^ c % 2) := by
  rw [pk_shrN (by omega) _ c (s_l c hc)]
  have h : v / 2 ^ c ≤ v := Nat.div_le_self _ _
  exact pk_andN (by omega) 1 (by decide)
theorem ly_bt_t {v c : Nat} (h : v / 2 ^ c % 2 = 1) : ly_bt v c = true := by
  show v.testBit c = true
  rw [Nat.testBit_eq_decide_div_mod_eq]; exact decide_eq_true h
theorem ly_bt_f {v c : Nat} (h : ¬ v / 2 ^ c % 2 = 1) : ly_bt v c = false := by
  show v.testBit c = false
  rw [Nat.testBit_eq_decide_div_mod_eq]; exact decide_eq_false h
theorem ly_at_len (s : List ly_G) (b : ly_W) : (ly_at s b).length = s.length := List.length_map _
theorem ly_ymake9 {N v : Nat} (hN : N ≤ 48) (hv : v < 64) {e w l : Nat → Int32} : ∀ (T : List ly_T) (n : Nat), ly_ok T → ly_Tk cd ag T → T.length ≤ N →
    (∀ e' w' l' : Nat → Int32, ly_Sk e' w' l' (ly_at (ly_sem T) (ly_bt v)) →
      wY_make_9 post (nI v) n (nI (ly_ch T)) (nI T.length) (nI N) fh fe (nI (ly_sem T).length) cd ag e' w' l' be bw bl) →
    wY_make_9 post (nI v) (n + T.length) 0 0 (nI N) fh fe 0 cd ag e w l be bw bl
  | [], _, _, _, _, K => K e w l trivial
  | (k, m) :: T, n, hok, hT, hl, K => by
    have e0 : n + ((k, m) :: T).length = (n + 1) + T.length := by rw [List.length_cons]; omega
    rw [List.length_cons] at hl
    rw [e0]
    refine ly_ymake9 hN hv T (n + 1) hok.2 hT.2 (by omega) ?_
    intro e' w' l' HS
    have hlen := ly_ok_len T hok.2
    have hch := ly_ok_ch T hok.2
    have hbd := ly_semBd hok.2 (by omega) (ly_bt v)
    obtain ⟨⟨o1, o2, o3, o4, o5⟩, _⟩ := hok
    obtain ⟨⟨t1, t2⟩, _⟩ := hT
    dsimp only at o1 o2 o3 o4 o5 t1 t2
    have hi : vp_in (nI T.length) 48 := vp_in_nI (by omega) (by omega)
    have hct : (nI T.length).toNatClampNeg = T.length := nI_clamp (by omega)
    refine br_f (nI_ge (by omega) (by omega)) ⟨hi, nm_r (e' := nI k) (by rw [hct, t1]) ?_⟩
    refine pk_eq k 0 (fun k0 => ?_) (fun k0 => pk_eq k 3 (fun k3 => ?_) (fun k3 => ?_))
    · subst k0
      obtain ⟨o6, o7⟩ := o2 rfl
      have ea := t2 (Or.inl rfl)
      have hid : vp_in (nI (ly_sem T).length) 11 := vp_in_nI (by omega) (by omega)
      have hcd : (nI (ly_sem T).length).toNatClampNeg = (ly_sem T).length := nI_clamp (by omega)
      rw [ly_chn (by decide), ly_sem0, List.length_cons, List.length_cons, ly_at_c] at K
      refine ⟨hid, nm_r (e' := upd e' (ly_sem T).length (nI 0)) (by rw [hcd]; rfl) ⟨hi, hid, nm_r (e' := upd w' (ly_sem T).length (nI m)) (by rw [hcd, hct, ea])
        ⟨hi, hid, nm_r (e' := upd l' (ly_sem T).length (nI m)) (by rw [hcd, hct, ea]) (nm_r (nI_1 _) (nm_r (nI_1 _) (K _ _ _ ⟨?_, ?_⟩)))⟩⟩⟩
      · rw [ly_at_len]; exact ⟨pk_us, pk_us, pk_us⟩
      · exact ly_Sk_cg _ (fun j hj => by rw [ly_at_len] at hj; exact ⟨pk_un (by omega), pk_un (by omega), pk_un (by omega)⟩) HS
    · subst k3
      obtain ⟨o6, o7⟩ := o3 rfl
      have ea := t2 (Or.inr rfl)
      obtain ⟨g, s, es⟩ := ly_len1 o7
      rw [ly_chn (by decide), ly_sem3 es, List.length_cons, List.length_cons, ly_at_c] at K
      rw [es, ly_at_c] at HS
      rw [es, List.length_cons] at hlen
      rw [es, List.length_cons]
      obtain ⟨⟨g1, g2, g3⟩, HS⟩ := HS
      rw [ly_at_len] at g1 g2 g3
      have hp1 : nI (s.length + 1) - 1 = nI s.length := nI_pred _
      have hid : vp_in (nI (s.length + 1) - 1) 11 := by rw [hp1]; exact vp_in_nI (by omega) (by omega)
      have hcd : (nI (s.length + 1) - 1).toNatClampNeg = s.length := by rw [hp1]; exact nI_clamp (by omega)
      refine ⟨hid, hi, hid, nm_r (e' := upd w' s.length (nI ((g (ly_bt v)).2.1 + m))) (by rw [hcd, hct, ea, g2, nI_add])
        ⟨hid, hi, hid, nm_r (e' := upd l' s.length (nI ((g (ly_bt v)).2.2 + m))) (by rw [hcd, hct, ea, g3, nI_add]) (nm_r (nI_1 _) (K _ _ _ ⟨?_, ?_⟩))⟩⟩
      · rw [ly_at_len]; exact ⟨g1, pk_us, pk_us⟩
      · exact ly_Sk_cg _ (fun j hj => by rw [ly_at_len] at hj; exact ⟨rfl, pk_un (by omega), pk_un (by omega)⟩) HS
    · obtain ⟨h, g, s, es⟩ := ly_len2 (o4 k0 k3)
      rw [ly_semJ k0 k3 es, List.length_cons, List.length_cons, ly_at_c] at K
      rw [es, ly_at_c, ly_at_c] at HS hbd
      rw [es, List.length_cons, List.length_cons] at hlen
      rw [es, List.length_cons, List.length_cons]
      have bh := hbd _ List.mem_cons_self
      have bg := hbd _ (List.mem_cons_of_mem _ List.mem_cons_self)
      have J : ∀ y : Int32, (y = if ly_bt v (ly_ch T) = true then 1 else 0) → wY_make_149 post (wY_make_9 post (nI v) n) (nI v) (nI (ly_ch T)) (nI T.length) (nI k) y (nI k)
          (nI N) fh fe (nI (s.length + 1 + 1)) cd ag e' w' l' be bw bl := by
        intro y hy
        unfold wY_make_149
        rw [← ly_at_len s (ly_bt v)]
        refine ly_yjoin (z := ly_bt v (ly_ch T)) (p := g (ly_bt v)) (q := h (ly_bt v)) (s := ly_at s (ly_bt v)) (by omega) k0 k3 (by rw [ly_at_len]; omega) bg bh HS hy ?_
        intro e2 w2 l2 H2
        have K2 := K e2 w2 l2 H2
        rw [ly_at_len]
        refine pk_eq k 4 (fun k4 => nm_r (nI_1 _) (nm_r (nI_1 _) ?_)) (fun k4 => nm_r (nI_1 _) ?_)
        · rw [k4, ly_ch4] at K2; exact K2
        · rw [ly_chn k4] at K2; exact K2
      rw [ly_bit hv (by omega)]
      refine pk_eq (v / 2 ^ ly_ch T % 2) 1 (fun h => J 1 ?_) (fun h => J 0 ?_) rfl rfl (by omega) (by omega)
      · rw [ly_bt_t h]; rfl
      · rw [ly_bt_f h]; rfl
theorem ly_ymake {v : Nat} {fd : Int32} {e w l : Nat → Int32} {T : List ly_T} (hN : T.length ≤ 48) (hv : v < 64) (hok : ly_ok T) (hT : ly_Tk cd ag T)
    (K : ∀ e' w' l' : Nat → Int32, ly_Sk e' w' l' (ly_at (ly_sem T) (ly_bt v)) → post (nI T.length, fh, fe, nI (ly_sem T).length, cd, ag, e', w', l', be, bw, bl)) :
    wpY_make post (nI T.length, fh, fe, fd, cd, ag, e, w, l, be, bw, bl) (nI v) := by
  refine ⟨1 + T.length, ly_ymake9 hN hv T 1 hok hT (Nat.le_refl _) ?_⟩
  intro e' w' l' HS
  exact br_t (nI_le (Nat.le_refl _) (by omega)) (K e' w' l' HS)
end
section
variable {post : Int32 → SY → Prop} {fh fe : Int32} {cd ag : Nat → Int32}
def ly_Bx (be bw bl : Nat → Int32) (f : Nat → ly_B) (n : Nat) : Prop := ∀ j, j < n → be j = nI (f j).1 ∧ bw j = nI (f j).2.1 ∧ bl j = nI (f j).2.2
theorem ly_ymall9 {k M : Nat} {T : List ly_T} {P s : List ly_G} {g : ly_G} (hN : T.length ≤ 48) (hok : ly_ok T) (hT : ly_Tk cd ag T) (hM : M ≤ 64)
    (es : ly_sem T = P ++ g :: s) (hk : P.length = k)
    (K : ∀ (fd : Int32) (e w l be bw bl : Nat → Int32), ly_Bx be bw bl (fun v => g (ly_bt v)) M →
      post (nI M) (nI T.length, fh, fe, fd, cd, ag, e, w, l, be, bw, bl)) :
    ∀ (r v n : Nat) (fd : Int32) (e w l be bw bl : Nat → Int32), v + r = M → r < n → ly_Bx be bw bl (fun v => g (ly_bt v)) v →
    wY_makeAll_9 post (nI k) (nI M) n (nI v) (nI T.length) fh fe fd cd ag e w l be bw bl
  | _, _, 0, _, _, _, _, _, _, _, _, hn, _ => absurd hn (Nat.not_lt_zero _)
  | 0, v, n + 1, fd, e, w, l, be, bw, bl, hv, _, hB => by
    have e0 : v = M := by omega
    subst e0
    exact br_t (nI_le (Nat.le_refl _) (by omega)) (K fd e w l be bw bl hB)
  | r + 1, v, n + 1, fd, e, w, l, be, bw, bl, hv, hn, hB => by
    have hlen := ly_ok_len T hok
    refine br_f (nI_ge (by omega) (by omega)) ?_
    refine ly_ymake hN (by omega) hok hT ?_
    intro e' w' l' HS
    have eat : ly_at (P ++ g :: s) (ly_bt v) = ly_at P (ly_bt v) ++ g (ly_bt v) :: ly_at s (ly_bt v) := List.map_append
    rw [es, eat] at HS
    obtain ⟨⟨g1, g2, g3⟩, _⟩ := ly_Sk_drop _ _ HS
    rw [ly_at_len] at g1 g2 g3
    have hd : (ly_sem T).length = s.length + 1 + k := by rw [es, List.length_append, List.length_cons]; omega
    have hx := ly_dk hd
    have hi : vp_in ((nI (ly_sem T).length - 1) - nI k) 11 := by rw [hx]; exact vp_in_nI (by omega) (by omega)
    have hc : ((nI (ly_sem T).length - 1) - nI k).toNatClampNeg = s.length := by rw [hx]; exact nI_clamp (by omega)
    have hiv : vp_in (nI v) 64 := vp_in_nI (by omega) (by omega)
    have hcv : (nI v).toNatClampNeg = v := nI_clamp (by omega)
    refine ⟨hi, hiv, nm_r (e' := upd be v (nI (g (ly_bt v)).1)) (by rw [hc, hcv, g1]) ⟨hi, hiv, nm_r (e' := upd bw v (nI (g (ly_bt v)).2.1)) (by rw [hc, hcv, g2])
      ⟨hi, hiv, nm_r (e' := upd bl v (nI (g (ly_bt v)).2.2)) (by rw [hc, hcv, g3]) (nm_r (nI_1 v) ?_)⟩⟩⟩
    refine ly_ymall9 hN hok hT hM es hk K r (v + 1) n _ e' w' l' _ _ _ (by omega) (by omega) ?_
    intro j hj
    by_cases ej : j = v
    · rw [ej]; exact ⟨pk_us, pk_us, pk_us⟩
    · obtain ⟨b1, b2, b3⟩ := hB j (by omega)
      exact ⟨(pk_un ej).trans b1, (pk_un ej).trans b2, (pk_un ej).trans b3⟩
theorem ly_ymall {k : Nat} {T : List ly_T} {P s : List ly_G} {g : ly_G} {fd : Int32} {e w l be bw bl : Nat → Int32} (hN : T.length ≤ 48) (hok : ly_ok T) (hT : ly_Tk cd ag T)
    (es : ly_sem T = P ++ g :: s) (hk : P.length = k)
    (K : ∀ (fd : Int32) (e w l be bw bl : Nat → Int32), ly_Bx be bw bl (fun v => g (ly_bt v)) (2 ^ ly_ch T) →
      post (nI (2 ^ ly_ch T)) (nI T.length, fh, nI (ly_ch T), fd, cd, ag, e, w, l, be, bw, bl)) :
    wpY_makeAll post (nI T.length, fh, nI (ly_ch T), fd, cd, ag, e, w, l, be, bw, bl) (nI k) := by
  have hch := ly_ok_ch T hok
  have hM : 2 ^ ly_ch T ≤ 64 := Nat.pow_le_pow_right (n := 2) (j := 6) (by decide) hch
  have h1 : (1 : Int32) <<< (nI (ly_ch T) &&& 31) = nI (2 ^ ly_ch T) := by
    have h := pk_shlN (n := 1) (nI (ly_ch T) &&& 31) (ly_ch T) (s_l _ (by omega)) (by omega)
    rw [Nat.one_mul] at h
    exact h
  refine nm_r h1 ⟨2 ^ ly_ch T + 1, ?_⟩
  exact ly_ymall9 hN hok hT hM es hk K (2 ^ ly_ch T) 0 _ fd e w l be bw bl (Nat.zero_add _) (Nat.lt_succ_self _) (fun j hj => absurd hj (Nat.not_lt_zero j))
end
end
section
section
variable {post : Int32 → SY → Prop} {ft fh fe fd : Int32} {cd ag e w l be bw bl : Nat → Int32}
theorem ly_ymis0 {pst : Int32 → Prop} {d k : Nat} (hd : d ≤ 10) (hk : k < d) (K : pst 0) : wpY_missing pst (ft, nI d, fe, fd, cd, ag, e, w, l, be, bw, bl) (nI k) :=
  br_f (nI_pos (by omega)) (br_t (nI_lt hk (by omega)) K)
theorem ly_ymis1 {pst : Int32 → Prop} {v : Int32} (h : ¬ v < 0 → ¬ v < fh) (K : pst 1) : wpY_missing pst (ft, fh, fe, fd, cd, ag, e, w, l, be, bw, bl) v :=
  br_c (fun _ => K) (fun n0 => br_f (h n0) K)
theorem ly_ylin22 {M : Nat} {x : Int32} (hM : M ≤ 64) : ∀ (B : List ly_B) (j n : Nat) (o : Option Nat),
    j + B.length = M → ly_Rp be bw bl j B → (∀ q, q ∈ B → ly_bd q) → ly_ob o → B.length < n →
    post (ly_en (B.foldl (ly_stp (ly_qW x) (fun p => p.1)) o)) (ft, fh, fe, fd, cd, ag, e, w, l, be, bw, bl) →
    wY_lines_22 post x (nI M) ft fh fe fd cd ag e w l be bw bl n (ly_en o) (nI j)
  | _, _, 0, _, _, _, _, _, hn, _ => absurd hn (Nat.not_lt_zero _)
  | [], j, n + 1, o, hj, _, _, _, _, K => br_t (nI_le (by rw [List.length_nil] at hj; omega) (by rw [List.length_nil] at hj; omega)) K
  | p :: B, j, n + 1, o, hj, HB, hb, ho, hn, K => by
    rw [List.length_cons] at hj hn
    obtain ⟨⟨e1, e2, e3⟩, HB⟩ := HB
    have bp := hb p List.mem_cons_self
    have hi : vp_in (nI j) 64 := vp_in_nI (by omega) (by omega)
    have hcl : (nI j).toNatClampNeg = j := nI_clamp (by omega)
    have b1 : p.1 < 2 ^ 31 := by have := bp.1; omega
    have nx := ly_ylin22 hM B (j + 1) n (ly_stp (ly_qW x) (fun p => p.1) o p) (by omega) HB (fun r hr => hb r (List.mem_cons_of_mem _ hr)) (ly_ob_stp ho b1) (by omega) K
    refine br_f (nI_ge (by omega) (by omega)) ⟨hi, ?_⟩
    rw [hcl, e2, e1]
    refine br_c (fun hq => nm_r (nI_1 j) ?_) (fun hq => ?_)
    · rw [ly_stp_f (ly_qW_f hq bp)] at nx; exact nx
    · rw [ly_stp_t (ly_qW_t hq bp)] at nx
      refine ly_cmp ho b1 rfl hi (fun es => ⟨hi, nm_e (nm_r (nI_1 j) ?_)⟩) (fun ek => nm_r (nI_1 j) ?_) (fun es => ⟨hi, nm_e (nm_r (nI_1 j) ?_)⟩)
      · rw [es] at nx; exact nx
      · rw [ek] at nx; exact nx
      · rw [es] at nx; exact nx
theorem ly_ywid22 {M : Nat} {x : Int32} (hM : M ≤ 64) : ∀ (B : List ly_B) (j n : Nat) (o : Option Nat),
    j + B.length = M → ly_Rp be bw bl j B → (∀ q, q ∈ B → ly_bd q) → ly_ob o → B.length < n →
    post (ly_en (B.foldl (ly_stp (ly_qE x) (fun p => p.2.1)) o)) (ft, fh, fe, fd, cd, ag, e, w, l, be, bw, bl) →
    wY_width_22 post x (nI M) ft fh fe fd cd ag e w l be bw bl n (ly_en o) (nI j)
  | _, _, 0, _, _, _, _, _, hn, _ => absurd hn (Nat.not_lt_zero _)
  | [], j, n + 1, o, hj, _, _, _, _, K => br_t (nI_le (by rw [List.length_nil] at hj; omega) (by rw [List.length_nil] at hj; omega)) K
  | p :: B, j, n + 1, o, hj, HB, hb, ho, hn, K => by
    rw [List.length_cons] at hj hn
    obtain ⟨⟨e1, e2, e3⟩, HB⟩ := HB
    have bp := hb p List.mem_cons_self
    have hi : vp_in (nI j) 64 := vp_in_nI (by omega) (by omega)
    have hcl : (nI j).toNatClampNeg = j := nI_clamp (by omega)
    have b1 : p.2.1 < 2 ^ 31 := by have := bp.2.1; omega
    have nx := ly_ywid22 hM B (j + 1) n (ly_stp (ly_qE x) (fun p => p.2.1) o p) (by omega) HB (fun r hr => hb r (List.mem_cons_of_mem _ hr)) (ly_ob_stp ho b1) (by omega) K
    refine br_f (nI_ge (by omega) (by omega)) ⟨hi, ?_⟩
    rw [hcl, e2, e1]
    refine br_c (fun hq => nm_r (nI_1 j) ?_) (fun hq => ?_)
    · rw [ly_stp_f (ly_qE_f hq bp)] at nx; exact nx
    · rw [ly_stp_t (ly_qE_t hq bp)] at nx
      refine ly_cmp ho b1 rfl hi (fun es => ⟨hi, nm_e (nm_r (nI_1 j) ?_)⟩) (fun ek => nm_r (nI_1 j) ?_) (fun es => ⟨hi, nm_e (nm_r (nI_1 j) ?_)⟩)
      · rw [es] at nx; exact nx
      · rw [ek] at nx; exact nx
      · rw [es] at nx; exact nx
theorem ly_ycos40 {M m r : Nat} (hm : m ≤ 100) (hr : r ≤ 200) (hM : M ≤ 64) : ∀ (B : List ly_B) (j n : Nat) (o : Option Nat),
    j + B.length = M → ly_Rp be bw bl j B → (∀ q, q ∈ B → ly_bd q) → ly_ob o → B.length < n →
    post (ly_en (B.foldl (ly_stp (fun _ => true) (ly_vC m r)) o)) (ft, fh, fe, fd, cd, ag, e, w, l, be, bw, bl) →
    wY_cost_40 post (nI m) (nI r) (nI M) ft fh fe fd cd ag e w l be bw bl n (ly_en o) (nI j)
  | _, _, 0, _, _, _, _, _, hn, _ => absurd hn (Nat.not_lt_zero _)
  | [], j, n + 1, o, hj, _, _, _, _, K => br_t (nI_le (by rw [List.length_nil] at hj; omega) (by rw [List.length_nil] at hj; omega)) K
  | p :: B, j, n + 1, o, hj, HB, hb, ho, hn, K => by
    rw [List.length_cons] at hj hn
    obtain ⟨⟨e1, e2, e3⟩, HB⟩ := HB
    have bp := hb p List.mem_cons_self
    have b2 := bp.2.1
    have hi : vp_in (nI j) 64 := vp_in_nI (by omega) (by omega)
    have hcl : (nI j).toNatClampNeg = j := nI_clamp (by omega)
    have b1 : ly_vC m r p < 2 ^ 31 := ly_vC_bd hm bp
    have nx := ly_ycos40 hm hr hM B (j + 1) n (ly_stp (fun _ => true) (ly_vC m r) o p) (by omega) HB (fun r hr => hb r (List.mem_cons_of_mem _ hr)) (ly_ob_stp ho b1) (by omega) K
    rw [ly_stp_t rfl] at nx
    have st : ∀ z : Int32, z = nI (p.2.1 - r) → wY_cost_73 post (wY_cost_40 post (nI m) (nI r) (nI M) ft fh fe fd cd ag e w l be bw bl n) (nI m) (nI r) (ly_en o) (nI M) (nI j) z ft fh fe fd cd ag e w l be bw bl := by
      intro z hz
      have hv : nI m * be (nI j).toNatClampNeg + z * z = nI (ly_vC m r p) := by
        rw [hcl, e1, hz, pk_mul, pk_mul, nI_add]; rfl
      refine And.intro hi (nm_r hv ?_)
      refine ly_cmp' ho b1 rfl (fun es => nm_r (nI_1 j) ?_) (fun ek => nm_r (nI_1 j) ?_) (fun es => nm_r (nI_1 j) ?_)
      · rw [es] at nx; exact nx
      · rw [ek] at nx; exact nx
      · rw [es] at nx; exact nx
    refine br_f (nI_ge (by omega) (by omega)) ⟨hi, ?_⟩
    rw [hcl, e2]
    refine pk_le p.2.1 r (fun hle => st 0 ?_) (fun hlt => ⟨hi, st _ ?_⟩)
    · rw [Nat.sub_eq_zero_of_le hle]; rfl
    · exact pk_sub (by omega)
theorem ly_ylas23 {M : Nat} {x y : Int32} (hM : M ≤ 64) : ∀ (B : List ly_B) (j n : Nat) (o : Option Nat),
    j + B.length = M → ly_Rp be bw bl j B → (∀ q, q ∈ B → ly_bd q) → ly_ob o → B.length < n →
    post (ly_en (B.foldl (ly_stp (ly_qL x y) (fun p => p.2.2)) o)) (ft, fh, fe, fd, cd, ag, e, w, l, be, bw, bl) →
    wY_last_23 post x y (nI M) ft fh fe fd cd ag e w l be bw bl n (ly_en o) (nI j)
  | _, _, 0, _, _, _, _, _, hn, _ => absurd hn (Nat.not_lt_zero _)
  | [], j, n + 1, o, hj, _, _, _, _, K => br_t (nI_le (by rw [List.length_nil] at hj; omega) (by rw [List.length_nil] at hj; omega)) K
  | p :: B, j, n + 1, o, hj, HB, hb, ho, hn, K => by
    rw [List.length_cons] at hj hn
    obtain ⟨⟨e1, e2, e3⟩, HB⟩ := HB
    have bp := hb p List.mem_cons_self
    have hi : vp_in (nI j) 64 := vp_in_nI (by omega) (by omega)
    have hcl : (nI j).toNatClampNeg = j := nI_clamp (by omega)
    have b1 : p.2.2 < 2 ^ 31 := by have := bp.2.2; omega
    have nx := ly_ylas23 hM B (j + 1) n (ly_stp (ly_qL x y) (fun p => p.2.2) o p) (by omega) HB (fun r hr => hb r (List.mem_cons_of_mem _ hr)) (ly_ob_stp ho b1) (by omega) K
    have no : ly_qL x y p = false → wY_last_56 post (wY_last_23 post x y (nI M) ft fh fe fd cd ag e w l be bw bl n) x y (ly_en o) (nI M) (nI j) ft fh fe fd cd ag e w l be bw bl := by
      intro hq
      rw [ly_stp_f hq] at nx
      exact br_t rfl (nm_r (nI_1 j) nx)
    refine br_f (nI_ge (by omega) (by omega)) ⟨hi, ?_⟩
    rw [hcl, e1]
    refine br_c (fun hq => no ?_) (fun hq => ⟨hi, ?_⟩)
    · rw [ly_qL, ly_qE_f hq bp, Bool.false_and]
    rw [e2]
    refine br_c (fun hq2 => no ?_) (fun hq2 => ?_)
    · rw [ly_qL, ly_qW_f hq2 bp, Bool.and_false]
    have hq3 : ly_qL x y p = true := by rw [ly_qL, ly_qE_t hq bp, ly_qW_t hq2 bp]; rfl
    rw [ly_stp_t hq3] at nx
    refine br_f (by decide) ?_
    rw [hcl, e3]
    refine ly_cmp ho b1 rfl hi (fun es => ⟨hi, nm_e (nm_r (nI_1 j) ?_)⟩) (fun ek => nm_r (nI_1 j) ?_) (fun es => ⟨hi, nm_e (nm_r (nI_1 j) ?_)⟩)
    · rw [es] at nx; exact nx
    · rw [ek] at nx; exact nx
    · rw [es] at nx; exact nx
theorem ly_ysame {pst : Int32 → Prop} {f : Nat → ly_B} {M u v : Nat} (hM : M ≤ 64) (hB : ly_Bx be bw bl f M) (hb : ∀ j, j < M → ly_bd (f j)) (hu : u < M) (hv : v < M)
    (h1 : f u = f v → pst 1) (h0 : f u ≠ f v → pst 0) : wpY_same pst (ft, fh, fe, fd, cd, ag, e, w, l, be, bw, bl) (nI u) (nI v) := by
  have iu : vp_in (nI u) 64 := vp_in_nI (by omega) (by omega)
  have iv : vp_in (nI v) 64 := vp_in_nI (by omega) (by omega)
  have cu : (nI u).toNatClampNeg = u := nI_clamp (by omega)
  have cv : (nI v).toNatClampNeg = v := nI_clamp (by omega)
  obtain ⟨u1, u2, u3⟩ := hB u hu
  obtain ⟨v1, v2, v3⟩ := hB v hv
  obtain ⟨bu1, bu2, bu3⟩ := hb u hu
  obtain ⟨bv1, bv2, bv3⟩ := hb v hv
  refine And.intro iu ⟨iv, ?_⟩
  rw [cu, cv, u1, v1]
  refine pk_eq (f u).1 (f v).1 (fun a1 => ⟨iu, iv, ?_⟩) (fun a1 => h0 fun z => a1 (by rw [z]))
  rw [u2, v2]
  refine pk_eq (f u).2.1 (f v).2.1 (fun a2 => ⟨iu, iv, ?_⟩) (fun a2 => h0 fun z => a2 (by rw [z]))
  rw [u3, v3]
  exact pk_eq (f u).2.2 (f v).2.2 (fun a3 => h1 (Prod.ext a1 (Prod.ext a2 a3))) (fun a3 => h0 fun z => a3 (by rw [z]))
theorem ly_yis57 {pst : Int32 → Prop} {J : Int32 → Prop} {x2 z : Int32} {f : Nat → ly_B} {M u v : Nat} (hM : M ≤ 64) (hB : ly_Bx be bw bl f M) (hb : ∀ j, j < M → ly_bd (f j)) (hu : u < M) (hv : v < M)
    (hz : z = if ly_le (f v) (f u) = true then 1 else 0) (h0 : ly_bad f u v = true → pst 0) (hn : ly_bad f u v = false → J (nI (v + 1))) :
    wY_isBest_57 pst J (nI u) x2 (nI v) z ft fh fe fd cd ag e w l be bw bl := by
  unfold wY_isBest_57
  refine ly_ysame hM hB hb hv hu (fun es => br_f (by decide) ?_) (fun ns => br_t rfl ?_)
  · rw [ly_bad, if_pos es] at h0 hn
    exact pk_le u v (fun h => nm_r (nI_1 v) (hn (decide_eq_false (by omega)))) (fun h => h0 (decide_eq_true h))
  · rw [ly_bad, if_neg ns] at h0 hn
    cases hle : ly_le (f v) (f u) with
    | true =>
      rw [hle, if_pos rfl] at hz
      exact br_f (by rw [hz]; decide) (h0 hle)
    | false =>
      rw [hle, if_neg Bool.false_ne_true] at hz
      exact br_t hz (nm_r (nI_1 v) (hn hle))
theorem ly_yis2 {pst : Int32 → Prop} {f : Nat → ly_B} {M u : Nat} (hM : M ≤ 64) (hB : ly_Bx be bw bl f M) (hb : ∀ j, j < M → ly_bd (f j)) (hu : u < M)
    (h1 : ly_isB f M u = true → pst 1) (h0 : ly_isB f M u = false → pst 0) : ∀ (r v n : Nat), v + r = M → r < n → (∀ j, j < v → ly_bad f u j = false) →
    wY_isBest_2 pst (nI u) (nI M) ft fh fe fd cd ag e w l be bw bl n (nI v)
  | _, _, 0, _, hn, _ => absurd hn (Nat.not_lt_zero _)
  | 0, v, n + 1, hv, _, hi => br_t (nI_le (by omega) (by omega)) (h1 (ly_isB_iff.mpr fun j hj => hi j (by omega)))
  | r + 1, v, n + 1, hv, hn, hi => by
    have hvM : v < M := by omega
    have iu : vp_in (nI u) 64 := vp_in_nI (by omega) (by omega)
    have iv : vp_in (nI v) 64 := vp_in_nI (by omega) (by omega)
    have cu : (nI u).toNatClampNeg = u := nI_clamp (by omega)
    have cv : (nI v).toNatClampNeg = v := nI_clamp (by omega)
    obtain ⟨u1, u2, u3⟩ := hB u hu
    obtain ⟨v1, v2, v3⟩ := hB v hvM
    obtain ⟨bu1, bu2, bu3⟩ := hb u hu
    obtain ⟨bv1, bv2, bv3⟩ := hb v hvM
    have nx : ly_bad f u v = false → wY_isBest_2 pst (nI u) (nI M) ft fh fe fd cd ag e w l be bw bl n (nI (v + 1)) := by
      intro hbv
      refine ly_yis2 hM hB hb hu h1 h0 r (v + 1) n (by omega) (by omega) fun j hj => ?_
      by_cases ej : j = v
      · rw [ej]; exact hbv
      · exact hi j (by omega)
    have out : ly_bad f u v = true → pst 0 := by
      intro hbv
      refine h0 ?_
      cases hh : ly_isB f M u with
      | false => rfl
      | true =>
        have := ly_isB_iff.mp hh v hvM
        rw [hbv] at this
        exact absurd this.symm Bool.false_ne_true
    have no : ly_le (f v) (f u) = false → wY_isBest_56 pst (wY_isBest_2 pst (nI u) (nI M) ft fh fe fd cd ag e w l be bw bl n) (nI u) (nI M) (nI v) ft fh fe fd cd ag e w l be bw bl := by
      intro hle
      unfold wY_isBest_56
      exact ly_yis57 hM hB hb hu hvM (by rw [hle]; rfl) out nx
    refine br_f (nI_ge (by omega) (by omega)) ⟨iv, iu, ?_⟩
    rw [cu, cv, u1, v1]
    refine pk_lt (f u).1 (f v).1 (fun h => no (ly_le_n.mpr (by omega))) (fun g1 => ⟨iv, iu, ?_⟩)
    rw [u2, v2]
    refine pk_lt (f u).2.1 (f v).2.1 (fun h => no (ly_le_n.mpr (by omega))) (fun g2 => ⟨iv, iu, ?_⟩)
    rw [u3, v3]
    refine pk_lt (f u).2.2 (f v).2.2 (fun h => no (ly_le_n.mpr (by omega))) (fun g3 => ?_)
    exact ly_yis57 hM hB hb hu hvM (by rw [ly_le_iff.mpr ⟨g1, g2, g3⟩]; rfl) out nx
theorem ly_yis {pst : Int32 → Prop} {f : Nat → ly_B} {M u : Nat} (hM : M ≤ 64) (hB : ly_Bx be bw bl f M) (hb : ∀ j, j < M → ly_bd (f j)) (hu : u < M)
    (h1 : ly_isB f M u = true → pst 1) (h0 : ly_isB f M u = false → pst 0) :
    wpY_isBest pst (ft, fh, fe, fd, cd, ag, e, w, l, be, bw, bl) (nI u) (nI M) :=
  ⟨M + 1, ly_yis2 hM hB hb hu h1 h0 M 0 (M + 1) (Nat.zero_add _) (Nat.lt_succ_self _) (fun j hj => absurd hj (Nat.not_lt_zero j))⟩
theorem ly_ybest21 {f : Nat → ly_B} {M : Nat} (hM : M ≤ 64) (hB : ly_Bx be bw bl f M) (hb : ∀ j, j < M → ly_bd (f j)) : ∀ (r v n x : Nat), v + r = M → r < n →
    post (nI (x + ((List.range' v r).filter (ly_isB f M)).length)) (ft, fh, fe, fd, cd, ag, e, w, l, be, bw, bl) →
    wY_best_21 post (nI M) ft fh fe fd cd ag e w l be bw bl n (nI x) (nI v)
  | _, _, 0, _, _, hn, _ => absurd hn (Nat.not_lt_zero _)
  | 0, v, n + 1, x, hv, _, K => br_t (nI_le (by omega) (by omega)) K
  | r + 1, v, n + 1, x, hv, hn, K => by
    refine br_f (nI_ge (by omega) (by omega)) ?_
    rw [List.range'_succ] at K
    refine ly_yis hM hB hb (by omega) (fun h => br_f (by decide) (nm_r (nI_1 x) (nm_r (nI_1 v) ?_))) (fun h => br_t rfl (nm_r (nI_1 v) ?_))
    · rw [List.filter_cons_of_pos h, List.length_cons] at K
      refine ly_ybest21 hM hB hb r (v + 1) n (x + 1) (by omega) (by omega) ?_
      rw [show x + 1 + (List.filter (ly_isB f M) (List.range' (v + 1) r)).length = x + ((List.filter (ly_isB f M) (List.range' (v + 1) r)).length + 1) by omega]
      exact K
    · rw [List.filter_cons_of_neg (by rw [h]; exact Bool.false_ne_true)] at K
      exact ly_ybest21 hM hB hb r (v + 1) n x (by omega) (by omega) K
end
end
section
def ly_I (T : List ly_T) (Q : List ly_D) (cnt e w l cd ag : Nat → Int32) : Prop :=
  T.length ≤ 48 ∧ ly_ok T ∧ ly_Tk cd ag T ∧ ly_sem T = Q.map (fun d => d.1) ∧ ly_C Q = ly_ch T ∧ ly_Gd Q ∧ ly_Dk cnt e w l Q
/-- both sides hold the tokens T; the component's documents are the fronts of what the tokens mean -/
def i_Rel (k : Nat) (u : SX) (v : SY) : Prop :=
  ∃ (T : List ly_T) (Q : List ly_D) (fg : Int32) (cnt e w l a b c : Nat → Int32) (fd : Int32) (cd ag ye yw yl be bw bl : Nat → Int32),
    u = (nI T.length, nI (ly_ch T), nI Q.length, fg, cnt, e, w, l, a, b, c) ∧
    v = (nI T.length, nI Q.length, nI (ly_ch T), fd, cd, ag, ye, yw, yl, be, bw, bl) ∧ ly_I T Q cnt e w l cd ag
theorem i_up {k : Nat} {u : SX} {v : SY} (h : i_Rel k u v) : i_Rel (k + 4) u v := h
theorem i_vc0 : wpX_init (fun u => wpY_init (fun v => i_Rel 0 u v)) :=
  ⟨[], [], 0, fun _ => 0, fun _ => 0, fun _ => 0, fun _ => 0, fun _ => 0, fun _ => 0, fun _ => 0, 0, fun _ => 0, fun _ => 0, fun _ => 0, fun _ => 0, fun _ => 0, fun _ => 0, fun _ => 0, fun _ => 0,
    rfl, rfl, by decide, trivial, trivial, rfl, rfl, trivial, trivial⟩
theorem i_vc_clear {k : Nat} {u : SX} {v : SY} (I : i_Rel k u v) (hk : k + 4 ≤ 2048) : wpX_clear (fun u' => wpY_clear (fun v' => i_Rel (k + 4) u' v') v) u := by
  obtain ⟨T, Q, fg, cnt, e, w, l, a, b, c, fd, cd, ag, ye, yw, yl, be, bw, bl, rfl, rfl, _⟩ := I
  exact ⟨[], [], fg, cnt, e, w, l, a, b, c, fd, cd, ag, ye, yw, yl, be, bw, bl, rfl, rfl, by decide, trivial, trivial, rfl, rfl, trivial, trivial⟩
theorem ly_fin {k m K fgn cn : Nat} {T : List ly_T} {Q Q' : List ly_D} {v fg fd : Int32} {n' e' w' l' a' b' c' cd ag ye yw yl be bw bl : Nat → Int32}
    (hk : k ≤ 4) (hT : T.length ≤ 48) (hok : ly_ok T) (hTk : ly_Tk cd ag T) (hd : Q.length ≤ 10) (hA : ly_Acc k v T.length (ly_ch T) Q.length)
    (hv : k = 0 ∨ k = 3 → v = nI m) (ho : ly_ok1 k m T) (hl : Q'.length + ly_tk k = Q.length + 1) (hl0 : ly_tk k ≤ Q.length)
    (hs : ly_sem ((k, m) :: T) = Q'.map (fun d => d.1)) (hC : ly_C Q' = ly_ch ((k, m) :: T)) (hG : ly_Gd Q') (hD : ly_Dk n' e' w' l' Q') (hf : fgn = Q'.length) (hcn : cn = ly_ch ((k, m) :: T)) :
    wpY_token (fun r' v' => r' = nI fgn ∧ i_Rel K (nI (T.length + 1), nI cn, nI fgn, fg, n', e', w', l', a', b', c') v')
      (nI T.length, nI Q.length, nI (ly_ch T), fd, cd, ag, ye, yw, yl, be, bw, bl) (nI k) v := by
  subst hf hcn
  refine ly_ytok hk hT hd (ly_ok_ch T hok) (fun _ => ?_) (fun nA => absurd hA nA)
  refine ly_yt68 (ch' := ly_ch ((k, m) :: T)) (d' := Q'.length) hk hA.1 rfl hl hl0 ⟨rfl, ?_⟩
  refine ⟨(k, m) :: T, Q', fg, n', e', w', l', a', b', c', fd, upd cd T.length (nI k), upd ag T.length v, ye, yw, yl, be, bw, bl, rfl, rfl, ?_⟩
  have := hA.1
  refine ⟨by rw [List.length_cons]; omega, ⟨ho, hok⟩, ⟨⟨pk_us, fun z => ?_⟩, ly_Tk_upd T (Nat.le_refl _) hTk⟩, hs, hC, hG, hD⟩
  exact pk_us.trans (hv z)
theorem ly_pw {a b c d : Nat} (ha : a ≤ 2 ^ c) (hb : b ≤ 2 ^ d) (h : d + c ≤ 6) : a * b ≤ 64 := by
  have h1 : a * b ≤ 2 ^ c * 2 ^ d := Nat.mul_le_mul ha hb
  rw [← Nat.pow_add] at h1
  have h2 : 2 ^ (c + d) ≤ 2 ^ 6 := Nat.pow_le_pow_right (by decide) (by omega)
  exact Nat.le_trans h1 h2
theorem ly_pw1 {a b c d : Nat} (ha : a ≤ 2 ^ c) (hb : b ≤ 2 ^ d) (h : d + c < 6) : a + b ≤ 64 := by
  have h1 : 2 ^ c ≤ 2 ^ 5 := Nat.pow_le_pow_right (by decide) (by omega)
  have h2 : 2 ^ d ≤ 2 ^ 5 := Nat.pow_le_pow_right (by decide) (by omega)
  omega
end
section
theorem i_vc_token {k : Nat} {u : SX} {v : SY} (I : i_Rel k u v) (hk : k + 4 ≤ 2048) (v1 : Int32) (v2 : Int32) : wpX_token (fun r u' => wpY_token (fun r' v' => r' = r ∧ i_Rel (k + 4) u' v') v v1 v2) u v1 v2 := by
  obtain ⟨T, Q, fg, cnt, e, w, l, a, b, c, fd, cd, ag, ye, yw, yl, be, bw, bl, rfl, rfl, II⟩ := I
  have RR : i_Rel (k + 4) (nI T.length, nI (ly_ch T), nI Q.length, fg, cnt, e, w, l, a, b, c) (nI T.length, nI Q.length, nI (ly_ch T), fd, cd, ag, ye, yw, yl, be, bw, bl) :=
    ⟨T, Q, fg, cnt, e, w, l, a, b, c, fd, cd, ag, ye, yw, yl, be, bw, bl, rfl, rfl, II⟩
  obtain ⟨hT, hok, hTk, hs, hC, hG, hD⟩ := II
  by_cases h0 : v1 < 0
  · exact br_t h0 (br_t h0 ⟨rfl, RR⟩)
  by_cases h4 : 4 < v1
  · exact br_f h0 (br_t h4 (br_f h0 (br_t h4 ⟨rfl, RR⟩)))
  obtain ⟨q, hq, rfl⟩ := nI_of2 (M := 4) (n := 4) (by decide) h0 (Int32.not_lt.mp h4)
  have hsl : (ly_sem T).length = Q.length := by rw [hs, List.length_map]
  have hlen : Q.length ≤ 10 := by rw [← hsl]; exact ly_ok_len T hok
  have hch := ly_ok_ch T hok
  refine ly_xtok hq hT hlen hch (fun A => ?_) (fun nA => ly_ytok hq hT hlen hch (fun A => absurd A nA) (fun _ => ⟨rfl, RR⟩))
  by_cases q0 : q = 0
  · subst q0
    obtain ⟨A1, A2, A3⟩ := A.2.1 rfl
    obtain ⟨m, hm, rfl⟩ := nI_of2 (M := 40) (n := 40) (by decide) A2 (Int32.not_lt.mp A3)
    refine ly_xt0 (fun _ => (0, m, m)) 0 hm A1 hD ?_
    intro fg' n' e' w' l' a' b' c' HD
    refine ly_fin (m := m) (Q' := (fun _ => (0, m, m), [(0, m, m)].foldl ly_gat [], 0) :: Q) hq hT hok hTk hlen A (fun _ => rfl) ?_ rfl (Nat.zero_le _) ?_ ?_ (ly_dText m hG) HD rfl rfl
    · exact ⟨by decide, fun _ => ⟨hm, by omega⟩, fun z => absurd z (by decide), fun z => absurd rfl z, fun z => absurd z (by decide)⟩
    · rw [ly_sem0, hs]; rfl
    · show 0 + ly_C Q = ly_ch T
      omega
  by_cases q3 : q = 3
  · subst q3
    obtain ⟨A1, A2, A3⟩ := A.2.2.1 rfl
    obtain ⟨m, hm, rfl⟩ := nI_of2 (M := 20) (n := 20) (by decide) A2 (Int32.not_lt.mp A3)
    cases Q with
    | nil => exact absurd A1 (by decide)
    | cons d s =>
      obtain ⟨g0, F, c0⟩ := d
      have hs' : ly_sem T = g0 :: s.map (fun d => d.1) := hs
      have ho : ly_ok1 3 m T := ⟨by decide, fun z => absurd z (by decide), fun _ => ⟨hm, by omega⟩, fun _ z => absurd rfl z, fun z => absurd z (by decide)⟩
      have hok' : ly_ok ((3, m) :: T) := ⟨ho, hok⟩
      have hsn := ly_sem3 (m := m) hs'
      rw [List.length_cons] at hlen
      refine ly_xt3 (fun b => ly_ind m (g0 b)) c0 (by omega) hD (fun p hp => ?_) ?_
      · obtain ⟨β, eb⟩ := hG.1.1.1 p hp
        rw [eb]
        have := A.1
        exact ly_gBd (g := fun b => ly_ind m (g0 b)) hok' (by rw [List.length_cons]; omega) (by rw [hsn]; exact List.mem_cons_self) β
      · intro fg' n' e' w' l' a' b' c' HD
        refine ly_fin (m := m) (Q' := (fun b => ly_ind m (g0 b), (F.map (ly_ind m)).foldl ly_gat [], c0) :: s) hq hT hok hTk (by rw [List.length_cons]; omega) A (fun _ => rfl) ho rfl A1 ?_ ?_ (ly_dInd m hG) HD rfl rfl
        · rw [hsn]; rfl
        · exact hC
  have A1 := A.2.2.2.1 q0 q3
  cases Q with
  | nil => exact absurd A1 (by decide)
  | cons d s1 =>
  cases s1 with
  | nil => exact absurd A1 (show ¬ 2 ≤ 1 by decide)
  | cons d' s =>
    obtain ⟨g1, H, c1⟩ := d
    obtain ⟨g0, F, c0⟩ := d'
    have hs' : ly_sem T = g1 :: g0 :: s.map (fun d => d.1) := hs
    have ho : ly_ok1 q 0 T := ⟨hq, fun z => absurd z q0, fun z => absurd z q3, fun _ _ => by rw [hsl]; exact A1, A.2.2.2.2⟩
    have hok' : ly_ok ((q, 0) :: T) := ⟨ho, hok⟩
    have hsn := ly_semJ (m := 0) q0 q3 hs'
    have htk : ly_tk q = 2 := by rw [ly_tk, if_neg q0, if_neg q3]
    have hC' : c1 + (c0 + ly_C s) = ly_ch T := hC
    have lF : F.length ≤ 2 ^ c0 := hG.2.1.2.1
    have lH : H.length ≤ 2 ^ c1 := hG.1.2.1
    have bF : ∀ p, p ∈ F → ly_bd p := by
      intro p hp
      obtain ⟨β, eb⟩ := hG.2.1.1.1 p hp
      rw [eb]
      exact ly_gBd hok hT (by rw [hs']; exact List.mem_cons_of_mem _ List.mem_cons_self) β
    have bH : ∀ p, p ∈ H → ly_bd p := by
      intro p hp
      obtain ⟨β, eb⟩ := hG.1.1.1 p hp
      rw [eb]
      exact ly_gBd hok hT (by rw [hs']; exact List.mem_cons_self) β
    have At := A.1
    rw [List.length_cons, List.length_cons] at hlen
    by_cases q4 : q = 4
    · subst q4
      have A5 := A.2.2.2.2 rfl
      refine ly_xt4 (fun b => ly_op 4 (b (ly_C ((g1, H, c1) :: (g0, F, c0) :: s))) (g0 b) (g1 b)) (c1 + c0 + 1) (by omega) hD bF bH (ly_pw1 lF lH (by omega)) ?_
      intro fg' n' e' w' l' a' b' c' HD
      refine ly_fin (m := 0) (Q' := (fun b => ly_op 4 (b (ly_C ((g1, H, c1) :: (g0, F, c0) :: s))) (g0 b) (g1 b), (F.map (ly_ind 0) ++ H.map (ly_ind 0)).foldl ly_gat [], c1 + c0 + 1) :: s)
        hq hT hok hTk (by rw [List.length_cons, List.length_cons]; omega) A (fun z => absurd z (by decide)) ho ?_ ?_ ?_ ?_ (ly_dEither hG) HD rfl rfl
      · rw [htk]; rfl
      · rw [htk]; exact A1
      · rw [hsn, hC]; rfl
      · show c1 + c0 + 1 + ly_C s = ly_ch T + 1
        omega
    · refine ly_xt12 (fun b => ly_op q (b (ly_ch T)) (g0 b) (g1 b)) (c1 + c0) (by omega) q0 q3 q4 (by omega) hD (fun p hp => ⟨bF p hp, fun r hr => ⟨bH r hr, ?_⟩⟩) (ly_pw lF lH (by omega)) ?_
      · obtain ⟨β, e1, e2⟩ := ly_mrg hG hp hr
        have hb := ly_gBd (g := fun b => ly_op q (b (ly_ch T)) (g0 b) (g1 b)) hok' (by rw [List.length_cons]; omega) (by rw [hsn]; exact List.mem_cons_self) β
        have eo : ly_op q (β (ly_ch T)) (g0 β) (g1 β) = ly_jn q (g0 β) (g1 β) := if_neg q4
        rw [eo, ← e1, ← e2] at hb
        exact hb
      · intro fg' n' e' w' l' a' b' c' HD
        have ec : ly_ch ((q, 0) :: T) = ly_ch T := ly_chn q4
        refine ly_fin (m := 0) (Q' := (fun b => ly_op q (b (ly_ch T)) (g0 b) (g1 b), (ly_all q F H).foldl ly_gat [], c1 + c0) :: s)
          hq hT hok hTk (by rw [List.length_cons, List.length_cons]; omega) A (fun z => z.elim (fun z => absurd z q0) (fun z => absurd z q3)) ho ?_ ?_ ?_ ?_ (ly_dJoin q4 (ly_ch T) hG) HD rfl ec.symm
        · rw [htk]; rfl
        · rw [htk]; exact A1
        · rw [hsn]; rfl
        · rw [ec]
          show c1 + c0 + ly_C s = ly_ch T
          omega
end
section
def ly_all2 (g : ly_G) (n : Nat) : List ly_B := (List.range (2 ^ n)).map (fun v => g (ly_bt v))
/-- what an ask finds at a document that is there -/
theorem ly_doc {T : List ly_T} {P s : List ly_D} {g : ly_G} {F : List ly_B} {c : Nat} {cnt e w l cd ag : Nat → Int32} (II : ly_I T (P ++ (g, F, c) :: s) cnt e w l cd ag) :
    (cnt s.length = nI F.length ∧ F.length ≤ 64 ∧ ly_Rp e w l (64 * s.length) F) ∧ (∀ q, q ∈ F → ly_bd q) ∧
    (P ++ (g, F, c) :: s).length ≤ 10 ∧ (P ++ (g, F, c) :: s).length = s.length + 1 + P.length ∧
    ly_sem T = P.map (fun d => d.1) ++ g :: s.map (fun d => d.1) ∧ ly_Fr F (fun p => p ∈ ly_all2 g (ly_ch T)) ∧ (∀ v : Nat, ly_bd (g (ly_bt v))) ∧ 2 ^ ly_ch T ≤ 64 := by
  obtain ⟨hT, hok, hTk, hs, hC, hG, hD⟩ := II
  have hs' : ly_sem T = P.map (fun d => d.1) ++ g :: s.map (fun d => d.1) := by rw [hs, List.map_append]; rfl
  have hg : g ∈ ly_sem T := by rw [hs']; exact List.mem_append_right _ List.mem_cons_self
  have hlen := ly_ok_len T hok
  rw [hs, List.length_map] at hlen
  refine ⟨(ly_Dk_drop P _ hD).1, fun q hq => ?_, hlen, by rw [List.length_append, List.length_cons]; omega, hs', ly_ways hG hC, fun v => ly_gBd hok hT hg _, ?_⟩
  · obtain ⟨β, eb⟩ := (ly_Gd_drop P _ hG).1.1.1 q hq
    rw [eb]
    exact ly_gBd hok hT hg β
  · exact Nat.pow_le_pow_right (n := 2) (j := 6) (by decide) (ly_ok_ch T hok)
theorem ly_all2_len (g : ly_G) (n : Nat) : (ly_all2 g n).length = 2 ^ n := by rw [ly_all2, List.length_map, List.length_range]
theorem ly_all2_bd {g : ly_G} {n : Nat} (h : ∀ v : Nat, ly_bd (g (ly_bt v))) : ∀ q, q ∈ ly_all2 g n → ly_bd q := by
  intro q hq
  obtain ⟨v, _, e⟩ := List.mem_map.mp hq
  rw [← e]; exact h v
theorem ly_all2_Rp {g : ly_G} {n : Nat} {be bw bl : Nat → Int32} (h : ly_Bx be bw bl (fun v => g (ly_bt v)) (2 ^ n)) : ly_Rp be bw bl 0 (ly_all2 g n) := by
  rw [ly_all2, List.range_eq_range']
  exact ly_Rp_fn (2 ^ n) 0 fun j _ hj => h j (by omega)
theorem ly_qW_m {x : Int32} : ∀ a b, ly_le a b = true → ly_qW x b = true → ly_qW x a = true := by
  intro a b h hb
  rw [ly_le_iff] at h
  have hb' := of_decide_eq_true hb
  exact decide_eq_true (by omega)
theorem ly_qE_m {x : Int32} : ∀ a b, ly_le a b = true → ly_qE x b = true → ly_qE x a = true := by
  intro a b h hb
  rw [ly_le_iff] at h
  have hb' := of_decide_eq_true hb
  exact decide_eq_true (by omega)
theorem ly_qL_m {x y : Int32} : ∀ a b, ly_le a b = true → ly_qL x y b = true → ly_qL x y a = true := by
  intro a b h hb
  rw [ly_qL, Bool.and_eq_true] at hb ⊢
  exact ⟨ly_qE_m a b h hb.1, ly_qW_m a b h hb.2⟩
theorem ly_vC_m {m r : Nat} : ∀ a b, ly_le a b = true → ly_vC m r a ≤ ly_vC m r b := by
  intro a b h
  rw [ly_le_iff] at h
  have h1 : m * a.1 ≤ m * b.1 := Nat.mul_le_mul_left m h.1
  have h2 : (a.2.1 - r) * (a.2.1 - r) ≤ (b.2.1 - r) * (b.2.1 - r) := Nat.mul_le_mul (by omega) (by omega)
  exact Nat.add_le_add h1 h2
theorem ly_clamp (x t : Int32) {n : Nat} (ht : t = nI n) (hn : n < 2 ^ 31) : ∃ m : Nat, m ≤ n ∧ ∀ A : Int32 → Prop, A (nI m) →
    ((0 ≤ x → ((x ≤ t → A x) ∧ (¬ x ≤ t → A t))) ∧ (¬ 0 ≤ x → A 0)) := by
  by_cases h0 : x < 0
  · exact ⟨0, Nat.zero_le _, fun A hA => br_f (Int32.not_le.mpr h0) hA⟩
  · obtain ⟨j, hj, rfl⟩ := nI_of h0
    by_cases h1 : j ≤ n
    · exact ⟨j, h1, fun A hA => br_t (nI_pos' hj) (br_t (by rw [ht]; exact nI_le h1 hn) hA)⟩
    · exact ⟨n, Nat.le_refl _, fun A hA => br_t (nI_pos' hj) (br_f (by rw [ht]; exact nI_ge (by omega) hj) (by rw [ht]; exact hA))⟩
/-- a number asks for a document that is there, or for none -/
theorem ly_pick (v : Int32) {Q : List ly_D} (hQ : Q.length ≤ 10) : (¬ v < 0 → ¬ v < nI Q.length) ∨ ∃ (P s : List ly_D) (g : ly_G) (F : List ly_B) (c : Nat), v = nI P.length ∧ Q = P ++ (g, F, c) :: s := by
  by_cases h0 : v < 0
  · exact Or.inl fun z => absurd h0 z
  · by_cases h1 : v < nI Q.length
    · obtain ⟨j, hj, rfl⟩ := nI_of h0
      obtain ⟨P, d, s, hL, hk⟩ := ly_cut Q j ((nI_ltI hj (by omega)).mp h1)
      obtain ⟨g, F, c⟩ := d
      exact Or.inr ⟨P, s, g, F, c, by rw [hk], hL⟩
    · exact Or.inl fun _ => h1
theorem ly_IQ {T : List ly_T} {Q : List ly_D} {cnt e w l cd ag : Nat → Int32} (II : ly_I T Q cnt e w l cd ag) : Q.length ≤ 10 := by
  have h := ly_ok_len T II.2.1
  rw [II.2.2.2.1, List.length_map] at h
  exact h
end
section
theorem i_vc_lines {k : Nat} {u : SX} {v : SY} (I : i_Rel k u v) (hk : k + 4 ≤ 2048) (v1 : Int32) (v2 : Int32) : wpX_lines (fun r => wpY_lines (fun r' v' => r' = r ∧ i_Rel (k + 4) u v') v v1 v2) u v1 v2 := by
  obtain ⟨T, Q, fg, cnt, e, w, l, a, b, c, fd, cd, ag, ye, yw, yl, be, bw, bl, rfl, rfl, II⟩ := I
  rcases ly_pick v1 (ly_IQ II) with hm | ⟨P, s, g, F, ch, rfl, rfl⟩
  · refine ⟨1, ?_⟩
    unfold wX_lines_5
    refine ly_xbox0 hm (br_t (by decide) ?_)
    unfold wpY_lines
    exact ly_ymis1 hm (br_f (by decide) ⟨rfl, T, Q, fg, cnt, e, w, l, a, b, c, fd, cd, ag, ye, yw, yl, be, bw, bl, rfl, rfl, II⟩)
  · obtain ⟨⟨hc, hF, HF⟩, bF, h10, hd, hs, hFr, bg, hM⟩ := ly_doc II
    refine ⟨F.length + 1, ly_xlin5 hd h10 hF hc F 0 (F.length + 1) none (Nat.zero_add _) HF bF ly_ob0 (Nat.lt_succ_self _) ?_⟩
    unfold wpY_lines
    refine ly_ymis0 h10 (by omega) (br_t rfl ?_)
    refine ly_ymall II.1 II.2.1 II.2.2.1 hs (List.length_map _) ?_
    intro fd' ye' yw' yl' be' bw' bl' hB
    refine ⟨2 ^ ly_ch T + 1, ly_ylin22 hM (ly_all2 g (ly_ch T)) 0 _ none (by rw [ly_all2_len, Nat.zero_add]) (ly_all2_Rp hB) (ly_all2_bd bg) ly_ob0 (by rw [ly_all2_len]; exact Nat.lt_succ_self _) ⟨?_, ?_⟩⟩
    · exact congrArg ly_en (ly_min hFr ly_qW_m (fun p q h => (ly_le_iff.mp h).1)).symm
    · exact ⟨T, _, fg, cnt, e, w, l, a, b, c, fd', cd, ag, ye', yw', yl', be', bw', bl', rfl, rfl, II⟩
theorem i_vc_width {k : Nat} {u : SX} {v : SY} (I : i_Rel k u v) (hk : k + 4 ≤ 2048) (v1 : Int32) (v2 : Int32) : wpX_width (fun r => wpY_width (fun r' v' => r' = r ∧ i_Rel (k + 4) u v') v v1 v2) u v1 v2 := by
  obtain ⟨T, Q, fg, cnt, e, w, l, a, b, c, fd, cd, ag, ye, yw, yl, be, bw, bl, rfl, rfl, II⟩ := I
  rcases ly_pick v1 (ly_IQ II) with hm | ⟨P, s, g, F, ch, rfl, rfl⟩
  · refine ⟨1, ?_⟩
    unfold wX_width_5
    refine ly_xbox0 hm (br_t (by decide) ?_)
    unfold wpY_width
    exact ly_ymis1 hm (br_f (by decide) ⟨rfl, T, Q, fg, cnt, e, w, l, a, b, c, fd, cd, ag, ye, yw, yl, be, bw, bl, rfl, rfl, II⟩)
  · obtain ⟨⟨hc, hF, HF⟩, bF, h10, hd, hs, hFr, bg, hM⟩ := ly_doc II
    refine ⟨F.length + 1, ly_xwid5 hd h10 hF hc F 0 (F.length + 1) none (Nat.zero_add _) HF bF ly_ob0 (Nat.lt_succ_self _) ?_⟩
    unfold wpY_width
    refine ly_ymis0 h10 (by omega) (br_t rfl ?_)
    refine ly_ymall II.1 II.2.1 II.2.2.1 hs (List.length_map _) ?_
    intro fd' ye' yw' yl' be' bw' bl' hB
    refine ⟨2 ^ ly_ch T + 1, ly_ywid22 hM (ly_all2 g (ly_ch T)) 0 _ none (by rw [ly_all2_len, Nat.zero_add]) (ly_all2_Rp hB) (ly_all2_bd bg) ly_ob0 (by rw [ly_all2_len]; exact Nat.lt_succ_self _) ⟨?_, ?_⟩⟩
    · exact congrArg ly_en (ly_min hFr ly_qE_m (fun p q h => (ly_le_iff.mp h).2.1)).symm
    · exact ⟨T, _, fg, cnt, e, w, l, a, b, c, fd', cd, ag, ye', yw', yl', be', bw', bl', rfl, rfl, II⟩
theorem i_vc_cost {k : Nat} {u : SX} {v : SY} (I : i_Rel k u v) (hk : k + 4 ≤ 2048) (v1 : Int32) (v2 : Int32) (v3 : Int32) : wpX_cost (fun r => wpY_cost (fun r' v' => r' = r ∧ i_Rel (k + 4) u v') v v1 v2 v3) u v1 v2 v3 := by
  obtain ⟨T, Q, fg, cnt, e, w, l, a, b, c, fd, cd, ag, ye, yw, yl, be, bw, bl, rfl, rfl, II⟩ := I
  obtain ⟨m, hm, CM⟩ := ly_clamp v2 100 (n := 100) (by decide) (by decide)
  obtain ⟨r, hr, CR⟩ := ly_clamp v3 200 (n := 200) (by decide) (by decide)
  have CMY : ∀ A : Int32 → Prop, A (nI m) → wpY_within A v2 100 := fun A hA => CM A hA
  have CRY : ∀ A : Int32 → Prop, A (nI r) → wpY_within A v3 200 := fun A hA => CR A hA
  unfold wpX_cost
  refine CM (fun z => wX_cost_20 _ v1 v3 z _ _ _ _ _ _ _ _ _ _ _) ?_
  unfold wX_cost_20
  refine CR (fun z => ∃ n52 : Nat, wX_cost_52 _ v1 (nI m) z _ _ _ _ _ _ _ _ _ _ _ n52 (-1) 0) ?_
  rcases ly_pick v1 (ly_IQ II) with hmi | ⟨P, s, g, F, ch, rfl, rfl⟩
  · refine ⟨1, ?_⟩
    unfold wX_cost_52
    refine ly_xbox0 hmi (br_t (by decide) ?_)
    unfold wpY_cost
    exact ly_ymis1 hmi (br_f (by decide) ⟨rfl, T, Q, fg, cnt, e, w, l, a, b, c, fd, cd, ag, ye, yw, yl, be, bw, bl, rfl, rfl, II⟩)
  · obtain ⟨⟨hc, hF, HF⟩, bF, h10, hd, hs, hFr, bg, hM⟩ := ly_doc II
    refine ⟨F.length + 1, ly_xcos52 hm hr hd h10 hF hc F 0 (F.length + 1) none (Nat.zero_add _) HF bF ly_ob0 (Nat.lt_succ_self _) ?_⟩
    unfold wpY_cost
    refine ly_ymis0 h10 (by omega) (br_t rfl ?_)
    refine CMY _ ?_
    refine CRY _ ?_
    refine ly_ymall II.1 II.2.1 II.2.2.1 hs (List.length_map _) ?_
    intro fd' ye' yw' yl' be' bw' bl' hB
    refine ⟨2 ^ ly_ch T + 1, ly_ycos40 hm hr hM (ly_all2 g (ly_ch T)) 0 _ none (by rw [ly_all2_len, Nat.zero_add]) (ly_all2_Rp hB) (ly_all2_bd bg) ly_ob0 (by rw [ly_all2_len]; exact Nat.lt_succ_self _) ⟨?_, ?_⟩⟩
    · exact congrArg ly_en (ly_min hFr (fun _ _ _ _ => rfl) ly_vC_m).symm
    · exact ⟨T, _, fg, cnt, e, w, l, a, b, c, fd', cd, ag, ye', yw', yl', be', bw', bl', rfl, rfl, II⟩
theorem i_vc_best {k : Nat} {u : SX} {v : SY} (I : i_Rel k u v) (hk : k + 4 ≤ 2048) (v1 : Int32) : wpX_best (fun r => wpY_best (fun r' v' => r' = r ∧ i_Rel (k + 4) u v') v v1) u v1 := by
  obtain ⟨T, Q, fg, cnt, e, w, l, a, b, c, fd, cd, ag, ye, yw, yl, be, bw, bl, rfl, rfl, II⟩ := I
  rcases ly_pick v1 (ly_IQ II) with hm | ⟨P, s, g, F, ch, rfl, rfl⟩
  · have K : wpY_best (fun r' v' => r' = -1 ∧ i_Rel (k + 4) (nI T.length, nI (ly_ch T), nI Q.length, fg, cnt, e, w, l, a, b, c) v')
        (nI T.length, nI Q.length, nI (ly_ch T), fd, cd, ag, ye, yw, yl, be, bw, bl) v1 := by
      unfold wpY_best
      exact ly_ymis1 hm (br_f (by decide) ⟨rfl, T, Q, fg, cnt, e, w, l, a, b, c, fd, cd, ag, ye, yw, yl, be, bw, bl, rfl, rfl, II⟩)
    exact br_c (fun _ => K) (fun n0 => br_f (hm n0) K)
  · obtain ⟨⟨hc, hF, HF⟩, bF, h10, hd, hs, hFr, bg, hM⟩ := ly_doc II
    refine br_f (nI_pos (by omega)) (br_t (nI_lt (by omega) (by omega)) ?_)
    refine ly_xbox hd h10 hc ?_
    unfold wpY_best
    refine ly_ymis0 h10 (by omega) (br_t rfl ?_)
    refine ly_ymall II.1 II.2.1 II.2.2.1 hs (List.length_map _) ?_
    intro fd' ye' yw' yl' be' bw' bl' hB
    refine ⟨2 ^ ly_ch T + 1, ly_ybest21 hM hB (fun j _ => bg j) (2 ^ ly_ch T) 0 _ 0 (Nat.zero_add _) (Nat.lt_succ_self _) ⟨?_, ?_⟩⟩
    · rw [Nat.zero_add, ← List.range_eq_range']
      exact congrArg nI (ly_count hFr)
    · exact ⟨T, _, fg, cnt, e, w, l, a, b, c, fd', cd, ag, ye', yw', yl', be', bw', bl', rfl, rfl, II⟩
theorem i_vc_last {k : Nat} {u : SX} {v : SY} (I : i_Rel k u v) (hk : k + 4 ≤ 2048) (v1 : Int32) (v2 : Int32) (v3 : Int32) : wpX_last (fun r => wpY_last (fun r' v' => r' = r ∧ i_Rel (k + 4) u v') v v1 v2 v3) u v1 v2 v3 := by
  obtain ⟨T, Q, fg, cnt, e, w, l, a, b, c, fd, cd, ag, ye, yw, yl, be, bw, bl, rfl, rfl, II⟩ := I
  rcases ly_pick v1 (ly_IQ II) with hm | ⟨P, s, g, F, ch, rfl, rfl⟩
  · refine ⟨1, ?_⟩
    unfold wX_last_6
    refine ly_xbox0 hm (br_t (by decide) ?_)
    unfold wpY_last
    exact ly_ymis1 hm (br_f (by decide) ⟨rfl, T, Q, fg, cnt, e, w, l, a, b, c, fd, cd, ag, ye, yw, yl, be, bw, bl, rfl, rfl, II⟩)
  · obtain ⟨⟨hc, hF, HF⟩, bF, h10, hd, hs, hFr, bg, hM⟩ := ly_doc II
    refine ⟨F.length + 1, ly_xlas6 hd h10 hF hc F 0 (F.length + 1) none (Nat.zero_add _) HF bF ly_ob0 (Nat.lt_succ_self _) ?_⟩
    unfold wpY_last
    refine ly_ymis0 h10 (by omega) (br_t rfl ?_)
    refine ly_ymall II.1 II.2.1 II.2.2.1 hs (List.length_map _) ?_
    intro fd' ye' yw' yl' be' bw' bl' hB
    refine ⟨2 ^ ly_ch T + 1, ly_ylas23 hM (ly_all2 g (ly_ch T)) 0 _ none (by rw [ly_all2_len, Nat.zero_add]) (ly_all2_Rp hB) (ly_all2_bd bg) ly_ob0 (by rw [ly_all2_len]; exact Nat.lt_succ_self _) ⟨?_, ?_⟩⟩
    · exact congrArg ly_en (ly_min hFr ly_qL_m (fun p q h => (ly_le_iff.mp h).2.2)).symm
    · exact ⟨T, _, fg, cnt, e, w, l, a, b, c, fd', cd, ag, ye', yw', yl', be', bw', bl', rfl, rfl, II⟩
end
