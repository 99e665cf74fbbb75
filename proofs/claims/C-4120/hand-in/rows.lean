section
/-! pure rows to paste: stores, nI and lN arithmetic, masks, shifts, narrowing, branches by naturals (pk_le, pk_lt, pk_eq), loops (lp1 .. lp16: the measure of the state; rp1 ..: recursion), negatives. Take what you need -/
theorem pk_us {f : Nat → Int32} {k : Nat} {x : Int32} : upd f k x k = x := if_pos rfl
theorem pk_un {f : Nat → Int32} {k j : Nat} {x : Int32} (h : j ≠ k) : upd f k x j = f j := if_neg h
theorem pk_uLs {f : Nat → Int64} {k : Nat} {x : Int64} : vp_updL f k x k = x := if_pos rfl
theorem pk_uLn {f : Nat → Int64} {k j : Nat} {x : Int64} (h : j ≠ k) : vp_updL f k x j = f j := if_neg h
theorem pk_sub {a b : Nat} (h : b ≤ a) : nI a - nI b = nI (a - b) := by
  obtain ⟨c, rfl⟩ : ∃ c, a = c + b := ⟨a - b, by omega⟩
  rw [← nI_add, Int32.add_sub_cancel, Nat.add_sub_cancel]
theorem pk_m1 (n : Nat) : nI (n + 1) + (-1) = nI n := by
  rw [← nI_1, Int32.add_assoc, show (1 : Int32) + (-1) = 0 from rfl, Int32.add_zero]
theorem pk_mul (a b : Nat) : nI a * nI b = nI (a * b) := (Int32.ofNat_mul a b).symm
theorem pk_div {a d : Nat} (ha : a < 2 ^ 31) (h0 : 0 < d) (hd : d < 2 ^ 31) : nI a / nI d = nI (a / d) := by
  apply Int32.toInt_inj.mp
  rw [lg_idiv_nonneg (by rw [nI_toInt ha]; omega) (by rw [nI_toInt hd]; omega), nI_toInt ha, nI_toInt hd, nI_toInt (Nat.lt_of_le_of_lt (Nat.div_le_self a d) ha)]
  first | rfl | exact (Int.natCast_ediv _ _).symm
theorem pk_rem {a d : Nat} (ha : a < 2 ^ 31) (h0 : 0 < d) (hd : d < 2 ^ 31) : nI a - nI a / nI d * nI d = nI (a % d) := by
  rw [pk_div ha h0 hd, pk_mul, pk_sub (Nat.div_mul_le_self a d)]
  exact congrArg nI (by have := Nat.div_add_mod' a d; omega)
theorem pk_sub_toInt {a b : Nat} (ha : a < 2 ^ 30) (hb : b < 2 ^ 30) : (nI a - nI b).toInt = (a : Int) - b := by
  rw [Int32.toInt_sub, nI_toInt (by omega), nI_toInt (by omega)]
  exact Int.bmod_eq_of_le (by omega) (by omega)
theorem pk_sneg {a b : Nat} (hb : b < 2 ^ 30) (h : a < b) : nI a - nI b < 0 := by
  rw [Int32.lt_iff_toInt_lt, pk_sub_toInt (by omega) hb, show (0 : Int32).toInt = 0 from by decide]
  omega
theorem pk_ix (x : Int32) {n : Nat} (hn : n < 2 ^ 31) : x < 0 ∨ nI n ≤ x ∨ ∃ j : Nat, j < n ∧ x = nI j := by
  by_cases h : x < 0
  · exact Or.inl h
  · obtain ⟨j, hj, rfl⟩ := nI_of h
    by_cases h2 : j < n
    · exact Or.inr (Or.inr ⟨j, h2, rfl⟩)
    · exact Or.inr (Or.inl (nI_le (by omega) hj))
theorem pk_le {x y : Int32} {A B : Prop} (a b : Nat) (f : a ≤ b → A) (g : b < a → B) (hx : x = nI a := by rfl) (hy : y = nI b := by rfl) (ha : a < 2 ^ 31 := by omega) (hb : b < 2 ^ 31 := by omega) : (x ≤ y → A) ∧ (¬ x ≤ y → B) := by
  subst hx hy
  rw [nI_leI ha hb]
  exact ⟨f, fun z => g (by omega)⟩
theorem pk_lt {x y : Int32} {A B : Prop} (a b : Nat) (f : a < b → A) (g : b ≤ a → B) (hx : x = nI a := by rfl) (hy : y = nI b := by rfl) (ha : a < 2 ^ 31 := by omega) (hb : b < 2 ^ 31 := by omega) : (x < y → A) ∧ (¬ x < y → B) := by
  subst hx hy
  rw [nI_ltI ha hb]
  exact ⟨f, fun z => g (by omega)⟩
theorem pk_eq {x y : Int32} {A B : Prop} (a b : Nat) (f : a = b → A) (g : a ≠ b → B) (hx : x = nI a := by rfl) (hy : y = nI b := by rfl) (ha : a < 2 ^ 31 := by omega) (hb : b < 2 ^ 31 := by omega) : (x = y → A) ∧ (¬ x = y → B) := by
  subst hx hy
  rw [nI_eq ha hb]
  exact ⟨f, g⟩
theorem pk_in {x : Int32} (n N : Nat) (h : n < N) (hx : x = nI n := by rfl) (hN : N < 2 ^ 31 := by omega) : vp_in x N := by
  subst hx
  exact vp_in_nI h hN
theorem pk_cl {x : Int32} (n : Nat) (hx : x = nI n := by rfl) (h : n < 2 ^ 31 := by omega) : x.toNatClampNeg = n := by
  subst hx
  exact nI_clamp h
theorem pk_tn {n : Nat} (h : n < 2 ^ 32) : (nI n).toBitVec.toNat = n := Nat.mod_eq_of_lt h
theorem pk_and (x : Int32) {m : Int32} (k : Nat) (hm : m.toBitVec.toNat = 2 ^ k - 1) : x &&& m = nI (x.toBitVec.toNat % 2 ^ k) := by
  apply Int32.toBitVec_inj.mp
  apply BitVec.eq_of_toNat_eq
  rw [Int32.toBitVec_and, BitVec.toNat_and, hm, Nat.and_two_pow_sub_one_eq_mod]
  show _ = (BitVec.ofNat 32 _).toNat
  rw [BitVec.toNat_ofNat]
  exact (Nat.mod_eq_of_lt (Nat.lt_of_le_of_lt (Nat.mod_le _ _) x.toBitVec.isLt)).symm
theorem pk_andN {n : Nat} (h : n < 2 ^ 32) {m : Int32} (k : Nat) (hm : m.toBitVec.toNat = 2 ^ k - 1) : nI n &&& m = nI (n % 2 ^ k) := by
  rw [pk_and _ k hm, pk_tn h]
theorem pk_andE (x : Int32) {m : Int32} (k : Nat) (hm : m.toBitVec.toNat = 2 ^ k - 1) : ∃ j : Nat, j < 2 ^ k ∧ x &&& m = nI j := ⟨_, Nat.mod_lt _ (Nat.two_pow_pos k), pk_and x k hm⟩
theorem pk_andIn (x : Int32) {m : Int32} (k : Nat) (hm : m.toBitVec.toNat = 2 ^ k - 1) (hk : k ≤ 30) : vp_in (x &&& m) (2 ^ k) := by
  obtain ⟨j, hj, e⟩ := pk_andE x k hm
  rw [e]
  exact vp_in_nI hj (Nat.lt_of_le_of_lt (Nat.pow_le_pow_right (by decide) hk) (by decide))
theorem pk_shl (a s : Int32) (k : Nat) (hs : (s.toBitVec.smod 32).toNat = k) : (a <<< s).toBitVec.toNat = a.toBitVec.toNat * 2 ^ k % 2 ^ 32 := by
  show (a.toBitVec <<< (s.toBitVec.smod 32).toNat).toNat = _
  rw [hs, BitVec.toNat_shiftLeft, Nat.shiftLeft_eq]
theorem pk_shlN {n : Nat} (s : Int32) (k : Nat) (hs : (s.toBitVec.smod 32).toNat = k) (h : n * 2 ^ k < 2 ^ 32) : nI n <<< s = nI (n * 2 ^ k) := by
  apply Int32.toBitVec_inj.mp
  apply BitVec.eq_of_toNat_eq
  have hn : n < 2 ^ 32 := Nat.lt_of_le_of_lt (Nat.le_mul_of_pos_right n (Nat.two_pow_pos k)) h
  rw [pk_shl _ _ k hs, pk_tn hn, pk_tn h, Nat.mod_eq_of_lt h]
theorem pk_shr (a s : Int32) (k : Nat) (hs : (s.toBitVec.smod 32).toNat = k) : (a >>> s).toInt = a.toInt >>> k := by
  show (a.toBitVec.sshiftRight (s.toBitVec.smod 32).toNat).toInt = _
  rw [hs, BitVec.toInt_sshiftRight]
  rfl
theorem pk_shrN {n : Nat} (h : n < 2 ^ 31) (s : Int32) (k : Nat) (hs : (s.toBitVec.smod 32).toNat = k) : nI n >>> s = nI (n / 2 ^ k) := by
  apply Int32.toInt_inj.mp
  have h2 : n / 2 ^ k ≤ n := Nat.div_le_self _ _
  rw [pk_shr _ _ k hs, nI_toInt h, nI_toInt (by omega), Int.shiftRight_eq_div_pow]
  rfl
end
section
/-! chains of links and families of them -/
/-- h and nx spell the list: h is the first one's number (-1: none), nx gives the next -/
def sc_SL (nx : Nat → Int32) : Int32 → List Nat → Prop
  | h, [] => h = -1
  | h, c :: l => h = nI c ∧ sc_SL nx (nx c) l
def sc_hd : List Nat → Int32
  | [] => -1
  | c :: _ => nI c
theorem sc_SL_hd {nx : Nat → Int32} {h : Int32} {l : List Nat} (H : sc_SL nx h l) : h = sc_hd l := by
  cases l with
  | nil => exact H
  | cons c l => exact H.1
theorem sc_ne_of {a c : Nat} {l : List Nat} (h : a ∉ c :: l) : c ≠ a := fun e => h (e ▸ List.mem_cons_self)
theorem sc_nm_of {a c : Nat} {l : List Nat} (h : a ∉ c :: l) : a ∉ l := fun e => h (List.mem_cons_of_mem _ e)
theorem sc_SL_fr {nx : Nat → Int32} {a : Nat} {v : Int32} : ∀ {l : List Nat} {h : Int32}, sc_SL nx h l → a ∉ l → sc_SL (upd nx a v) h l := by
  intro l
  induction l with
  | nil => intro h H _; exact H
  | cons c l ih =>
    intro h H ha
    refine ⟨H.1, ?_⟩
    rw [pk_un (sc_ne_of ha)]
    exact ih H.2 (sc_nm_of ha)
theorem sc_SL_mid {nx : Nat → Int32} {c : Nat} {B : List Nat} : ∀ {A : List Nat} {h : Int32}, sc_SL nx h (A ++ c :: B) → sc_SL nx (nx c) B := by
  intro A
  induction A with
  | nil => intro h H; exact H.2
  | cons d A ih => intro h H; exact ih H.2
theorem sc_SL_push {nx : Nat → Int32} {h : Int32} {l : List Nat} {c : Nat} (H : sc_SL nx h l) (hc : c ∉ l) : sc_SL (upd nx c h) (nI c) (c :: l) := by
  refine ⟨rfl, ?_⟩
  rw [pk_us]
  exact sc_SL_fr H hc
theorem sc_SL_cut {nx : Nat → Int32} {a c : Nat} {B : List Nat} : ∀ {A : List Nat} {h : Int32}, sc_SL nx h (A ++ a :: c :: B) → (A ++ a :: c :: B).Nodup → sc_SL (upd nx a (nx c)) h (A ++ a :: B) := by
  intro A
  induction A with
  | nil =>
    intro h H nd
    refine ⟨H.1, ?_⟩
    rw [pk_us]
    exact sc_SL_fr H.2.2 (sc_nm_of (List.nodup_cons.mp nd).1)
  | cons d A ih =>
    intro h H nd
    have nd' := List.nodup_cons.mp nd
    refine ⟨H.1, ?_⟩
    rw [pk_un (fun e => nd'.1 (by rw [e]; simp))]
    exact ih H.2 nd'.2
theorem sc_SL_app {nx : Nat → Int32} {a c : Nat} : ∀ {l : List Nat} {h : Int32}, sc_SL nx h (l ++ [a]) → c ∉ l ++ [a] → (l ++ [a]).Nodup → sc_SL (upd (upd nx c (-1)) a (nI c)) h (l ++ [a] ++ [c]) := by
  intro l
  induction l with
  | nil =>
    intro h H hc nd
    have hac : c ≠ a := fun e => hc (by rw [e]; simp)
    refine ⟨H.1, ?_, ?_⟩
    · rw [pk_us]
    · show upd (upd nx c (-1)) a (nI c) c = -1
      rw [pk_un hac, pk_us]
  | cons d l ih =>
    intro h H hc nd
    have nd' := List.nodup_cons.mp nd
    refine ⟨H.1, ?_⟩
    rw [pk_un (fun e => nd'.1 (by rw [e]; simp)), pk_un (sc_ne_of hc)]
    exact ih H.2 (sc_nm_of hc) nd'.2
theorem sc_neg1 : (-1 : Int32) < 0 := by decide
theorem sc_ne1 {c : Nat} (h : c < 2 ^ 31) : ¬ (-1 : Int32) = nI c := fun e => nI_pos h (e ▸ sc_neg1)
theorem sc_hd_neg {l : List Nat} (b : ∀ d, d ∈ l → d < 32) : sc_hd l < 0 ↔ l = [] := by
  cases l with
  | nil => exact ⟨fun _ => rfl, fun _ => sc_neg1⟩
  | cons c l => exact ⟨fun h => absurd h (nI_pos (by have := b c List.mem_cons_self; omega)), fun h => nomatch h⟩
/-! families: n lists over one array of links -/
def sc_FM (n : Nat) (nx hd : Nat → Int32) (V : Nat → List Nat) : Prop := ∀ s, s < n → sc_SL nx (hd s) (V s)
def sc_LF (n : Nat) (V : Nat → List Nat) : Prop :=
  (∀ s, s < n → (V s).Nodup ∧ ∀ d, d ∈ V s → d < 32) ∧ (∀ s t d, s < n → t < n → d ∈ V s → d ∈ V t → s = t)
theorem sc_FM_un0 {n s c : Nat} {nx hd : Nat → Int32} {V V' : Nat → List Nat} {B : List Nat} (F : sc_FM n nx hd V) (hs : s < n) (e : V s = c :: B) (e1 : V' s = B) (e2 : ∀ t, t < n → t ≠ s → V' t = V t) : sc_FM n nx (upd hd s (nx c)) V' := by
  intro t ht
  by_cases h : t = s
  · subst h
    rw [pk_us, e1]
    have := F t ht
    rw [e] at this
    exact this.2
  · rw [pk_un h, e2 t ht h]
    exact F t ht
theorem sc_FM_un1 {n s a c : Nat} {nx hd : Nat → Int32} {V V' : Nat → List Nat} {A B : List Nat} (F : sc_FM n nx hd V) (L : sc_LF n V) (hs : s < n) (e : V s = A ++ a :: c :: B) (e1 : V' s = A ++ a :: B) (e2 : ∀ t, t < n → t ≠ s → V' t = V t) : sc_FM n (upd nx a (nx c)) hd V' := by
  intro t ht
  by_cases h : t = s
  · subst h
    rw [e1]
    have h1 := F t ht
    have h2 := (L.1 t ht).1
    rw [e] at h1 h2
    exact sc_SL_cut h1 h2
  · rw [e2 t ht h]
    exact sc_SL_fr (F t ht) (fun ha => h (L.2 t s a ht hs ha (by rw [e]; simp)))
theorem sc_FM_push {n s c : Nat} {nx hd : Nat → Int32} {V V' : Nat → List Nat} (F : sc_FM n nx hd V) (hs : s < n) (hc : ∀ t, t < n → c ∉ V t) (e1 : V' s = c :: V s) (e2 : ∀ t, t < n → t ≠ s → V' t = V t) : sc_FM n (upd nx c (hd s)) (upd hd s (nI c)) V' := by
  intro t ht
  by_cases h : t = s
  · subst h
    rw [pk_us, e1]
    exact sc_SL_push (F t ht) (hc t ht)
  · rw [pk_un h, e2 t ht h]
    exact sc_SL_fr (F t ht) (hc t ht)
theorem sc_FM_app0 {n s c : Nat} {nx hd : Nat → Int32} {V V' : Nat → List Nat} (F : sc_FM n nx hd V) (hs : s < n) (hc : ∀ t, t < n → c ∉ V t) (e1 : V' s = [c]) (e2 : ∀ t, t < n → t ≠ s → V' t = V t) : sc_FM n (upd nx c (-1)) (upd hd s (nI c)) V' := by
  intro t ht
  by_cases h : t = s
  · subst h
    rw [pk_us, e1]
    exact ⟨rfl, pk_us⟩
  · rw [pk_un h, e2 t ht h]
    exact sc_SL_fr (F t ht) (hc t ht)
theorem sc_FM_app1 {n s a c : Nat} {nx hd : Nat → Int32} {V V' : Nat → List Nat} {l : List Nat} (F : sc_FM n nx hd V) (L : sc_LF n V) (hs : s < n) (hc : ∀ t, t < n → c ∉ V t) (e : V s = l ++ [a]) (e1 : V' s = l ++ [a] ++ [c]) (e2 : ∀ t, t < n → t ≠ s → V' t = V t) : sc_FM n (upd (upd nx c (-1)) a (nI c)) hd V' := by
  intro t ht
  by_cases h : t = s
  · subst h
    rw [e1]
    have h1 := F t ht
    have h2 := (L.1 t ht).1
    have h3 := hc t ht
    rw [e] at h1 h2 h3
    exact sc_SL_app h1 h3 h2
  · rw [e2 t ht h]
    exact sc_SL_fr (sc_SL_fr (F t ht) (hc t ht)) (fun ha => h (L.2 t s a ht hs ha (by rw [e]; simp)))
theorem sc_LF_rev {n : Nat} {V : Nat → List Nat} (L : sc_LF n V) : sc_LF n (fun t => (V t).reverse) := by
  refine ⟨fun s hs => ⟨?_, fun d hd => (L.1 s hs).2 d (List.mem_reverse.mp hd)⟩, fun s t d hs ht h1 h2 => L.2 s t d hs ht (List.mem_reverse.mp h1) (List.mem_reverse.mp h2)⟩
  show (V s).reverse.Pairwise (fun a b => a ≠ b)
  rw [List.pairwise_reverse]
  exact (L.1 s hs).1.imp (fun h => Ne.symm h)
/-! counting -/
theorem sc_len32 {l : List Nat} {n : Nat} (nd : l.Nodup) (b : ∀ d, d ∈ l → d < n) : l.length ≤ n := by
  have h : l ⊆ List.range n := fun d hd => List.mem_range.mpr (b d hd)
  have := nd.length_le_of_subset h
  rwa [List.length_range] at this
theorem sc_len31 {l : List Nat} {n c : Nat} (nd : l.Nodup) (b : ∀ d, d ∈ l → d < n) (hc : c < n) (hn : c ∉ l) : l.length < n := by
  have h := sc_len32 (l := c :: l) (n := n) (List.nodup_cons.mpr ⟨hn, nd⟩) (fun d hd => by
    rcases List.mem_cons.mp hd with rfl | h
    · exact hc
    · exact b d h)
  rw [List.length_cons] at h
  omega
theorem sc_same_len {l m : List Nat} (h1 : l.Nodup) (h2 : m.Nodup) (h : ∀ d, d ∈ l ↔ d ∈ m) : l.length = m.length :=
  Nat.le_antisymm (h1.length_le_of_subset (fun d hd => (h d).mp hd)) (h2.length_le_of_subset (fun d hd => (h d).mpr hd))
theorem sc_map_nd {f : Nat → Nat} {n : Nat} (h : ∀ i j, i < n → j < n → f i = f j → i = j) : ((List.range n).map f).Nodup := by
  show ((List.range n).map f).Pairwise (fun a b => a ≠ b)
  rw [List.pairwise_map]
  have nd : (List.range n).Pairwise (fun a b => a ≠ b) := List.nodup_range
  refine List.Pairwise.imp_of_mem ?_ nd
  intro a b ha hb hab e
  exact hab (h a b (List.mem_range.mp ha) (List.mem_range.mp hb) e)
theorem sc_inj32 {f : Nat → Nat} {n m : Nat} (h : ∀ i j, i < n → j < n → f i = f j → i = j) (b : ∀ i, i < n → f i < m) : n ≤ m := by
  have := sc_len32 (sc_map_nd h) (n := m) (fun d hd => by
    obtain ⟨i, hi, rfl⟩ := List.mem_map.mp hd
    exact b i (List.mem_range.mp hi))
  rwa [List.length_map, List.length_range] at this
theorem sc_inj31 {f : Nat → Nat} {n m c : Nat} (h : ∀ i j, i < n → j < n → f i = f j → i = j) (b : ∀ i, i < n → f i < m) (hc : c < m) (hn : ∀ i, i < n → f i ≠ c) : n < m := by
  have := sc_len31 (sc_map_nd h) (n := m) (c := c) (fun d hd => by
    obtain ⟨i, hi, rfl⟩ := List.mem_map.mp hd
    exact b i (List.mem_range.mp hi)) hc (fun hm => by
    obtain ⟨i, hi, e⟩ := List.mem_map.mp hm
    exact hn i (List.mem_range.mp hi) e)
  rwa [List.length_map, List.length_range] at this
/-- how many of the first n cells hold x -/
def sc_cn (f : Nat → Int32) (x : Int32) : Nat → Nat
  | 0 => 0
  | n + 1 => sc_cn f x n + (if f n = x then 1 else 0)
theorem sc_cn_le (f : Nat → Int32) (x : Int32) : ∀ n, sc_cn f x n ≤ n := by
  intro n
  induction n with
  | zero => exact Nat.le_refl _
  | succ n ih => simp only [sc_cn]; split <;> omega
theorem sc_cn_pos {f : Nat → Int32} {x : Int32} : ∀ {n : Nat}, (∃ p, p < n ∧ f p = x) ↔ 0 < sc_cn f x n := by
  intro n
  induction n with
  | zero => exact ⟨fun ⟨p, h, _⟩ => by omega, fun h => absurd h (Nat.lt_irrefl 0)⟩
  | succ n ih =>
    simp only [sc_cn]
    constructor
    · rintro ⟨p, hp, e⟩
      by_cases h : p = n
      · subst h; rw [if_pos e]; omega
      · have := ih.mp ⟨p, by omega, e⟩; omega
    · intro h
      by_cases e : f n = x
      · exact ⟨n, by omega, e⟩
      · rw [if_neg e] at h
        obtain ⟨p, hp, e⟩ := ih.mpr (by omega)
        exact ⟨p, by omega, e⟩
theorem sc_cn_far {f : Nat → Int32} {x y : Int32} {p : Nat} : ∀ {n : Nat}, n ≤ p → sc_cn (upd f p y) x n = sc_cn f x n := by
  intro n
  induction n with
  | zero => intro _; rfl
  | succ n ih =>
    intro h
    simp only [sc_cn]
    rw [ih (by omega), pk_un (by omega)]
theorem sc_cn_up {f : Nat → Int32} {x y : Int32} {p : Nat} : ∀ {n : Nat}, p < n → sc_cn (upd f p y) x n + (if f p = x then 1 else 0) = sc_cn f x n + (if y = x then 1 else 0) := by
  intro n
  induction n with
  | zero => intro h; omega
  | succ n ih =>
    intro h
    simp only [sc_cn]
    by_cases e : p = n
    · subst e
      rw [sc_cn_far (Nat.le_refl _), pk_us]
      omega
    · rw [pk_un (by omega)]
      have := ih (by omega)
      omega
theorem sc_cn4 {f : Nat → Int32} : ∀ {n : Nat}, (∀ p, p < n → f p = -1 ∨ f p = 0 ∨ f p = 1 ∨ f p = 2) → sc_cn f (-1) n + sc_cn f 0 n + sc_cn f 1 n + sc_cn f 2 n = n := by
  intro n
  induction n with
  | zero => intro _; rfl
  | succ n ih =>
    intro h
    have := ih (fun p hp => h p (by omega))
    simp only [sc_cn]
    rcases h n (by omega) with e | e | e | e <;> rw [e] <;> simp <;> omega
end
section
/-! the heap without the program -/
def sc_up (f : Nat → Nat) (k x : Nat) : Nat → Nat := fun j => if j = k then x else f j
theorem sc_up_s {f : Nat → Nat} {k x : Nat} : sc_up f k x k = x := if_pos rfl
theorem sc_up_n {f : Nat → Nat} {k x j : Nat} (h : j ≠ k) : sc_up f k x j = f j := if_neg h
/-- the places i and j change what they hold -/
def sc_sw (H : Nat → Nat) (i j : Nat) : Nat → Nat := fun k => if k = i then H j else if k = j then H i else H k
theorem sc_sw_i {H : Nat → Nat} {i j : Nat} : sc_sw H i j i = H j := if_pos rfl
theorem sc_sw_j {H : Nat → Nat} {i j : Nat} : sc_sw H i j j = H i := by
  unfold sc_sw
  by_cases h : j = i
  · rw [if_pos h, h]
  · rw [if_neg h, if_pos rfl]
theorem sc_sw_n {H : Nat → Nat} {i j k : Nat} (h1 : k ≠ i) (h2 : k ≠ j) : sc_sw H i j k = H k := by
  unfold sc_sw
  rw [if_neg h1, if_neg h2]
/-- places and cells are inverse to each other -/
def sc_HB (h : Nat) (hp pl : Nat → Int32) (H : Nat → Nat) : Prop :=
  (∀ i, i < h → hp i = nI (H i) ∧ H i < 32 ∧ pl (H i) = nI i) ∧ (∀ c, c < 32 → (∀ i, i < h → H i ≠ c) → pl c = -1)
theorem sc_HB_inj {h : Nat} {hp pl : Nat → Int32} {H : Nat → Nat} (B : sc_HB h hp pl H) (hh : h ≤ 32) {i j : Nat} (hi : i < h) (hj : j < h) (e : H i = H j) : i = j := by
  have h1 := (B.1 i hi).2.2
  have h2 := (B.1 j hj).2.2
  rw [e, h2] at h1
  exact ((nI_eq (by omega) (by omega)).mp h1).symm
theorem sc_HB_sw {h i j : Nat} {hp pl : Nat → Int32} {H : Nat → Nat} (B : sc_HB h hp pl H) (hh : h ≤ 32) (hi : i < h) (hj : j < h) (hij : i ≠ j) :
    sc_HB h (upd (upd hp i (nI (H j))) j (nI (H i))) (upd (upd pl (H j) (nI i)) (H i) (nI j)) (sc_sw H i j) := by
  have inj : ∀ {a b : Nat}, a < h → b < h → a ≠ b → H a ≠ H b := fun ha hb hab e => hab (sc_HB_inj B hh ha hb e)
  constructor
  · intro k hk
    by_cases e1 : k = i
    · subst e1
      rw [sc_sw_i, pk_un hij, pk_us, pk_un (inj hj hk (Ne.symm hij)), pk_us]
      exact ⟨rfl, (B.1 j hj).2.1, rfl⟩
    · by_cases e2 : k = j
      · subst e2
        rw [sc_sw_j, pk_us, pk_us]
        exact ⟨rfl, (B.1 i hi).2.1, rfl⟩
      · rw [sc_sw_n e1 e2, pk_un e2, pk_un e1, pk_un (inj hk hi e1), pk_un (inj hk hj e2)]
        exact B.1 k hk
  · intro c hc hn
    have n1 : c ≠ H i := fun e => hn j hj (by rw [sc_sw_j, e])
    have n2 : c ≠ H j := fun e => hn i hi (by rw [sc_sw_i, e])
    rw [pk_un n1, pk_un n2]
    refine B.2 c hc (fun k hk e => ?_)
    by_cases e1 : k = i
    · exact n1 (by rw [← e, e1])
    · by_cases e2 : k = j
      · exact n2 (by rw [← e, e2])
      · exact hn k hk (by rw [sc_sw_n e1 e2, e])
theorem sc_sw_mem {h i j c : Nat} {H : Nat → Nat} (hi : i < h) (hj : j < h) : (∃ k, k < h ∧ sc_sw H i j k = c) ↔ (∃ k, k < h ∧ H k = c) := by
  constructor
  · rintro ⟨k, hk, e⟩
    by_cases e1 : k = i
    · exact ⟨j, hj, by rw [← e, e1, sc_sw_i]⟩
    · by_cases e2 : k = j
      · exact ⟨i, hi, by rw [← e, e2, sc_sw_j]⟩
      · exact ⟨k, hk, by rw [← e, sc_sw_n e1 e2]⟩
  · rintro ⟨k, hk, e⟩
    by_cases e1 : k = i
    · exact ⟨j, hj, by rw [← e, e1, sc_sw_j]⟩
    · by_cases e2 : k = j
      · exact ⟨i, hi, by rw [← e, e2, sc_sw_i]⟩
      · exact ⟨k, hk, by rw [← e, sc_sw_n e1 e2]⟩
theorem sc_sw_en (en : Nat → Nat) {H : Nat → Nat} {i j : Nat} : (fun k => en (sc_sw H i j k)) = sc_sw (fun k => en (H k)) i j := by
  funext k
  unfold sc_sw
  by_cases e1 : k = i
  · rw [if_pos e1, if_pos e1]
  · rw [if_neg e1, if_neg e1]
    by_cases e2 : k = j
    · rw [if_pos e2, if_pos e2]
    · rw [if_neg e2, if_neg e2]
/-! the order: by e, what lies above is first -/
def sc_OR (h : Nat) (e : Nat → Nat) : Prop := ∀ i, 0 < i → i < h → e ((i - 1) / 2) ≤ e i
def sc_RI (h : Nat) (e : Nat → Nat) (p a : Nat) : Prop :=
  a ≤ p ∧ (∀ i, 0 < i → i < h → i ≠ a → (a = p → (i - 1) / 2 ≠ p) → e ((i - 1) / 2) ≤ e i) ∧ (∀ i, 0 < i → i < h → (i - 1) / 2 = a → 0 < a → e ((a - 1) / 2) ≤ e i)
def sc_SI (h : Nat) (e : Nat → Nat) (a : Nat) : Prop :=
  (∀ i, 0 < i → i < h → (i - 1) / 2 ≠ a → e ((i - 1) / 2) ≤ e i) ∧ (∀ i, 0 < i → i < h → (i - 1) / 2 = a → 0 < a → e ((a - 1) / 2) ≤ e i)
theorem sc_RI_step {h p a q : Nat} {e : Nat → Nat} (R : sc_RI h e p a) (ha : 0 < a) (hh : a < h) (hq : q = (a - 1) / 2) (lt : e a < e q) : sc_RI h (sc_sw e a q) p q := by
  obtain ⟨R1, R2, R3⟩ := R
  have hqa : q < a := by omega
  refine ⟨by omega, ?_, ?_⟩
  · intro i i0 ih iq _
    by_cases e1 : i = a
    · rw [e1, sc_sw_i, ← hq, sc_sw_j]; omega
    · rw [sc_sw_n e1 iq]
      by_cases e2 : (i - 1) / 2 = a
      · rw [e2, sc_sw_i]
        have := R3 i i0 ih e2 ha
        rwa [← hq] at this
      · by_cases e3 : (i - 1) / 2 = q
        · rw [e3, sc_sw_j]
          have := R2 i i0 ih e1 (fun z => by omega)
          rw [e3] at this
          omega
        · rw [sc_sw_n e2 e3]
          exact R2 i i0 ih e1 (fun z => by omega)
  · intro i i0 ih hi q0
    have u := R2 q q0 (by omega) (by omega) (fun z => by omega)
    rw [sc_sw_n (by omega) (by omega)]
    by_cases e1 : i = a
    · rw [e1, sc_sw_i]; exact u
    · rw [sc_sw_n e1 (by omega)]
      have := R2 i i0 ih e1 (fun z => by omega)
      rw [hi] at this
      omega
theorem sc_RI_end {h p a : Nat} {e : Nat → Nat} (R : sc_RI h e p a) (hp : p < h) (hx : a = 0 ∨ e ((a - 1) / 2) ≤ e a) : sc_SI h e p := by
  obtain ⟨R1, R2, R3⟩ := R
  constructor
  · intro i i0 ih hi
    by_cases e1 : i = a
    · subst e1
      rcases hx with z | z
      · omega
      · exact z
    · exact R2 i i0 ih e1 (fun _ => hi)
  · intro i i0 ih hi p0
    by_cases e1 : a = p
    · subst e1; exact R3 i i0 ih hi p0
    · have h1 := R2 p p0 hp (Ne.symm e1) (fun z => absurd z e1)
      have h2 : e ((i - 1) / 2) ≤ e i := by
        by_cases e2 : i = a
        · omega
        · exact R2 i i0 ih e2 (fun z => absurd z e1)
      rw [hi] at h2
      omega
theorem sc_SI_step {h a c : Nat} {e : Nat → Nat} (R : sc_SI h e a) (hc : 0 < c) (hh : c < h) (hp : (c - 1) / 2 = a) (lt : e c ≤ e a) (sib : ∀ i, 0 < i → i < h → (i - 1) / 2 = a → e c ≤ e i) : sc_SI h (sc_sw e c a) c := by
  obtain ⟨R1, R2⟩ := R
  have hac : a < c := by omega
  constructor
  · intro i i0 ih hi
    by_cases e1 : i = c
    · subst e1
      rw [hp, sc_sw_i, sc_sw_j]; exact lt
    · by_cases e2 : i = a
      · subst e2
        rw [sc_sw_j, sc_sw_n hi (by omega)]
        exact R2 c hc hh hp i0
      · rw [sc_sw_n e1 e2]
        by_cases e3 : (i - 1) / 2 = a
        · rw [e3, sc_sw_j]; exact sib i i0 ih e3
        · rw [sc_sw_n hi e3]; exact R1 i i0 ih e3
  · intro i i0 ih hi _
    have h1 := R1 i i0 ih (by omega)
    rw [hi] at h1
    rw [hp, sc_sw_j, sc_sw_n (by omega) (by omega)]
    exact h1
theorem sc_SI_end {h a : Nat} {e : Nat → Nat} (R : sc_SI h e a) (hx : ∀ i, 0 < i → i < h → (i - 1) / 2 = a → e a ≤ e i) : sc_OR h e := by
  intro i i0 ih
  by_cases e1 : (i - 1) / 2 = a
  · rw [e1]; exact hx i i0 ih e1
  · exact R.1 i i0 ih e1
/-- the top is first -/
theorem sc_OR_top {h : Nat} {e : Nat → Nat} (R : sc_OR h e) : ∀ i, i < h → e 0 ≤ e i := by
  intro i
  induction i using Nat.strongRecOn with
  | ind i ih =>
    intro hi
    by_cases z : i = 0
    · subst z; exact Nat.le_refl _
    · exact Nat.le_trans (ih ((i - 1) / 2) (by omega) (by omega)) (R i (by omega) hi)
/-! the last one takes the place a of the one that leaves -/
theorem sc_HB_cut {h a : Nat} {hp pl : Nat → Int32} {H : Nat → Nat} (B : sc_HB (h + 1) hp pl H) (hh : h + 1 ≤ 32) (ha : a < h) :
    sc_HB h (upd hp a (nI (H h))) (upd (upd pl (H a) (-1)) (H h) (nI a)) (sc_up H a (H h)) := by
  have inj : ∀ {i j : Nat}, i < h + 1 → j < h + 1 → i ≠ j → H i ≠ H j := fun hi hj hij e => hij (sc_HB_inj B hh hi hj e)
  constructor
  · intro i hi
    by_cases e : i = a
    · subst e
      rw [sc_up_s, pk_us, pk_us]
      exact ⟨rfl, (B.1 h (by omega)).2.1, rfl⟩
    · rw [sc_up_n e, pk_un e, pk_un (inj (by omega) (by omega) (by omega)), pk_un (inj (by omega) (by omega) e)]
      exact B.1 i (by omega)
  · intro c hc hn
    have n1 : c ≠ H h := fun e => hn a ha (by rw [sc_up_s, e])
    rw [pk_un n1]
    by_cases e : c = H a
    · rw [e, pk_us]
    · rw [pk_un e]
      refine B.2 c hc (fun i hi ei => ?_)
      by_cases e1 : i = h
      · exact n1 (by rw [← ei, e1])
      · by_cases e2 : i = a
        · exact e (by rw [← ei, e2])
        · exact hn i (by omega) (by rw [sc_up_n e2, ei])
theorem sc_HB_last {h : Nat} {hp pl : Nat → Int32} {H : Nat → Nat} (B : sc_HB (h + 1) hp pl H) (hh : h + 1 ≤ 32) :
    sc_HB h hp (upd pl (H h) (-1)) H := by
  constructor
  · intro i hi
    rw [pk_un (fun e => by have := sc_HB_inj B hh (by omega) (by omega) e; omega)]
    exact B.1 i (by omega)
  · intro c hc hn
    by_cases e : c = H h
    · rw [e, pk_us]
    · rw [pk_un e]
      refine B.2 c hc (fun i hi ei => ?_)
      by_cases e1 : i = h
      · exact e (by rw [← ei, e1])
      · exact hn i (by omega) ei
theorem sc_HB_add {h c : Nat} {hp pl : Nat → Int32} {H : Nat → Nat} (B : sc_HB h hp pl H) (hc : c < 32) (hn : ∀ i, i < h → H i ≠ c) :
    sc_HB (h + 1) (upd hp h (nI c)) (upd pl c (nI h)) (sc_up H h c) := by
  constructor
  · intro i hi
    by_cases e : i = h
    · subst e
      rw [sc_up_s, pk_us, pk_us]
      exact ⟨rfl, hc, rfl⟩
    · rw [sc_up_n e, pk_un e, pk_un (hn i (by omega))]
      exact B.1 i (by omega)
  · intro d hd hm
    have n1 : d ≠ c := fun e => hm h (by omega) (by rw [sc_up_s, e])
    rw [pk_un n1]
    exact B.2 d hd (fun i hi ei => hm i (by omega) (by rw [sc_up_n (by omega), ei]))
theorem sc_RI_cut {h a : Nat} {e : Nat → Nat} (R : sc_OR (h + 1) e) (ha : a < h) (x : Nat) : sc_RI h (sc_up e a x) a a := by
  refine ⟨Nat.le_refl _, ?_, ?_⟩
  · intro i i0 ih ia hp
    rw [sc_up_n ia, sc_up_n (hp rfl)]
    exact R i i0 (by omega)
  · intro i i0 ih hi a0
    rw [sc_up_n (by omega), sc_up_n (by omega)]
    have h1 := R i i0 (by omega)
    have h2 := R a a0 (by omega)
    rw [hi] at h1
    omega
theorem sc_RI_add {h : Nat} {e : Nat → Nat} (R : sc_OR h e) (x : Nat) : sc_RI (h + 1) (sc_up e h x) h h := by
  refine ⟨Nat.le_refl _, ?_, ?_⟩
  · intro i i0 ih ia _
    rw [sc_up_n ia, sc_up_n (by omega)]
    exact R i i0 (by omega)
  · intro i i0 ih hi a0
    omega
theorem sc_SI_add {h : Nat} {e : Nat → Nat} (R : sc_SI (h + 1) e h) : sc_OR (h + 1) e := sc_SI_end R (fun i i0 ih hi => by omega)
theorem sc_up_en (en : Nat → Nat) {H : Nat → Nat} {a x : Nat} : (fun k => en (sc_up H a x k)) = sc_up (fun k => en (H k)) a (en x) := by
  funext k
  unfold sc_up
  by_cases e : k = a
  · rw [if_pos e, if_pos e]
  · rw [if_neg e, if_neg e]
/-- the heap holds the cells M, ordered by en -/
def sc_HP (M : Nat → Prop) (en : Nat → Nat) (h : Nat) (hp pl : Nat → Int32) : Prop :=
  h ≤ 32 ∧ ∃ H : Nat → Nat, sc_HB h hp pl H ∧ sc_OR h (fun k => en (H k)) ∧ ∀ d, M d ↔ ∃ i, i < h ∧ H i = d
theorem sc_HP_cg {M M' : Nat → Prop} {en en' : Nat → Nat} {h : Nat} {hp pl : Nat → Int32} (P : sc_HP M en h hp pl) (hm : ∀ d, M d ↔ M' d) (he : ∀ d, M d → en' d = en d) : sc_HP M' en' h hp pl := by
  obtain ⟨h1, H, B, O, mm⟩ := P
  refine ⟨h1, H, B, ?_, fun d => (hm d).symm.trans (mm d)⟩
  intro i i0 ih
  have a1 := he _ ((mm _).mpr ⟨i, ih, rfl⟩)
  have a2 := he _ ((mm _).mpr ⟨(i - 1) / 2, by omega, rfl⟩)
  have := O i i0 ih
  dsimp only at this ⊢
  omega
end
section
/-! the component's chains: find, unchain, unhang, hangLast, use -/
def sc_hs (x : Int32) : Nat := ((x * 7) &&& 15).toNatClampNeg
theorem sc_hs_in (x : Int32) : vp_in ((x * 7) &&& 15) 16 := pk_andIn (x * 7) 4 (by decide) (by decide)
theorem sc_hs_lt (x : Int32) : sc_hs x < 16 := Nat.lt_of_not_le (fun h => sc_hs_in x (Or.inr h))
def sc_CH (It : Nat → Prop) (ko bk ch : Nat → Int32) : Prop :=
  ∃ V : Nat → List Nat, sc_FM 16 ch bk V ∧ (∀ b, b < 16 → (V b).Nodup) ∧ ∀ b, b < 16 → ∀ c, c ∈ V b ↔ It c ∧ sc_hs (ko c) = b
theorem sc_erase_mid {A B : List Nat} {c : Nat} (nd : (A ++ c :: B).Nodup) : (A ++ c :: B).erase c = A ++ B := by
  have h : c ∉ A := fun hc => (List.nodup_append.mp nd).2.2 c hc c List.mem_cons_self rfl
  rw [List.erase_append_right _ h, List.erase_cons_head]
section
variable {xcl : Int64} {xnu xhs : Int32} {xso xfc xnf xii xko xvo xno : Nat → Int32} {xeo : Nat → Int64} {xbk xch xod xnw xol xne xic xhp xpl : Nat → Int32}
theorem sc_find_lp {post : Int32 → Prop} {x : Int32} : ∀ (l : List Nat) (j : Nat) (h : Int32) (n : Nat), sc_SL xch h l → l.length + j ≤ 32 → l.length < n → (∀ c, c ∈ l → c < 32) → (∀ c, c ∈ l → xko c = x → post (nI c)) → ((∀ c, c ∈ l → xko c ≠ x) → post (-1)) → wX_find_28 post x xcl xnu xhs xso xfc xnf xii xko xvo xno xeo xbk xch xod xnw xol xne xic xhp xpl n h (nI j) := by
  intro l
  induction l with
  | nil =>
    intro j h n H hj hn b K1 K0
    cases n with
    | zero => exact absurd hn (Nat.not_lt_zero _)
    | succ m =>
      have e : h = -1 := H
      subst e
      have k0 := K0 (fun c hc => absurd hc List.not_mem_nil)
      exact br_c (fun _ => k0) (fun _ => br_t sc_neg1 k0)
  | cons c l ih =>
    intro j h n H hj hn b K1 K0
    cases n with
    | zero => exact absurd hn (Nat.not_lt_zero _)
    | succ m =>
      have e : h = nI c := H.1
      subst e
      have hc : c < 32 := b c List.mem_cons_self
      have cl : (nI c).toNatClampNeg = c := nI_clamp (by omega)
      rw [List.length_cons] at hj hn
      have h32 : ¬ (32 : Int32) ≤ nI j := nI_ge (b := 32) (by omega) (by decide)
      have hin : vp_in (nI c) 32 := vp_in_nI hc (by decide)
      refine br_f h32 (br_f (nI_pos (by omega)) ⟨hin, ?_⟩)
      rw [cl]
      refine br_c (fun e => K1 c List.mem_cons_self e) (fun e => ⟨hin, nm_e (nm_r (nI_1 j) ?_)⟩)
      refine ih (j + 1) _ m H.2 (by omega) (by omega) (fun d hd => b d (List.mem_cons_of_mem _ hd)) (fun d hd => K1 d (List.mem_cons_of_mem _ hd)) (fun h0 => K0 (fun d hd => ?_))
      rcases List.mem_cons.mp hd with rfl | hd
      · exact e
      · exact h0 d hd
theorem sc_find {post : Int32 → Prop} {It : Nat → Prop} {x : Int32} (C : sc_CH It xko xbk xch) (h32 : ∀ c, It c → c < 32) (hr : ∀ c, It c → ¬ xko c < 0 ∧ xko c ≤ 255) (K1 : ∀ c, It c → xko c = x → post (nI c)) (K0 : (∀ c, It c → xko c ≠ x) → post (-1)) : wpX_find post (xcl, xnu, xhs, xso, xfc, xnf, xii, xko, xvo, xno, xeo, xbk, xch, xod, xnw, xol, xne, xic, xhp, xpl) x := by
  by_cases h0 : x < 0
  · exact br_t h0 (K0 fun c hc e => (hr c hc).1 (by rw [e]; exact h0))
  · by_cases h1 : x ≤ 255
    · obtain ⟨V, F, nd, mem⟩ := C
      have hb := sc_hs_lt x
      have b : ∀ c, c ∈ V (sc_hs x) → c < 32 := fun c hc => h32 c ((mem _ hb c).mp hc).1
      have len := sc_len32 (nd _ hb) b
      refine br_f h0 (br_t h1 ⟨sc_hs_in x, nm_e ⟨33, ?_⟩⟩)
      refine sc_find_lp (V (sc_hs x)) 0 _ 33 (F _ hb) (by omega) (by omega) b (fun c hc e => K1 c ((mem _ hb c).mp hc).1 e) (fun h => K0 (fun c hc e => ?_))
      exact h c ((mem _ hb c).mpr ⟨hc, by rw [e]⟩) e
    · exact br_f h0 (br_f h1 (K0 fun c hc e => h1 (by rw [← e]; exact (hr c hc).2)))
theorem sc_unchain_lp {post : SX → Prop} {c : Nat} (hc : c < 32) : ∀ (l : List Nat) (a j n : Nat), sc_SL xch (xch a) l → a < 32 → (∀ d, d ∈ l → d < 32) → c ∈ l → l.length + j ≤ 32 → l.length < n → (∀ A a' B, a :: l = A ++ a' :: c :: B → a' < 32 → wX_unchain_76 post (nI c) (nI a') xcl xnu xhs xso xfc xnf xii xko xvo xno xeo xbk xch xod xnw xol xne xic xhp xpl) → wX_unchain_46 post (nI c) xcl xnu xhs xso xfc xnf xii xko xvo xno xeo xbk xch xod xnw xol xne xic xhp xpl n (nI a) (nI j) := by
  intro l
  induction l with
  | nil => intro a j n _ _ _ hm; exact absurd hm List.not_mem_nil
  | cons d l ih =>
    intro a j n H ha b hm hj hn K
    cases n with
    | zero => exact absurd hn (Nat.not_lt_zero _)
    | succ m =>
      rw [List.length_cons] at hj hn
      have cl : (nI a).toNatClampNeg = a := nI_clamp (by omega)
      have h32 : ¬ (32 : Int32) ≤ nI j := nI_ge (b := 32) (by omega) (by decide)
      have hin : vp_in (nI a) 32 := vp_in_nI ha (by decide)
      have hd : d < 32 := b d List.mem_cons_self
      refine br_f h32 ⟨hin, ?_⟩
      rw [cl]
      by_cases e : d = c
      · subst e
        exact br_t H.1 (K [] a l rfl ha)
      · have hne : ¬ xch a = nI c := by rw [H.1, nI_eq (by omega) (by omega)]; exact e
        refine br_f hne ⟨hin, nm_r H.1 (nm_r (nI_1 j) ?_)⟩
        refine ih d (j + 1) m H.2 hd (fun q hq => b q (List.mem_cons_of_mem _ hq)) ?_ (by omega) (by omega) (fun A a' B e' => K (a :: A) a' B (by rw [e']; rfl))
        rcases List.mem_cons.mp hm with h | h
        · exact absurd h.symm e
        · exact h
theorem sc_unchain {post : SX → Prop} {It : Nat → Prop} {c : Nat} (C : sc_CH It xko xbk xch) (h32 : ∀ c, It c → c < 32) (hc : It c) (K : ∀ bk' ch', sc_CH (fun d => It d ∧ d ≠ c) xko bk' ch' → post (xcl, xnu, xhs, xso, xfc, xnf, xii, xko, xvo, xno, xeo, bk', ch', xod, xnw, xol, xne, xic, xhp, xpl)) : wpX_unchain post (xcl, xnu, xhs, xso, xfc, xnf, xii, xko, xvo, xno, xeo, xbk, xch, xod, xnw, xol, xne, xic, xhp, xpl) (nI c) := by
  obtain ⟨V, F, nd, mem⟩ := C
  have c32 := h32 c hc
  have cl : (nI c).toNatClampNeg = c := nI_clamp (by omega)
  have hin : vp_in (nI c) 32 := vp_in_nI c32 (by decide)
  have hb := sc_hs_lt (xko c)
  have mb : c ∈ V (sc_hs (xko c)) := (mem _ hb c).mpr ⟨hc, rfl⟩
  have L : sc_LF 16 V := ⟨fun t ht => ⟨nd t ht, fun d hd => h32 d ((mem t ht d).mp hd).1⟩, fun s t d hs ht h1 h2 => ((mem s hs d).mp h1).2.symm.trans ((mem t ht d).mp h2).2⟩
  have fin : ∀ bk' ch', sc_FM 16 ch' bk' (fun t => (V t).erase c) → post (xcl, xnu, xhs, xso, xfc, xnf, xii, xko, xvo, xno, xeo, bk', ch', xod, xnw, xol, xne, xic, xhp, xpl) := fun bk' ch' F' => K bk' ch' ⟨_, F', fun t ht => (nd t ht).erase c, fun t ht d => by
    rw [(nd t ht).mem_erase_iff, mem t ht]
    exact ⟨fun ⟨a, b, g⟩ => ⟨⟨b, a⟩, g⟩, fun ⟨⟨b, a⟩, g⟩ => ⟨a, b, g⟩⟩⟩
  have e2 : ∀ t, t < 16 → t ≠ sc_hs (xko c) → (V t).erase c = V t := fun t ht h => List.erase_of_not_mem (fun hm => h ((mem t ht c).mp hm).2.symm)
  refine ⟨hin, nm_r (e' := (xko c * 7) &&& 15) (by rw [cl]) ⟨sc_hs_in _, ?_⟩⟩
  cases hv : V (sc_hs (xko c)) with
  | nil => rw [hv] at mb; exact absurd mb List.not_mem_nil
  | cons d l =>
    have s1 := F _ hb
    have n1 := nd _ hb
    have len := sc_len32 n1 (L.1 _ hb).2
    have b1 := (L.1 _ hb).2
    rw [hv] at s1 n1 len mb b1
    rw [List.length_cons] at len
    have hd : d < 32 := b1 d List.mem_cons_self
    by_cases e : d = c
    · have s2 : xbk (sc_hs (xko c)) = nI c := by rw [s1.1, e]
      refine br_t s2 ⟨hin, sc_hs_in _, nm_r (e' := upd xbk (sc_hs (xko c)) (xch c)) (by rw [cl]; rfl) (fin _ _ ?_)⟩
      rw [e] at hv
      exact sc_FM_un0 F hb hv (by show (V _).erase c = l; rw [hv]; exact List.erase_cons_head ..) e2
    · have hne : ¬ xbk (sc_hs (xko c)) = nI c := by rw [s1.1, nI_eq (by omega) (by omega)]; exact e
      have ml : c ∈ l := by
        rcases List.mem_cons.mp mb with h | h
        · exact absurd h.symm e
        · exact h
      refine br_f hne ⟨sc_hs_in _, nm_r (e' := nI d) s1.1 ⟨33, ?_⟩⟩
      refine sc_unchain_lp c32 l d 0 33 s1.2 hd (fun q hq => b1 q (List.mem_cons_of_mem _ hq)) ml (by omega) (by omega) (fun A a B eq ha => ?_)
      refine ⟨hin, vp_in_nI ha (by decide), nm_r (e' := upd xch a (xch c)) (by rw [cl, nI_clamp (by omega)]) (fin _ _ ?_)⟩
      refine sc_FM_un1 (A := A) (B := B) F L hb (hv.trans eq) ?_ e2
      show (V _).erase c = _
      rw [hv, eq]
      rw [eq] at n1
      have e3 : A ++ a :: c :: B = (A ++ [a]) ++ c :: B := by simp
      rw [e3] at n1 ⊢
      rw [sc_erase_mid n1]
      simp
/-! the order of use -/
def sc_US (U : Nat → List Nat) (od nw ol ne : Nat → Int32) : Prop := sc_FM 3 ne od U ∧ sc_FM 3 ol nw (fun t => (U t).reverse)
theorem sc_unhang {post : SX → Prop} {U : Nat → List Nat} {c s : Nat} (L : sc_LF 3 U) (D : sc_US U xod xnw xol xne) (hs : s < 3) (hc : c ∈ U s) (K : ∀ od' nw' ol' ne', sc_US (fun t => (U t).erase c) od' nw' ol' ne' → post (xcl, xnu, xhs, xso, xfc, xnf, xii, xko, xvo, xno, xeo, xbk, xch, od', nw', ol', ne', xic, xhp, xpl)) : wpX_unhang post (xcl, xnu, xhs, xso, xfc, xnf, xii, xko, xvo, xno, xeo, xbk, xch, xod, xnw, xol, xne, xic, xhp, xpl) (nI c) (nI s) := by
  obtain ⟨A, B, hA, eU, eE⟩ := List.exists_erase_eq hc
  have c32 := (L.1 s hs).2 c hc
  have b32 := (L.1 s hs).2
  rw [eU] at b32
  have cl : (nI c).toNatClampNeg = c := nI_clamp (by omega)
  have cls : (nI s).toNatClampNeg = s := nI_clamp (by omega)
  have hin : vp_in (nI c) 32 := vp_in_nI c32 (by decide)
  have his : vp_in (nI s) 3 := vp_in_nI hs (by decide)
  have e2 : ∀ t, t < 3 → t ≠ s → (U t).erase c = U t := fun t ht h => List.erase_of_not_mem (fun hm => h (L.2 t s c ht hs hm hc))
  have eR : (U s).reverse = B.reverse ++ c :: A.reverse := by rw [eU]; simp
  have hne : xne c = sc_hd B := sc_SL_hd (sc_SL_mid (A := A) (by have := D.1 s hs; rw [eU] at this; exact this))
  have hol : xol c = sc_hd A.reverse := sc_SL_hd (sc_SL_mid (A := B.reverse) (by have : sc_SL xol (xnw s) (U s).reverse := D.2 s hs; rw [eR] at this; exact this))
  have L' := sc_LF_rev L
  have J : ∀ od' ne', sc_FM 3 ne' od' (fun t => (U t).erase c) → wX_unhang_38 post (nI s) (sc_hd A.reverse) (sc_hd B) xcl xnu xhs xso xfc xnf xii xko xvo xno xeo xbk xch od' xnw xol ne' xic xhp xpl := by
    intro od' ne' F'
    by_cases hB : B = []
    · have z : sc_hd B < 0 := by rw [hB]; exact sc_neg1
      refine br_t z ⟨his, nm_r (e' := upd xnw s (xol c)) (by rw [cls, hol]) (K _ _ _ _ ⟨F', ?_⟩)⟩
      refine sc_FM_un0 (B := A.reverse) (V := fun t => (U t).reverse) D.2 hs (by rw [eR, hB]; rfl) (by show ((U s).erase c).reverse = _; rw [eE, hB]; simp) (fun t ht h => by show ((U t).erase c).reverse = _; rw [e2 t ht h])
    · obtain ⟨b, B', hB⟩ := List.exists_cons_of_ne_nil hB
      have z : sc_hd B = nI b := by rw [hB]; rfl
      have hb : b < 32 := b32 b (by rw [hB]; simp)
      rw [z]
      refine br_f (nI_pos (by omega)) ⟨vp_in_nI hb (by decide), nm_r (e' := upd xol b (xol c)) (by rw [nI_clamp (by omega), hol]) (K _ _ _ _ ⟨F', ?_⟩)⟩
      refine sc_FM_un1 (A := B'.reverse) (B := A.reverse) (V := fun t => (U t).reverse) D.2 L' hs (by rw [eR, hB]; simp) (by show ((U s).erase c).reverse = _; rw [eE, hB]; simp) (fun t ht h => by show ((U t).erase c).reverse = _; rw [e2 t ht h])
  refine ⟨hin, nm_r (e' := sc_hd A.reverse) (by rw [cl, hol]) ⟨hin, nm_r (e' := sc_hd B) (by rw [cl, hne]) ?_⟩⟩
  rcases List.eq_nil_or_concat A with hA0 | ⟨A', a, hA0⟩
  · have z : sc_hd A.reverse < 0 := by rw [hA0]; exact sc_neg1
    refine br_t z ⟨his, nm_r (e' := upd xod s (xne c)) (by rw [cls, hne]) (J _ _ ?_)⟩
    exact sc_FM_un0 (B := B) D.1 hs (by rw [eU, hA0]; rfl) (by show (U s).erase c = _; rw [eE, hA0]; rfl) e2
  · rw [List.concat_eq_append] at hA0
    have z : sc_hd A.reverse = nI a := by rw [hA0]; simp [sc_hd]
    have ha : a < 32 := b32 a (by rw [hA0]; simp)
    rw [z] at J ⊢
    refine br_f (nI_pos (by omega)) ⟨vp_in_nI ha (by decide), nm_r (e' := upd xne a (xne c)) (by rw [nI_clamp (by omega), hne]) (J _ _ ?_)⟩
    exact sc_FM_un1 (A := A') (B := B) D.1 L hs (by rw [eU, hA0]; simp) (by show (U s).erase c = _; rw [eE, hA0]; simp) e2
theorem sc_hangLast {post : SX → Prop} {U : Nat → List Nat} {c s : Nat} (L : sc_LF 3 U) (D : sc_US U xod xnw xol xne) (hs : s < 3) (hc : c < 32) (hn : ∀ t, t < 3 → c ∉ U t) (K : ∀ od' nw' ol' ne', sc_US (fun t => if t = s then U s ++ [c] else U t) od' nw' ol' ne' → post (xcl, xnu, xhs, xso, xfc, xnf, xii, xko, xvo, xno, xeo, xbk, xch, od', nw', ol', ne', xic, xhp, xpl)) : wpX_hangLast post (xcl, xnu, xhs, xso, xfc, xnf, xii, xko, xvo, xno, xeo, xbk, xch, xod, xnw, xol, xne, xic, xhp, xpl) (nI c) (nI s) := by
  have cl : (nI c).toNatClampNeg = c := nI_clamp (by omega)
  have cls : (nI s).toNatClampNeg = s := nI_clamp (by omega)
  have hin : vp_in (nI c) 32 := vp_in_nI hc (by decide)
  have his : vp_in (nI s) 3 := vp_in_nI hs (by decide)
  have hnw : xnw s = sc_hd (U s).reverse := sc_SL_hd (D.2 s hs)
  have F2 : sc_FM 3 (upd xol c (xnw s)) (upd xnw s (nI c)) (fun t => (if t = s then U s ++ [c] else U t).reverse) :=
    sc_FM_push (V := fun t => (U t).reverse) D.2 hs (fun t ht hm => hn t ht (List.mem_reverse.mp hm)) (by show (if s = s then U s ++ [c] else U s).reverse = _; rw [if_pos rfl]; simp) (fun t ht h => by show (if t = s then U s ++ [c] else U t).reverse = _; rw [if_neg h])
  have e2 : ∀ t, t < 3 → t ≠ s → (if t = s then U s ++ [c] else U t) = U t := fun t ht h => if_neg h
  refine ⟨his, nm_r (e' := xnw s) (by rw [cls]) ⟨hin, nm_r (e' := upd xol c (xnw s)) (by rw [cl]) ⟨hin, nm_r (e' := upd xne c (-1)) (by rw [cl]) ⟨his, nm_r (e' := upd xnw s (nI c)) (by rw [cls]) ?_⟩⟩⟩⟩
  rcases List.eq_nil_or_concat (U s) with h0 | ⟨l, a, h0⟩
  · have z : xnw s < 0 := by rw [hnw, h0]; exact sc_neg1
    refine br_t z ⟨his, nm_r (e' := upd xod s (nI c)) (by rw [cls]) (K _ _ _ _ ⟨?_, F2⟩)⟩
    exact sc_FM_app0 D.1 hs hn (by show (if s = s then U s ++ [c] else U s) = _; rw [if_pos rfl, h0]; rfl) e2
  · rw [List.concat_eq_append] at h0
    have z : xnw s = nI a := by rw [hnw, h0]; simp [sc_hd]
    have ha : a < 32 := (L.1 s hs).2 a (by rw [h0]; simp)
    refine br_f (by rw [z]; exact nI_pos (by omega)) ⟨by rw [z]; exact vp_in_nI ha (by decide), nm_r (e' := upd (upd xne c (-1)) a (nI c)) (by rw [z, nI_clamp (by omega)]) (K _ _ _ _ ⟨?_, F2⟩)⟩
    exact sc_FM_app1 D.1 L hs hn h0 (by show (if s = s then U s ++ [c] else U s) = _; rw [if_pos rfl, h0]) e2
/-- c of the list s goes to its end -/
def sc_mv (U : Nat → List Nat) (s c : Nat) : Nat → List Nat := fun t => if t = s then (U s).erase c ++ [c] else (U t).erase c
theorem sc_LF_er {n c : Nat} {V : Nat → List Nat} (L : sc_LF n V) : sc_LF n (fun t => (V t).erase c) :=
  ⟨fun s hs => ⟨(L.1 s hs).1.erase c, fun d hd => (L.1 s hs).2 d (List.mem_of_mem_erase hd)⟩, fun s t d hs ht h1 h2 => L.2 s t d hs ht (List.mem_of_mem_erase h1) (List.mem_of_mem_erase h2)⟩
theorem sc_shr {c : Nat} (hc : c < 32) : nI c >>> ((2 : Int32) &&& 31) = nI (c / 4) := pk_shrN (by omega) _ 2 (by decide)
theorem sc_use {post : SX → Prop} {U : Nat → List Nat} {c s : Nat} (L : sc_LF 3 U) (D : sc_US U xod xnw xol xne) (hs : s < 3) (hc : c ∈ U s) (hso : xso (c / 4) = nI s) (K : ∀ od' nw' ol' ne', sc_US (sc_mv U s c) od' nw' ol' ne' → post (xcl, xnu, xhs, xso, xfc, xnf, xii, xko, xvo, xno, xeo, xbk, xch, od', nw', ol', ne', xic, xhp, xpl)) : wpX_use post (xcl, xnu, xhs, xso, xfc, xnf, xii, xko, xvo, xno, xeo, xbk, xch, xod, xnw, xol, xne, xic, xhp, xpl) (nI c) := by
  have c32 := (L.1 s hs).2 c hc
  refine ⟨by rw [sc_shr c32]; exact vp_in_nI (by omega) (by decide), nm_r (e' := nI s) (by rw [sc_shr c32, nI_clamp (by omega), hso]) ?_⟩
  refine sc_unhang L D hs hc (fun od1 nw1 ol1 ne1 D1 => ?_)
  refine sc_hangLast (sc_LF_er L) D1 hs c32 (fun t ht => (L.1 t ht).1.not_mem_erase) (fun od2 nw2 ol2 ne2 D2 => ?_)
  exact K od2 nw2 ol2 ne2 D2
end
end
section
/-! the component's heap: put, rise, sink, leaveHeap, setEnd -/
def sc_EN (eo : Nat → Int64) (en : Nat → Nat) : Prop := ∀ d, eo d = lN (en d) ∧ en d < 2 ^ 31
theorem sc_EN_up {eo : Nat → Int64} {en : Nat → Nat} {c x : Nat} (E : sc_EN eo en) (hx : x < 2 ^ 31) : sc_EN (vp_updL eo c (lN x)) (sc_up en c x) := by
  intro d
  by_cases e : d = c
  · subst e; rw [pk_uLs, sc_up_s]; exact ⟨rfl, hx⟩
  · rw [pk_uLn e, sc_up_n e]; exact E d
/-- what an end becomes -/
def sc_et (clk t : Nat) : Nat := if t = 0 then 0 else clk + t
theorem sc_cut_mem {g a d : Nat} {hp pl : Nat → Int32} {H : Nat → Nat} (B : sc_HB (g + 1) hp pl H) (hh : g + 1 ≤ 32) (ha : a < g) : (∃ i, i < g ∧ sc_up H a (H g) i = d) ↔ ((∃ i, i < g + 1 ∧ H i = d) ∧ d ≠ H a) := by
  constructor
  · rintro ⟨i, hi, e⟩
    by_cases ia : i = a
    · rw [ia, sc_up_s] at e
      exact ⟨⟨g, by omega, e⟩, fun z => by have := sc_HB_inj B hh (by omega) (by omega) (e.trans z); omega⟩
    · rw [sc_up_n ia] at e
      exact ⟨⟨i, by omega, e⟩, fun z => ia (sc_HB_inj B hh (by omega) (by omega) (e.trans z))⟩
  · rintro ⟨⟨i, hi, e⟩, hd⟩
    by_cases ig : i = g
    · exact ⟨a, ha, by rw [sc_up_s, ← ig, e]⟩
    · exact ⟨i, by omega, by rw [sc_up_n (fun z => hd (by rw [← e, z])), e]⟩
section
variable {xcl : Int64} {xnu xhs : Int32} {xso xfc xnf xii xko xvo xno : Nat → Int32} {xeo : Nat → Int64} {xbk xch xod xnw xol xne xic xhp xpl : Nat → Int32}
theorem sc_put {post : SX → Prop} {i c : Nat} (hi : i < 32) (hc : c < 32) (K : post (xcl, xnu, xhs, xso, xfc, xnf, xii, xko, xvo, xno, xeo, xbk, xch, xod, xnw, xol, xne, xic, upd xhp i (nI c), upd xpl c (nI i))) : wpX_put post (xcl, xnu, xhs, xso, xfc, xnf, xii, xko, xvo, xno, xeo, xbk, xch, xod, xnw, xol, xne, xic, xhp, xpl) (nI i) (nI c) :=
  ⟨vp_in_nI hi (by decide), nm_r (e' := upd xhp i (nI c)) (by rw [nI_clamp (by omega)]) ⟨vp_in_nI hc (by decide), nm_r (e' := upd xpl c (nI i)) (by rw [nI_clamp (by omega)]) K⟩⟩
theorem sc_rise_lp {post : SX → Prop} {en : Nat → Nat} {h p : Nat} (hh : h ≤ 32) (ph : p < h) (E : sc_EN xeo en) : ∀ (n a j : Nat) (hp' pl' : Nat → Int32) (H : Nat → Nat), a < n → (a + 1) * 2 ^ j ≤ 32 → a < h → sc_HB h hp' pl' H → sc_RI h (fun k => en (H k)) p a → (∀ hp2 pl2 H2, sc_HB h hp2 pl2 H2 → (∀ d, (∃ i, i < h ∧ H2 i = d) ↔ (∃ i, i < h ∧ H i = d)) → sc_SI h (fun k => en (H2 k)) p → post (xcl, xnu, nI h, xso, xfc, xnf, xii, xko, xvo, xno, xeo, xbk, xch, xod, xnw, xol, xne, xic, hp2, pl2)) → wX_rise_12 post (nI (H a)) n (nI a) (nI j) xcl xnu (nI h) xso xfc xnf xii xko xvo xno xeo xbk xch xod xnw xol xne xic hp' pl' := by
  intro n
  induction n with
  | zero => intro a j _ _ _ h0; exact absurd h0 (Nat.not_lt_zero _)
  | succ n ih =>
    intro a j hp' pl' H hn hj ha B R K
    have j6 : j < 6 := by
      refine Nat.lt_of_not_le (fun h6 => ?_)
      have h1 : 2 ^ 6 ≤ 2 ^ j := Nat.pow_le_pow_right (by decide) h6
      have h2 : 2 ^ j ≤ (a + 1) * 2 ^ j := Nat.le_mul_of_pos_left _ (by omega)
      omega
    have x6 : ¬ (6 : Int32) ≤ nI j := nI_ge (b := 6) j6 (by decide)
    by_cases a0 : a = 0
    · subst a0
      exact br_f x6 (br_t (nI_le (Nat.le_refl 0) (by decide)) (K hp' pl' H B (fun d => Iff.rfl) (sc_RI_end R ph (Or.inl rfl))))
    · obtain ⟨q, hq⟩ : ∃ q, q = (a - 1) / 2 := ⟨_, rfl⟩
      have eq : (nI a - 1) / 2 = nI q := by
        obtain ⟨b, rfl⟩ : ∃ b, a = b + 1 := ⟨a - 1, by omega⟩
        rw [nI_pred, hq, Nat.add_sub_cancel]
        exact pk_div (by omega) (by decide) (by decide)
      have qa : q < a := by omega
      have bq := B.1 q (by omega)
      have ba := B.1 a ha
      have cq : (nI q).toNatClampNeg = q := nI_clamp (by omega)
      have cHq : (nI (H q)).toNatClampNeg = H q := nI_clamp (by omega)
      have cHa : (nI (H a)).toNatClampNeg = H a := nI_clamp (by omega)
      have x0 : ¬ nI a ≤ 0 := nI_nle (by omega) (by omega)
      have iq : vp_in (nI q) 32 := vp_in_nI (by omega) (by decide)
      refine br_f x6 (br_f x0 ⟨vp_in_nI ba.2.1 (by decide), by decide, ?_⟩)
      rw [eq, cq, bq.1, cHq, cHa, (E (H q)).1, (E (H a)).1]
      refine ⟨iq, vp_in_nI bq.2.1 (by decide), ?_⟩
      by_cases le : en (H q) ≤ en (H a)
      · refine br_t ((lN_le (E _).2 (E _).2).mpr le) (K hp' pl' H B (fun d => Iff.rfl) (sc_RI_end R ph (Or.inr ?_)))
        rw [← hq]; exact le
      · refine br_f (fun z => le ((lN_le (E _).2 (E _).2).mp z)) ⟨by decide, iq, ?_⟩
        refine sc_put (by omega) bq.2.1 ?_
        dsimp only
        refine ⟨by decide, nm_e (sc_put (by omega) ba.2.1 ?_)⟩
        dsimp only
        refine nm_r (nI_1 j) ?_
        have hj2 : (q + 1) * 2 ^ (j + 1) ≤ 32 := by
          have h1 : (q + 1) * 2 ≤ a + 1 := by omega
          have h2 : (q + 1) * 2 ^ (j + 1) = (q + 1) * 2 * 2 ^ j := by rw [Nat.pow_succ, Nat.mul_comm (2 ^ j) 2, Nat.mul_assoc]
          have h3 := Nat.mul_le_mul_right (2 ^ j) h1
          omega
        have key := ih q (j + 1) _ _ (sc_sw H a q) (by omega) hj2 (by omega) (sc_HB_sw B hh ha (by omega) (by omega)) (by rw [sc_sw_en]; exact sc_RI_step R (by omega) ha hq (by show en (H a) < en (H q); omega)) (fun hp2 pl2 H2 B2 m2 S2 => K hp2 pl2 H2 B2 (fun d => (m2 d).trans (sc_sw_mem ha (by omega))) S2)
        rw [sc_sw_j] at key
        exact key
theorem sc_rise {post : SX → Prop} {en : Nat → Nat} {h p : Nat} {H : Nat → Nat} (hh : h ≤ 32) (ph : p < h) (E : sc_EN xeo en) (B : sc_HB h xhp xpl H) (R : sc_RI h (fun k => en (H k)) p p) (K : ∀ hp2 pl2 H2, sc_HB h hp2 pl2 H2 → (∀ d, (∃ i, i < h ∧ H2 i = d) ↔ (∃ i, i < h ∧ H i = d)) → sc_SI h (fun k => en (H2 k)) p → post (xcl, xnu, nI h, xso, xfc, xnf, xii, xko, xvo, xno, xeo, xbk, xch, xod, xnw, xol, xne, xic, hp2, pl2)) : wpX_rise post (xcl, xnu, nI h, xso, xfc, xnf, xii, xko, xvo, xno, xeo, xbk, xch, xod, xnw, xol, xne, xic, xhp, xpl) (nI p) := by
  refine ⟨vp_in_nI (by omega) (by decide), nm_r (e' := nI (H p)) (by rw [nI_clamp (by omega), (B.1 p ph).1]) ⟨p + 1, ?_⟩⟩
  exact sc_rise_lp hh ph E (p + 1) p 0 xhp xpl H (by omega) (by omega) ph B R K
theorem sc_sink_0 {post : SX → Prop} {n : Nat} {a : Int32} {j : Int32} (K : post (xcl, xnu, xhs, xso, xfc, xnf, xii, xko, xvo, xno, xeo, xbk, xch, xod, xnw, xol, xne, xic, xhp, xpl)) : wX_sink_7 post (n + 1) a 0 j xcl xnu xhs xso xfc xnf xii xko xvo xno xeo xbk xch xod xnw xol xne xic xhp xpl := br_c (fun _ => K) (fun _ => br_t rfl K)
theorem sc_sink_lp {post : SX → Prop} {en : Nat → Nat} {h : Nat} (hh : h ≤ 32) (E : sc_EN xeo en) : ∀ (n a j : Nat) (hp' pl' : Nat → Int32) (H : Nat → Nat), h < a + n → 2 ^ j ≤ a + 1 → a < h → sc_HB h hp' pl' H → sc_SI h (fun k => en (H k)) a → (∀ hp2 pl2 H2, sc_HB h hp2 pl2 H2 → (∀ d, (∃ i, i < h ∧ H2 i = d) ↔ (∃ i, i < h ∧ H i = d)) → sc_OR h (fun k => en (H2 k)) → post (xcl, xnu, nI h, xso, xfc, xnf, xii, xko, xvo, xno, xeo, xbk, xch, xod, xnw, xol, xne, xic, hp2, pl2)) → wX_sink_7 post n (nI a) 1 (nI j) xcl xnu (nI h) xso xfc xnf xii xko xvo xno xeo xbk xch xod xnw xol xne xic hp' pl' := by
  intro n
  induction n with
  | zero => intro a j _ _ _ h0 _ h1; exact absurd h0 (by omega)
  | succ n ih =>
    intro a j hp' pl' H hn hj ha B R K
    have j6 : j < 6 := by
      refine Nat.lt_of_not_le (fun h6 => ?_)
      have h1 : 2 ^ 6 ≤ 2 ^ j := Nat.pow_le_pow_right (by decide) h6
      omega
    have x6 : ¬ (6 : Int32) ≤ nI j := nI_ge (b := 6) j6 (by decide)
    have ba := B.1 a ha
    have ca : (nI a).toNatClampNeg = a := nI_clamp (by omega)
    have cHa : (nI (H a)).toNatClampNeg = H a := nI_clamp (by omega)
    obtain ⟨m, rfl⟩ : ∃ m, n = m + 1 := ⟨n - 1, by omega⟩
    have S69 : ∀ c, (c - 1) / 2 = a → 0 < c → (∀ i, 0 < i → i < h → (i - 1) / 2 = a → c < h ∧ en (H c) ≤ en (H i)) → wX_sink_69 post (wX_sink_7 post (m + 1)) (nI a) (nI j) (nI c) xcl xnu (nI h) xso xfc xnf xii xko xvo xno xeo xbk xch xod xnw xol xne xic hp' pl' := by
      intro c c2 c0 sib
      by_cases ch : c < h
      · have bc := B.1 c ch
        have cc : (nI c).toNatClampNeg = c := nI_clamp (by omega)
        have cHc : (nI (H c)).toNatClampNeg = H c := nI_clamp (by omega)
        refine br_f (nI_ge ch (by omega)) ?_
        rw [cc, ca, bc.1, ba.1, cHc, cHa, (E (H a)).1, (E (H c)).1]
        refine ⟨vp_in_nI (by omega) (by decide), vp_in_nI bc.2.1 (by decide), vp_in_nI (by omega) (by decide), vp_in_nI ba.2.1 (by decide), ?_⟩
        by_cases le : en (H a) ≤ en (H c)
        · refine br_t ((lN_le (E _).2 (E _).2).mpr le) (br_t rfl (nm_r (nI_1 j) (sc_sink_0 (K hp' pl' H B (fun d => Iff.rfl) (sc_SI_end R (fun i i0 ih hi => ?_))))))
          exact Nat.le_trans le (sib i i0 ih hi).2
        · refine br_f (fun z => le ((lN_le (E _).2 (E _).2).mp z)) ?_
          refine br_f (by decide) ⟨vp_in_nI (by omega) (by decide), nm_r (e' := nI (H c)) (by rw [cc, bc.1]) ⟨vp_in_nI (by omega) (by decide), ?_⟩⟩
          rw [ca, ba.1]
          refine sc_put (by omega) ba.2.1 ?_
          dsimp only
          refine sc_put (by omega) bc.2.1 ?_
          dsimp only
          refine nm_r (nI_1 j) ?_
          refine ih c (j + 1) _ _ (sc_sw H c a) (by omega) (by rw [Nat.pow_succ]; omega) ch (sc_HB_sw B hh ch ha (by omega)) ?_ (fun hp2 pl2 H2 B2 m2 S2 => K hp2 pl2 H2 B2 (fun d => (m2 d).trans (sc_sw_mem ch ha)) S2)
          rw [sc_sw_en]
          exact sc_SI_step R c0 ch c2 (by show en (H c) ≤ en (H a); omega) (fun i i0 ih hi => (sib i i0 ih hi).2)
      · refine br_t (nI_le (by omega) (by omega)) (br_t rfl (nm_r (nI_1 j) (sc_sink_0 (K hp' pl' H B (fun d => Iff.rfl) (sc_SI_end R (fun i i0 ih hi => ?_))))))
        exact absurd (sib i i0 ih hi).1 ch
    have ec : 2 * nI a + 1 = nI (2 * a + 1) := by
      rw [show (2 : Int32) = nI 2 from rfl, pk_mul, nI_1]
    refine br_f x6 (br_f (by decide) (nm_r ec ?_))
    rw [nI_1 (2 * a + 1)]
    by_cases h2 : 2 * a + 1 + 1 < h
    · have b1 := B.1 (2 * a + 1) (by omega)
      have b2 := B.1 (2 * a + 1 + 1) h2
      have c1 : (nI (2 * a + 1)).toNatClampNeg = 2 * a + 1 := nI_clamp (by omega)
      have c2 : (nI (2 * a + 1 + 1)).toNatClampNeg = 2 * a + 1 + 1 := nI_clamp (by omega)
      have d1 : (nI (H (2 * a + 1))).toNatClampNeg = H (2 * a + 1) := nI_clamp (by omega)
      have d2 : (nI (H (2 * a + 1 + 1))).toNatClampNeg = H (2 * a + 1 + 1) := nI_clamp (by omega)
      refine br_f (nI_ge h2 (by omega)) ?_
      rw [c1, c2, b1.1, b2.1, d1, d2, (E (H (2 * a + 1))).1, (E (H (2 * a + 1 + 1))).1]
      refine ⟨vp_in_nI (by omega) (by decide), vp_in_nI b2.2.1 (by decide), vp_in_nI (by omega) (by decide), vp_in_nI b1.2.1 (by decide), ?_⟩
      by_cases le : en (H (2 * a + 1)) ≤ en (H (2 * a + 1 + 1))
      · refine br_t ((lN_le (E _).2 (E _).2).mpr le) (S69 (2 * a + 1) (by omega) (by omega) (fun i i0 ih hi => ⟨by omega, ?_⟩))
        rcases (by omega : i = 2 * a + 1 ∨ i = 2 * a + 1 + 1) with e | e
        · rw [e]; exact Nat.le_refl _
        · rw [e]; exact le
      · refine br_f (fun z => le ((lN_le (E _).2 (E _).2).mp z)) (nm_e (S69 (2 * a + 1 + 1) (by omega) (by omega) (fun i i0 ih hi => ⟨by omega, ?_⟩)))
        rcases (by omega : i = 2 * a + 1 ∨ i = 2 * a + 1 + 1) with e | e
        · rw [e]; omega
        · rw [e]; exact Nat.le_refl _
    · refine br_t (nI_le (by omega) (by omega)) (S69 (2 * a + 1) (by omega) (by omega) (fun i i0 ih hi => ?_))
      have e : i = 2 * a + 1 := by omega
      rw [← e]
      exact ⟨ih, Nat.le_refl _⟩
theorem sc_sink {post : SX → Prop} {en : Nat → Nat} {h p : Nat} {H : Nat → Nat} (hh : h ≤ 32) (ph : p < h) (E : sc_EN xeo en) (B : sc_HB h xhp xpl H) (R : sc_SI h (fun k => en (H k)) p) (K : ∀ hp2 pl2 H2, sc_HB h hp2 pl2 H2 → (∀ d, (∃ i, i < h ∧ H2 i = d) ↔ (∃ i, i < h ∧ H i = d)) → sc_OR h (fun k => en (H2 k)) → post (xcl, xnu, nI h, xso, xfc, xnf, xii, xko, xvo, xno, xeo, xbk, xch, xod, xnw, xol, xne, xic, hp2, pl2)) : wpX_sink post (xcl, xnu, nI h, xso, xfc, xnf, xii, xko, xvo, xno, xeo, xbk, xch, xod, xnw, xol, xne, xic, xhp, xpl) (nI p) :=
  ⟨33, sc_sink_lp hh E 33 p 0 xhp xpl H (by omega) (by omega) ph B R K⟩
theorem sc_leave {post : SX → Prop} {M : Nat → Prop} {en : Nat → Nat} {h c : Nat} (P : sc_HP M en h xhp xpl) (E : sc_EN xeo en) (hc : c < 32) (K : ∀ h' hp' pl', sc_HP (fun d => M d ∧ d ≠ c) en h' hp' pl' → post (xcl, xnu, nI h', xso, xfc, xnf, xii, xko, xvo, xno, xeo, xbk, xch, xod, xnw, xol, xne, xic, hp', pl')) : wpX_leaveHeap post (xcl, xnu, nI h, xso, xfc, xnf, xii, xko, xvo, xno, xeo, xbk, xch, xod, xnw, xol, xne, xic, xhp, xpl) (nI c) := by
  obtain ⟨hh, H, B, O, mm⟩ := P
  have cl : (nI c).toNatClampNeg = c := nI_clamp (by omega)
  have hin : vp_in (nI c) 32 := vp_in_nI hc (by decide)
  by_cases hm : ∃ i, i < h ∧ H i = c
  · obtain ⟨a, ha, e⟩ := hm
    have pa := (B.1 a ha).2.2
    rw [e] at pa
    obtain ⟨g, rfl⟩ : ∃ g, h = g + 1 := ⟨h - 1, by omega⟩
    have bg := B.1 g (by omega)
    refine ⟨hin, nm_r (e' := nI a) (by rw [cl, pa]) (br_t (nI_pos' (by omega)) ⟨hin, nm_r (e' := upd xpl c (-1)) (by rw [cl]) (nm_r (e' := nI g) (nI_pred g) ?_)⟩)⟩
    by_cases ag : a = g
    · subst ag
      refine br_t (nI_le (Nat.le_refl _) (by omega)) (K a xhp _ ⟨by omega, H, by rw [← e]; exact sc_HB_last B hh, fun i i0 ih => O i i0 (by omega), fun d => ?_⟩)
      show (M d ∧ d ≠ c) ↔ _
      rw [mm, ← e]
      constructor
      · rintro ⟨⟨i, hi, ei⟩, hd⟩
        exact ⟨i, by
          have : i ≠ a := fun z => hd (by rw [← ei, z])
          omega, ei⟩
      · rintro ⟨i, hi, ei⟩
        exact ⟨⟨i, by omega, ei⟩, fun z => by have := sc_HB_inj B hh (by omega) (by omega) (ei.trans z); omega⟩
    · refine br_f (nI_ge (by omega) (by omega)) ⟨vp_in_nI (by omega) (by decide), ?_⟩
      rw [nI_clamp (n := g) (by omega), bg.1]
      refine sc_put (by omega) bg.2.1 ?_
      dsimp only
      have B1 := sc_HB_cut B hh (a := a) (by omega)
      rw [e] at B1
      refine sc_rise (h := g) (by omega) (by omega) E B1 (by rw [sc_up_en]; exact sc_RI_cut O (by omega) _) (fun hp2 pl2 H2 B2 m2 S2 => ?_)
      dsimp only
      refine sc_sink (h := g) (by omega) (by omega) E B2 S2 (fun hp3 pl3 H3 B3 m3 O3 => ?_)
      refine K g hp3 pl3 ⟨by omega, H3, B3, O3, fun d => ?_⟩
      show (M d ∧ d ≠ c) ↔ _
      rw [m3, m2, sc_cut_mem B hh (by omega), mm, e]
  · have pa : xpl c = -1 := B.2 c hc (fun i hi e => hm ⟨i, hi, e⟩)
    refine ⟨hin, nm_r (e' := -1) (by rw [cl, pa]) (br_f (by decide) (K h xhp xpl ⟨hh, H, B, O, fun d => ?_⟩))⟩
    show (M d ∧ d ≠ c) ↔ _
    rw [mm]
    exact ⟨fun z => z.1, fun z => ⟨z, fun e => hm (by rw [← e]; exact z)⟩⟩
theorem sc_setEnd {post : SX → Prop} {M : Nat → Prop} {en : Nat → Nat} {h c clk t : Nat} (P : sc_HP M en h xhp xpl) (E : sc_EN xeo en) (hc : c < 32) (ht : t ≤ 1000) (hk : clk ≤ 1000000) (K : ∀ h' hp' pl' eo', sc_HP (fun d => (M d ∧ d ≠ c) ∨ (d = c ∧ 0 < t)) (sc_up en c (sc_et clk t)) h' hp' pl' → sc_EN eo' (sc_up en c (sc_et clk t)) → post (lN clk, xnu, nI h', xso, xfc, xnf, xii, xko, xvo, xno, eo', xbk, xch, xod, xnw, xol, xne, xic, hp', pl')) : wpX_setEnd post (lN clk, xnu, nI h, xso, xfc, xnf, xii, xko, xvo, xno, xeo, xbk, xch, xod, xnw, xol, xne, xic, xhp, xpl) (nI c) (nI t) := by
  have cl : (nI c).toNatClampNeg = c := nI_clamp (by omega)
  have hin : vp_in (nI c) 32 := vp_in_nI hc (by decide)
  unfold wpX_setEnd
  dsimp only
  refine sc_leave P E hc (fun h1 hp1 pl1 P1 => ?_)
  dsimp only
  by_cases t0 : t = 0
  · subst t0
    refine br_t nI_0 ⟨hin, nm_r (e' := vp_updL xeo c (lN 0)) (by rw [cl]; rfl) (br_t (nI_le (Nat.le_refl 0) (by decide)) (K h1 hp1 pl1 _ ?_ (sc_EN_up E (by decide))))⟩
    refine sc_HP_cg P1 (fun d => ⟨fun z => Or.inl z, fun z => ?_⟩) (fun d hd => sc_up_n hd.2)
    rcases z with z | z
    · exact z
    · exact absurd z.2 (Nat.lt_irrefl 0)
  · have et : sc_et clk t = clk + t := if_neg t0
    rw [et] at K
    have E1 := sc_EN_up (c := c) (x := clk + t) E (by omega)
    obtain ⟨hh, H, B, O, mm⟩ := P1
    have nc : ∀ i, i < h1 → H i ≠ c := fun i hi e => ((mm c).mpr ⟨i, hi, e⟩).2 rfl
    have h31 : h1 < 32 := sc_inj31 (f := H) (c := c) (fun i j hi hj e => sc_HB_inj B hh hi hj e) (fun i hi => (B.1 i hi).2.1) hc nc
    have ch : (nI h1).toNatClampNeg = h1 := nI_clamp (by omega)
    refine br_f (nI_ne0 (by omega) (by omega)) ⟨hin, nm_r (e' := vp_updL xeo c (lN (clk + t))) (by rw [cl, nI_l (by omega), lN_add]) (br_f (nI_nle (by omega) (by omega)) ⟨vp_in_nI h31 (by decide), nm_r (e' := upd hp1 h1 (nI c)) (by rw [ch]) ⟨hin, nm_r (e' := upd pl1 c (nI h1)) (by rw [cl]) (nm_r (nI_1 h1) ?_)⟩⟩)⟩
    rw [nI_pred]
    refine sc_rise (h := h1 + 1) (H := sc_up H h1 c) (by omega) (by omega) E1 (sc_HB_add B hc nc) ?_ (fun hp2 pl2 H2 B2 m2 S2 => ?_)
    · rw [sc_up_en]
      refine sc_RI_add (fun i i0 ih => ?_) _
      show sc_up en c (clk + t) (H ((i - 1) / 2)) ≤ sc_up en c (clk + t) (H i)
      rw [sc_up_n (nc _ (by omega)), sc_up_n (nc _ ih)]
      exact O i i0 ih
    · refine K (h1 + 1) hp2 pl2 _ ⟨by omega, H2, B2, sc_SI_add S2, fun d => ?_⟩ E1
      rw [m2]
      constructor
      · rintro (z | ⟨rfl, _⟩)
        · obtain ⟨i, hi, e⟩ := (mm d).mp z
          exact ⟨i, by omega, by rw [sc_up_n (by omega), e]⟩
        · exact ⟨h1, by omega, sc_up_s⟩
      · rintro ⟨i, hi, e⟩
        by_cases ie : i = h1
        · rw [ie, sc_up_s] at e
          exact Or.inr ⟨e.symm, by omega⟩
        · rw [sc_up_n ie] at e
          exact Or.inl ((mm d).mpr ⟨i, by omega, e⟩)
end
end
section
/-! all that the component's arrays say -/
def sc_IT (It : Nat → Prop) (so : Nat → Int32) : Prop := ∀ c, It c → c < 32 ∧ ∃ s, s < 3 ∧ so (c / 4) = nI s
def sc_UI (It : Nat → Prop) (so : Nat → Int32) (U : Nat → List Nat) : Prop := ∀ s, s < 3 → (U s).Nodup ∧ ∀ c, c ∈ U s ↔ It c ∧ so (c / 4) = nI s
def sc_FI (It : Nat → Prop) (so : Nat → Int32) (Fr : Nat → List Nat) : Prop := ∀ s, s < 3 → (Fr s).Nodup ∧ ∀ c, c ∈ Fr s → c < 32 ∧ ¬ It c ∧ so (c / 4) = nI s
def sc_IC (U : Nat → List Nat) (ic : Nat → Int32) : Prop := ∀ s, s < 3 → ic s = nI (U s).length
def sc_SV (so : Nat → Int32) : Prop := ∀ p, p < 8 → so p = -1 ∨ ∃ s, s < 3 ∧ so p = nI s
def sc_XS (It : Nat → Prop) (U Fr : Nat → List Nat) (en : Nat → Nat) (h : Nat) (so fc nf ko : Nat → Int32) (eo : Nat → Int64) (bk ch od nw ol ne ic hp pl : Nat → Int32) : Prop :=
  sc_IT It so ∧ sc_UI It so U ∧ sc_CH It ko bk ch ∧ sc_US U od nw ol ne ∧ (sc_FM 3 nf fc Fr ∧ sc_FI It so Fr) ∧ sc_HP (fun d => It d ∧ en d ≠ 0) en h hp pl ∧ sc_IC U ic ∧ sc_EN eo en
theorem sc_LF_U {It : Nat → Prop} {so : Nat → Int32} {U : Nat → List Nat} (XI : sc_IT It so) (XU : sc_UI It so U) : sc_LF 3 U :=
  ⟨fun s hs => ⟨(XU s hs).1, fun d hd => (XI d (((XU s hs).2 d).mp hd).1).1⟩, fun s t d hs ht h1 h2 => (nI_eq (by omega) (by omega)).mp ((((XU s hs).2 d).mp h1).2.symm.trans (((XU t ht).2 d).mp h2).2)⟩
theorem sc_UI_er {It : Nat → Prop} {so : Nat → Int32} {U : Nat → List Nat} (XU : sc_UI It so U) (c : Nat) : sc_UI (fun d => It d ∧ d ≠ c) so (fun t => (U t).erase c) := by
  intro t ht
  refine ⟨(XU t ht).1.erase c, fun d => ?_⟩
  rw [(XU t ht).1.mem_erase_iff, (XU t ht).2]
  exact ⟨fun ⟨a, b, g⟩ => ⟨⟨b, a⟩, g⟩, fun ⟨⟨b, a⟩, g⟩ => ⟨a, b, g⟩⟩
theorem sc_nd_page {It : Nat → Prop} {so : Nat → Int32} {p c : Nat} (XI : sc_IT It so) (hp : so p = -1) (hc : It c) : c / 4 ≠ p := by
  intro e
  obtain ⟨s, hs, e2⟩ := (XI c hc).2
  rw [e, hp] at e2
  exact sc_ne1 (by omega) e2
/-- a free cell that is on no list -/
def sc_FC (It : Nat → Prop) (Fr : Nat → List Nat) (so : Nat → Int32) (s c : Nat) : Prop := c < 32 ∧ ¬ It c ∧ so (c / 4) = nI s ∧ ∀ t, t < 3 → c ∉ Fr t
def sc_ce (s : Nat) : Nat := if s = 0 then 4 else if s = 1 then 2 else 1
/-- the first k cells of the page p, the last first -/
def sc_pc (p : Nat) : Nat → List Nat
  | 0 => []
  | k + 1 => (4 * p + k) :: sc_pc p k
theorem sc_pc_mem {p d : Nat} : ∀ {k : Nat}, d ∈ sc_pc p k → 4 * p ≤ d ∧ d < 4 * p + k := by
  intro k
  induction k with
  | zero => intro h; exact absurd h List.not_mem_nil
  | succ k ih =>
    intro h
    rcases List.mem_cons.mp h with e | h
    · omega
    · have := ih h; omega
theorem sc_pc_len {p : Nat} : ∀ {k : Nat}, (sc_pc p k).length = k := by
  intro k
  induction k with
  | zero => rfl
  | succ k ih => show (sc_pc p k).length + 1 = k + 1; rw [ih]
theorem sc_pc_nd {p : Nat} : ∀ {k : Nat}, (sc_pc p k).Nodup := by
  intro k
  induction k with
  | zero => exact List.nodup_nil
  | succ k ih => exact List.nodup_cons.mpr ⟨fun h => by have := sc_pc_mem h; omega, ih⟩
section
variable {xcl : Int64} {xnu xhs : Int32} {xso xfc xnf xii xko xvo xno : Nat → Int32} {xeo : Nat → Int64} {xbk xch xod xnw xol xne xic xhp xpl : Nat → Int32}
theorem sc_giveUp {post : SX → Prop} {It : Nat → Prop} {U Fr : Nat → List Nat} {en : Nat → Nat} {h c s : Nat} (X : sc_XS It U Fr en h xso xfc xnf xko xeo xbk xch xod xnw xol xne xic xhp xpl) (hc : It c) (hs : s < 3) (hso : xso (c / 4) = nI s)
    (K : ∀ h' fc' nf' ii' bk' ch' od' nw' ol' ne' ic' hp' pl', sc_XS (fun d => It d ∧ d ≠ c) (fun t => (U t).erase c) (fun t => if t = s then c :: Fr s else Fr t) en h' xso fc' nf' xko xeo bk' ch' od' nw' ol' ne' ic' hp' pl' → post (xcl, xnu, nI h', xso, fc', nf', ii', xko, xvo, xno, xeo, bk', ch', od', nw', ol', ne', ic', hp', pl')) :
    wpX_giveUp post (xcl, xnu, nI h, xso, xfc, xnf, xii, xko, xvo, xno, xeo, xbk, xch, xod, xnw, xol, xne, xic, xhp, xpl) (nI c) := by
  obtain ⟨XI, XU, XC, XD, ⟨XF, XFI⟩, XH, XN, XE⟩ := X
  have c32 := (XI c hc).1
  have L := sc_LF_U XI XU
  have mU : c ∈ U s := ((XU s hs).2 c).mpr ⟨hc, hso⟩
  have cl : (nI c).toNatClampNeg = c := nI_clamp (by omega)
  have cls : (nI s).toNatClampNeg = s := nI_clamp (by omega)
  have hin : vp_in (nI c) 32 := vp_in_nI c32 (by decide)
  have his : vp_in (nI s) 3 := vp_in_nI hs (by decide)
  refine ⟨by rw [sc_shr c32]; exact vp_in_nI (by omega) (by decide), nm_r (e' := nI s) (by rw [sc_shr c32, nI_clamp (by omega), hso]) ?_⟩
  refine sc_unchain XC (fun d hd => (XI d hd).1) hc (fun bk1 ch1 C1 => ?_)
  dsimp only
  refine sc_unhang L XD hs mU (fun od1 nw1 ol1 ne1 D1 => ?_)
  dsimp only
  refine sc_leave XH XE c32 (fun h1 hp1 pl1 P1 => ?_)
  dsimp only
  refine ⟨hin, nm_e ⟨his, his, nm_r (e' := upd xic s (xic s - 1)) (by rw [cls]) ⟨his, hin, nm_r (e' := upd xnf c (xfc s)) (by rw [cl, cls]) ⟨his, nm_r (e' := upd xfc s (nI c)) (by rw [cls]) (K _ _ _ _ _ _ _ _ _ _ _ _ _ ?_)⟩⟩⟩⟩
  refine ⟨fun d hd => XI d hd.1, sc_UI_er XU c, C1, D1, ⟨?_, ?_⟩, ?_, ?_, XE⟩
  · exact sc_FM_push XF hs (fun t ht hm => ((XFI t ht).2 c hm).2.1 hc) (if_pos rfl) (fun t ht h => if_neg h)
  · intro t ht
    by_cases e : t = s
    · subst e
      show (if t = t then c :: Fr t else Fr t).Nodup ∧ ∀ d, d ∈ (if t = t then c :: Fr t else Fr t) → _
      rw [if_pos rfl]
      refine ⟨List.nodup_cons.mpr ⟨fun hm => ((XFI t ht).2 c hm).2.1 hc, (XFI t ht).1⟩, fun d hd => ?_⟩
      rcases List.mem_cons.mp hd with rfl | hd
      · exact ⟨c32, fun z => z.2 rfl, hso⟩
      · have := (XFI t ht).2 d hd
        exact ⟨this.1, fun z => this.2.1 z.1, this.2.2⟩
    · show (if t = s then c :: Fr s else Fr t).Nodup ∧ ∀ d, d ∈ (if t = s then c :: Fr s else Fr t) → _
      rw [if_neg e]
      refine ⟨(XFI t ht).1, fun d hd => ?_⟩
      have := (XFI t ht).2 d hd
      exact ⟨this.1, fun z => this.2.1 z.1, this.2.2⟩
  · exact sc_HP_cg P1 (fun d => ⟨fun z => ⟨⟨z.1.1, z.2⟩, z.1.2⟩, fun z => ⟨⟨z.1.1, z.2⟩, z.1.2⟩⟩) (fun d _ => rfl)
  · intro t ht
    by_cases e : t = s
    · subst e
      have pos : 0 < (U t).length := List.length_pos_of_mem mU
      rw [pk_us, XN t ht, List.length_erase_of_mem mU]
      obtain ⟨m, hm⟩ : ∃ m, (U t).length = m + 1 := ⟨(U t).length - 1, by omega⟩
      rw [hm, nI_pred]
      rfl
    · show _ = nI ((U t).erase c).length
      rw [pk_un e, XN t ht, List.erase_of_not_mem (fun hm => e (L.2 t s c ht hs hm mU))]
theorem sc_page_lp {post : SX → Prop} {Fr : Nat → List Nat} {s p m : Nat} (hs : s < 3) (hp : p < 8) (hm : m ≤ 4) (hf : ∀ t, t < 3 → ∀ d, d ∈ Fr t → d / 4 ≠ p)
    (K : ∀ fc' nf', sc_FM 3 nf' fc' (fun t => if t = s then sc_pc p m ++ Fr s else Fr t) → post (xcl, xnu, xhs, xso, fc', nf', xii, xko, xvo, xno, xeo, xbk, xch, xod, xnw, xol, xne, xic, xhp, xpl)) :
    ∀ (d k : Nat) (fc' nf' : Nat → Int32), k + d = m → sc_FM 3 nf' fc' (fun t => if t = s then sc_pc p k ++ Fr s else Fr t) → wX_givePage_64 post (nI s) (nI p) (nI m) xcl xnu xhs (d + 1) (nI k) xso fc' nf' xii xko xvo xno xeo xbk xch xod xnw xol xne xic xhp xpl := by
  have cls : (nI s).toNatClampNeg = s := nI_clamp (by omega)
  have his : vp_in (nI s) 3 := vp_in_nI hs (by decide)
  intro d
  induction d with
  | zero =>
    intro k fc' nf' e F
    have e : k = m := e
    subst e
    exact br_t (nI_le (Nat.le_refl _) (by omega)) (K fc' nf' F)
  | succ d ih =>
    intro k fc' nf' e F
    have ec : 4 * nI p + nI k = nI (4 * p + k) := by rw [show (4 : Int32) = nI 4 from rfl, pk_mul, nI_add]
    refine br_f (nI_ge (by omega) (by omega)) ⟨his, ?_⟩
    rw [ec, cls, nI_clamp (n := 4 * p + k) (by omega)]
    refine ⟨vp_in_nI (by omega) (by decide), nm_e ⟨his, nm_e (nm_r (nI_1 k) ?_)⟩⟩
    refine ih (k + 1) _ _ (by omega) ?_
    refine sc_FM_push F hs ?_ ?_ ?_
    · intro t ht hm
      by_cases e2 : t = s
      · have hm : 4 * p + k ∈ (if t = s then sc_pc p k ++ Fr s else Fr t) := hm
        rw [if_pos e2] at hm
        rcases List.mem_append.mp hm with h1 | h1
        · have := sc_pc_mem h1; omega
        · exact hf s hs _ h1 (by omega)
      · have hm : 4 * p + k ∈ (if t = s then sc_pc p k ++ Fr s else Fr t) := hm
        rw [if_neg e2] at hm
        exact hf t ht _ hm (by omega)
    · show (if s = s then sc_pc p (k + 1) ++ Fr s else Fr s) = (4 * p + k) :: (if s = s then sc_pc p k ++ Fr s else Fr s)
      rw [if_pos rfl, if_pos rfl]
      rfl
    · intro t ht e2
      show (if t = s then sc_pc p (k + 1) ++ Fr s else Fr t) = (if t = s then sc_pc p k ++ Fr s else Fr t)
      rw [if_neg e2, if_neg e2]
theorem sc_page_5 {post : SX → Prop} {s : Nat} (hs : s < 3) (sv : sc_SV xso) (K0 : (∀ p, p < 8 → xso p ≠ -1) → post (xcl, xnu, xhs, xso, xfc, xnf, xii, xko, xvo, xno, xeo, xbk, xch, xod, xnw, xol, xne, xic, xhp, xpl))
    (K1 : ∀ p, p < 8 → xso p = -1 → ∃ n, wX_givePage_64 post (nI s) (nI p) (nI (sc_ce s)) xcl xnu xhs n 0 (upd xso p (nI s)) xfc xnf xii xko xvo xno xeo xbk xch xod xnw xol xne xic xhp xpl) :
    ∀ (i : Nat) (g : Int32), i ≤ 8 → ((g = -1 ∧ ∀ p, i ≤ p → p < 8 → xso p ≠ -1) ∨ (∃ p, p < 8 ∧ g = nI p ∧ xso p = -1)) → wX_givePage_5 post (nI s) xcl xnu xhs xso xfc xnf xii xko xvo xno xeo xbk xch xod xnw xol xne xic xhp xpl (i + 1) g (nI i + (-1)) := by
  intro i
  induction i with
  | zero =>
    intro g _ hg
    refine br_t (by decide) ?_
    rcases hg with ⟨rfl, hg⟩ | ⟨p, hp, rfl, e⟩
    · exact br_f (by decide) (K0 (fun p hp => hg p (Nat.zero_le _) hp))
    · refine br_t (nI_pos' (by omega)) ⟨vp_in_nI hp (by decide), nm_r (e' := upd xso p (nI s)) (by rw [nI_clamp (by omega)]) ?_⟩
      have k1 := K1 p hp e
      rcases (by omega : s = 0 ∨ s = 1 ∨ s = 2) with rfl | rfl | rfl
      · exact br_t nI_0 k1
      · exact br_f (by decide) (br_t rfl k1)
      · exact br_f (by decide) (br_f (by decide) k1)
  | succ i ih =>
    intro g hi hg
    rw [pk_m1]
    refine br_f (nI_pos (by omega)) ⟨vp_in_nI (by omega) (by decide), ?_⟩
    rw [nI_clamp (n := i) (by omega)]
    rcases sv i (by omega) with e | ⟨t, ht, e⟩
    · refine br_f (by rw [e]; decide) (nm_e (ih (nI i) (by omega) (Or.inr ⟨i, by omega, rfl, e⟩)))
    · refine br_t (by rw [e]; exact nI_pos' (by omega)) (nm_e (ih g (by omega) ?_))
      rcases hg with ⟨rfl, hg⟩ | hg
      · refine Or.inl ⟨rfl, fun p h1 h2 => ?_⟩
        by_cases ep : p = i
        · rw [ep, e]; exact fun z => sc_ne1 (by omega) z.symm
        · exact hg p (by omega) h2
      · exact Or.inr hg
theorem sc_givePage {post : SX → Prop} {It : Nat → Prop} {U Fr : Nat → List Nat} {en : Nat → Nat} {h s : Nat} (X : sc_XS It U Fr en h xso xfc xnf xko xeo xbk xch xod xnw xol xne xic xhp xpl) (sv : sc_SV xso) (hs : s < 3)
    (K0 : (∀ p, p < 8 → xso p ≠ -1) → post (xcl, xnu, xhs, xso, xfc, xnf, xii, xko, xvo, xno, xeo, xbk, xch, xod, xnw, xol, xne, xic, xhp, xpl))
    (K1 : ∀ p fc' nf', p < 8 → xso p = -1 → sc_XS It U (fun t => if t = s then sc_pc p (sc_ce s) ++ Fr s else Fr t) en h (upd xso p (nI s)) fc' nf' xko xeo xbk xch xod xnw xol xne xic xhp xpl → post (xcl, xnu, xhs, upd xso p (nI s), fc', nf', xii, xko, xvo, xno, xeo, xbk, xch, xod, xnw, xol, xne, xic, xhp, xpl)) :
    wpX_givePage post (xcl, xnu, xhs, xso, xfc, xnf, xii, xko, xvo, xno, xeo, xbk, xch, xod, xnw, xol, xne, xic, xhp, xpl) (nI s) := by
  obtain ⟨XI, XU, XC, XD, ⟨XF, XFI⟩, XH, XN, XE⟩ := X
  have ce4 : sc_ce s ≤ 4 ∧ 0 < sc_ce s := by
    rcases (by omega : s = 0 ∨ s = 1 ∨ s = 2) with rfl | rfl | rfl <;> decide
  refine ⟨8 + 1, sc_page_5 hs sv K0 (fun p hp e => ⟨sc_ce s + 1, ?_⟩) 8 (-1) (Nat.le_refl _) (Or.inl ⟨rfl, fun p h1 h2 => by omega⟩)⟩
  have hf : ∀ t, t < 3 → ∀ d, d ∈ Fr t → d / 4 ≠ p := by
    intro t ht d hd ed
    have := ((XFI t ht).2 d hd).2.2
    rw [ed, e] at this
    exact sc_ne1 (by omega) this
  refine sc_page_lp hs hp ce4.1 hf (fun fc' nf' F' => K1 p fc' nf' hp e ?_) (sc_ce s) 0 xfc xnf (by omega) ?_
  · have so' : ∀ d, d / 4 ≠ p → upd xso p (nI s) (d / 4) = xso (d / 4) := fun d hd => pk_un hd
    refine ⟨fun c hc => ?_, fun t ht => ⟨(XU t ht).1, fun c => ?_⟩, XC, XD, ⟨F', fun t ht => ?_⟩, XH, XN, XE⟩
    · rw [so' c (sc_nd_page XI e hc)]; exact XI c hc
    · rw [(XU t ht).2]
      constructor
      · rintro ⟨a, b⟩
        exact ⟨a, by rw [so' c (sc_nd_page XI e a)]; exact b⟩
      · rintro ⟨a, b⟩
        exact ⟨a, by rw [so' c (sc_nd_page XI e a)] at b; exact b⟩
    · have old : ∀ d, d ∈ Fr t → d < 32 ∧ ¬ It d ∧ upd xso p (nI s) (d / 4) = nI t := fun d hd => by
        rw [so' d (hf t ht d hd)]; exact (XFI t ht).2 d hd
      by_cases e2 : t = s
      · show (if t = s then sc_pc p (sc_ce s) ++ Fr s else Fr t).Nodup ∧ ∀ d, d ∈ (if t = s then sc_pc p (sc_ce s) ++ Fr s else Fr t) → _
        rw [if_pos e2]
        subst e2
        refine ⟨List.nodup_append.mpr ⟨sc_pc_nd, (XFI t ht).1, fun a ha b hb eab => ?_⟩, fun d hd => ?_⟩
        · have := sc_pc_mem ha
          exact hf t ht b hb (by omega)
        · rcases List.mem_append.mp hd with hd | hd
          · have := sc_pc_mem hd
            have d4 : d / 4 = p := by omega
            exact ⟨by omega, fun z => sc_nd_page XI e z d4, by rw [d4, pk_us]⟩
          · exact old d hd
      · show (if t = s then sc_pc p (sc_ce s) ++ Fr s else Fr t).Nodup ∧ ∀ d, d ∈ (if t = s then sc_pc p (sc_ce s) ++ Fr s else Fr t) → _
        rw [if_neg e2]
        exact ⟨(XFI t ht).1, old⟩
  · intro t ht
    show sc_SL xnf (xfc t) (if t = s then sc_pc p 0 ++ Fr s else Fr t)
    by_cases e2 : t = s
    · rw [if_pos e2, e2]; exact XF s hs
    · rw [if_neg e2]; exact XF t ht
end
end
section
/-! the component: makeRoom, enter, the tail of store -/
/-- used and free cells of a sort are those of its pages; of the sort q one is in hand (q = 3: none) -/
def sc_LN (U Fr : Nat → List Nat) (so : Nat → Int32) (q : Nat) : Prop := ∀ t, t < 3 → (U t).length + (Fr t).length + (if t = q then 1 else 0) = sc_ce t * sc_cn so (nI t) 8
theorem sc_LN_pop {U Fr : Nat → List Nat} {so : Nat → Int32} {s c : Nat} {l : List Nat} (N : sc_LN U Fr so 3) (e : Fr s = c :: l) : sc_LN U (fun t => if t = s then l else Fr t) so s := by
  intro t ht
  have n := N t ht
  rw [if_neg (by omega)] at n
  by_cases z : t = s
  · subst z
    rw [e, List.length_cons] at n
    show (U t).length + (if t = t then l else Fr t).length + (if t = t then 1 else 0) = _
    rw [if_pos rfl, if_pos rfl]
    omega
  · show (U t).length + (if t = s then l else Fr t).length + (if t = s then 1 else 0) = _
    rw [if_neg z, if_neg z]
    exact n
theorem sc_LN_page {U Fr : Nat → List Nat} {so : Nat → Int32} {s p : Nat} (hs : s < 3) (N : sc_LN U Fr so 3) (hp : p < 8) (e : so p = -1) : sc_LN U (fun t => if t = s then sc_pc p (sc_ce s) ++ Fr s else Fr t) (upd so p (nI s)) 3 := by
  intro t ht
  have n := N t ht
  have c := sc_cn_up (f := so) (x := nI t) (y := nI s) hp
  rw [if_neg (by rw [e]; exact sc_ne1 (by omega))] at c
  by_cases z : t = s
  · subst z
    rw [if_pos rfl] at c
    show (U t).length + (if t = t then sc_pc p (sc_ce t) ++ Fr t else Fr t).length + (if t = 3 then 1 else 0) = _
    rw [if_pos rfl, List.length_append, sc_pc_len, show sc_cn (upd so p (nI t)) (nI t) 8 = sc_cn so (nI t) 8 + 1 by omega, Nat.mul_add, Nat.mul_one]
    omega
  · rw [if_neg (fun h => z ((nI_eq (by omega) (by omega)).mp h).symm)] at c
    show (U t).length + (if t = s then sc_pc p (sc_ce s) ++ Fr s else Fr t).length + (if t = 3 then 1 else 0) = _
    rw [if_neg z, show sc_cn (upd so p (nI s)) (nI t) 8 = sc_cn so (nI t) 8 by omega]
    exact n
theorem sc_LN_give {U Fr : Nat → List Nat} {so : Nat → Int32} {s c q : Nat} (L : sc_LF 3 U) (hs : s < 3) (N : sc_LN U Fr so q) (hc : c ∈ U s) : sc_LN (fun t => (U t).erase c) (fun t => if t = s then c :: Fr s else Fr t) so q := by
  intro t ht
  have n := N t ht
  by_cases z : t = s
  · subst z
    have pos : 0 < (U t).length := List.length_pos_of_mem hc
    show ((U t).erase c).length + (if t = t then c :: Fr t else Fr t).length + _ = _
    rw [if_pos rfl, List.length_erase_of_mem hc, List.length_cons]
    omega
  · show ((U t).erase c).length + (if t = s then c :: Fr s else Fr t).length + _ = _
    rw [if_neg z, List.erase_of_not_mem (fun hm => z (L.2 t s c ht hs hm hc))]
    exact n
theorem sc_LN_enter {U Fr : Nat → List Nat} {so : Nat → Int32} {s c : Nat} (N : sc_LN U Fr so s) : sc_LN (fun t => if t = s then U s ++ [c] else U t) Fr so 3 := by
  intro t ht
  have n := N t ht
  by_cases z : t = s
  · subst z
    rw [if_pos rfl] at n
    show (if t = t then U t ++ [c] else U t).length + _ + (if t = 3 then 1 else 0) = _
    rw [if_pos rfl, if_neg (by omega), List.length_append, List.length_singleton]
    omega
  · rw [if_neg z] at n
    show (if t = s then U s ++ [c] else U t).length + _ + (if t = 3 then 1 else 0) = _
    rw [if_neg z, if_neg (by omega)]
    exact n
theorem sc_mv_len {U : Nat → List Nat} {s c : Nat} (L : sc_LF 3 U) (hs : s < 3) (hc : c ∈ U s) {t : Nat} (ht : t < 3) : (sc_mv U s c t).length = (U t).length := by
  unfold sc_mv
  by_cases z : t = s
  · subst z
    have pos : 0 < (U t).length := List.length_pos_of_mem hc
    rw [if_pos rfl, List.length_append, List.length_singleton, List.length_erase_of_mem hc]
    omega
  · rw [if_neg z, List.erase_of_not_mem (fun hm => z (L.2 t s c ht hs hm hc))]
theorem sc_mv_mem {U : Nat → List Nat} {s c : Nat} (L : sc_LF 3 U) (hs : s < 3) (hc : c ∈ U s) {t : Nat} (ht : t < 3) (d : Nat) : d ∈ sc_mv U s c t ↔ d ∈ U t := by
  unfold sc_mv
  by_cases z : t = s
  · subst z
    rw [if_pos rfl, List.mem_append, (L.1 t ht).1.mem_erase_iff, List.mem_singleton]
    constructor
    · rintro (⟨_, h⟩ | rfl)
      · exact h
      · exact hc
    · intro h
      by_cases e : d = c
      · exact Or.inr e
      · exact Or.inl ⟨e, h⟩
  · rw [if_neg z, List.erase_of_not_mem (fun hm => z (L.2 t s c ht hs hm hc))]
theorem sc_app_nd {l : List Nat} {c : Nat} (h : l.Nodup) (hc : c ∉ l) : (l ++ [c]).Nodup :=
  List.nodup_append.mpr ⟨h, List.nodup_cons.mpr ⟨List.not_mem_nil, List.nodup_nil⟩, fun a ha b hb e => hc (by rw [List.mem_singleton.mp hb] at e; rw [← e]; exact ha)⟩
theorem sc_mv_nd {U : Nat → List Nat} {s c : Nat} (L : sc_LF 3 U) {t : Nat} (ht : t < 3) : (sc_mv U s c t).Nodup := by
  unfold sc_mv
  by_cases z : t = s
  · subst z
    rw [if_pos rfl]
    exact sc_app_nd ((L.1 t ht).1.erase c) (L.1 t ht).1.not_mem_erase
  · rw [if_neg z]
    exact (L.1 t ht).1.erase c
theorem sc_LN_mv {U Fr : Nat → List Nat} {so : Nat → Int32} {s c q : Nat} (L : sc_LF 3 U) (hs : s < 3) (N : sc_LN U Fr so q) (hc : c ∈ U s) : sc_LN (sc_mv U s c) Fr so q := by
  intro t ht
  rw [sc_mv_len L hs hc ht]
  exact N t ht
/-- how makeRoom found its cell -/
def sc_MR (It It' : Nat → Prop) (U U' Fr : Nat → List Nat) (so so' : Nat → Int32) (s : Nat) : Prop :=
  (Fr s ≠ [] ∧ It' = It ∧ U' = U ∧ so' = so) ∨
  (Fr s = [] ∧ It' = It ∧ U' = U ∧ ∃ p, p < 8 ∧ so p = -1 ∧ so' = upd so p (nI s)) ∨
  (Fr s = [] ∧ (∀ p, p < 8 → so p ≠ -1) ∧ so' = so ∧ ∃ d l, U s = d :: l ∧ It' = (fun e => It e ∧ e ≠ d) ∧ U' = fun t => (U t).erase d)
section
variable {xcl : Int64} {xnu xhs : Int32} {xso xfc xnf xii xko xvo xno : Nat → Int32} {xeo : Nat → Int64} {xbk xch xod xnw xol xne xic xhp xpl : Nat → Int32}
theorem sc_XS_mv {It : Nat → Prop} {U Fr : Nat → List Nat} {en : Nat → Nat} {h c s : Nat} {od' nw' ol' ne' : Nat → Int32} (X : sc_XS It U Fr en h xso xfc xnf xko xeo xbk xch xod xnw xol xne xic xhp xpl) (hs : s < 3) (hc : c ∈ U s) (D : sc_US (sc_mv U s c) od' nw' ol' ne') : sc_XS It (sc_mv U s c) Fr en h xso xfc xnf xko xeo xbk xch od' nw' ol' ne' xic xhp xpl := by
  obtain ⟨XI, XU, XC, XD, XF, XH, XN, XE⟩ := X
  have L := sc_LF_U XI XU
  refine ⟨XI, fun t ht => ⟨sc_mv_nd L ht, fun d => ?_⟩, XC, D, XF, XH, fun t ht => ?_, XE⟩
  · rw [sc_mv_mem L hs hc ht]; exact (XU t ht).2 d
  · rw [sc_mv_len L hs hc ht]; exact XN t ht
theorem sc_XS_end {It : Nat → Prop} {U Fr : Nat → List Nat} {en : Nat → Nat} {h h' c clk t : Nat} {hp' pl' : Nat → Int32} {eo' : Nat → Int64} (X : sc_XS It U Fr en h xso xfc xnf xko xeo xbk xch xod xnw xol xne xic xhp xpl) (hc : It c) (P : sc_HP (fun d => ((It d ∧ en d ≠ 0) ∧ d ≠ c) ∨ (d = c ∧ 0 < t)) (sc_up en c (sc_et clk t)) h' hp' pl') (E : sc_EN eo' (sc_up en c (sc_et clk t))) : sc_XS It U Fr (sc_up en c (sc_et clk t)) h' xso xfc xnf xko eo' xbk xch xod xnw xol xne xic hp' pl' := by
  obtain ⟨XI, XU, XC, XD, XF, XH, XN, XE⟩ := X
  refine ⟨XI, XU, XC, XD, XF, sc_HP_cg P (fun d => ?_) (fun d _ => rfl), XN, E⟩
  by_cases e : d = c
  · subst e
    rw [sc_up_s]
    constructor
    · rintro (z | ⟨_, z⟩)
      · exact absurd rfl z.2
      · exact ⟨hc, by unfold sc_et; rw [if_neg (by omega)]; omega⟩
    · rintro ⟨_, z⟩
      refine Or.inr ⟨rfl, ?_⟩
      unfold sc_et at z
      by_cases t0 : t = 0
      · rw [if_pos t0] at z; exact absurd rfl z
      · omega
  · rw [sc_up_n e]
    exact ⟨fun z => z.elim (fun y => y.1) (fun y => absurd y.1 e), fun z => Or.inl ⟨z, e⟩⟩
theorem sc_room42 {post : Int32 → SX → Prop} {It : Nat → Prop} {U Fr : Nat → List Nat} {en : Nat → Nat} {h c s : Nat} {l : List Nat} (X : sc_XS It U Fr en h xso xfc xnf xko xeo xbk xch xod xnw xol xne xic xhp xpl) (hs : s < 3) (e : Fr s = c :: l)
    (K : ∀ fc', sc_XS It U (fun t => if t = s then l else Fr t) en h xso fc' xnf xko xeo xbk xch xod xnw xol xne xic xhp xpl → sc_FC It (fun t => if t = s then l else Fr t) xso s c → post (nI c) (xcl, xnu, xhs, xso, fc', xnf, xii, xko, xvo, xno, xeo, xbk, xch, xod, xnw, xol, xne, xic, xhp, xpl)) : wX_makeRoom_42 post (nI s) xcl xnu xhs xso xfc xnf xii xko xvo xno xeo xbk xch xod xnw xol xne xic xhp xpl := by
  obtain ⟨XI, XU, XC, XD, ⟨XF, XFI⟩, XH, XN, XE⟩ := X
  have f1 := XF s hs
  have g1 := XFI s hs
  rw [e] at f1 g1
  have gc := g1.2 c List.mem_cons_self
  have cl : (nI c).toNatClampNeg = c := nI_clamp (by omega)
  have cls : (nI s).toNatClampNeg = s := nI_clamp (by omega)
  have hin : vp_in (nI c) 32 := vp_in_nI gc.1 (by decide)
  have his : vp_in (nI s) 3 := vp_in_nI hs (by decide)
  refine ⟨his, nm_r (e' := nI c) (by rw [cls, f1.1]) (br_f (nI_pos (by omega)) ⟨hin, his, nm_r (e' := upd xfc s (xnf c)) (by rw [cls, cl]) (K _ ⟨XI, XU, XC, XD, ⟨sc_FM_un0 XF hs e (if_pos rfl) (fun t ht h => if_neg h), fun t ht => ?_⟩, XH, XN, XE⟩ ⟨gc.1, gc.2.1, gc.2.2, fun t ht => ?_⟩)⟩)⟩
  · by_cases z : t = s
    · subst z
      show (if t = t then l else Fr t).Nodup ∧ ∀ d, d ∈ (if t = t then l else Fr t) → _
      rw [if_pos rfl]
      exact ⟨(List.nodup_cons.mp g1.1).2, fun d hd => g1.2 d (List.mem_cons_of_mem _ hd)⟩
    · show (if t = s then l else Fr t).Nodup ∧ ∀ d, d ∈ (if t = s then l else Fr t) → _
      rw [if_neg z]
      exact XFI t ht
  · by_cases z : t = s
    · show c ∉ (if t = s then l else Fr t)
      rw [if_pos z]
      exact (List.nodup_cons.mp g1.1).1
    · show c ∉ (if t = s then l else Fr t)
      rw [if_neg z]
      intro hm
      have := ((XFI t ht).2 c hm).2.2
      rw [gc.2.2] at this
      exact z ((nI_eq (by omega) (by omega)).mp this).symm
theorem sc_makeRoom {post : Int32 → SX → Prop} {It : Nat → Prop} {U Fr : Nat → List Nat} {en : Nat → Nat} {h s : Nat} (X : sc_XS It U Fr en h xso xfc xnf xko xeo xbk xch xod xnw xol xne xic xhp xpl) (sv : sc_SV xso) (hs : s < 3) (N : sc_LN U Fr xso 3)
    (K0 : Fr s = [] → (∀ p, p < 8 → xso p ≠ -1) → U s = [] → post (-1) (xcl, xnu, nI h, xso, xfc, xnf, xii, xko, xvo, xno, xeo, xbk, xch, xod, xnw, xol, xne, xic, xhp, xpl))
    (K : ∀ It' U' Fr' h' c so' fc' nf' ii' bk' ch' od' nw' ol' ne' ic' hp' pl', sc_XS It' U' Fr' en h' so' fc' nf' xko xeo bk' ch' od' nw' ol' ne' ic' hp' pl' → sc_FC It' Fr' so' s c → sc_LN U' Fr' so' s → sc_MR It It' U U' Fr xso so' s → post (nI c) (xcl, xnu, nI h', so', fc', nf', ii', xko, xvo, xno, xeo, bk', ch', od', nw', ol', ne', ic', hp', pl')) :
    wpX_makeRoom post (xcl, xnu, nI h, xso, xfc, xnf, xii, xko, xvo, xno, xeo, xbk, xch, xod, xnw, xol, xne, xic, xhp, xpl) (nI s) := by
  have cls : (nI s).toNatClampNeg = s := nI_clamp (by omega)
  have his : vp_in (nI s) 3 := vp_in_nI hs (by decide)
  have ce0 : 0 < sc_ce s := by
    rcases (by omega : s = 0 ∨ s = 1 ∨ s = 2) with rfl | rfl | rfl <;> decide
  have fch : xfc s = sc_hd (Fr s) := sc_SL_hd (X.2.2.2.2.1.1 s hs)
  have odh : xod s = sc_hd (U s) := sc_SL_hd (X.2.2.2.1.1 s hs)
  refine ⟨his, ?_⟩
  rw [cls]
  cases hv : Fr s with
  | cons c l =>
    have z : xfc s = nI c := by rw [fch, hv]; rfl
    have c32 : c < 32 := ((X.2.2.2.2.1.2 s hs).2 c (by rw [hv]; exact List.mem_cons_self)).1
    refine br_t (by rw [z]; exact nI_pos' (by omega)) ⟨his, br_t (by rw [cls, z]; exact nI_pos' (by omega)) ?_⟩
    refine sc_room42 X hs hv (fun fc' X' F' => ?_)
    exact K It U _ h c xso fc' xnf xii xbk xch xod xnw xol xne xic xhp xpl X' F' (sc_LN_pop N hv) (Or.inl ⟨(by rw [hv]; exact List.cons_ne_nil _ _), rfl, rfl, rfl⟩)
  | nil =>
    have z : xfc s = -1 := by rw [fch, hv]; rfl
    have nz : ¬ (0 : Int32) ≤ xfc s := by rw [z]; decide
    refine br_f nz ?_
    refine sc_givePage X sv hs (fun np => ?_) (fun p fc' nf' hp ep X' => ?_)
    · dsimp only
      refine ⟨his, br_f (by rw [cls]; exact nz) ⟨his, ?_⟩⟩
      rw [cls]
      cases hu : U s with
      | nil =>
        have zo : xod s < 0 := by rw [odh, hu]; exact sc_neg1
        exact br_t zo ⟨his, nm_r (e' := -1) (by rw [cls, z]) (br_t sc_neg1 (K0 hv np hu))⟩
      | cons d l =>
        have zo : xod s = nI d := by rw [odh, hu]; rfl
        have md : d ∈ U s := by rw [hu]; exact List.mem_cons_self
        have XU := X.2.1
        have hd := ((XU s hs).2 d).mp md
        have d32 := (X.1 d hd.1).1
        rw [zo]
        refine br_f (nI_pos (by omega)) ⟨his, ?_⟩
        refine sc_giveUp X hd.1 hs hd.2 (fun h1 fc1 nf1 ii1 bk1 ch1 od1 nw1 ol1 ne1 ic1 hp1 pl1 X1 => ?_)
        dsimp only
        have N1 := sc_LN_give (sc_LF_U X.1 X.2.1) hs N md
        refine sc_room42 (c := d) (l := Fr s) X1 hs (if_pos rfl) (fun fc2 X2 F2 => ?_)
        exact K _ _ _ h1 d xso fc2 nf1 ii1 bk1 ch1 od1 nw1 ol1 ne1 ic1 hp1 pl1 X2 F2 (sc_LN_pop N1 (if_pos rfl)) (Or.inr (Or.inr ⟨hv, np, rfl, d, l, hu, rfl, rfl⟩))
    · dsimp only
      have N1 := sc_LN_page hs N hp ep
      obtain ⟨m, hm⟩ : ∃ m, sc_ce s = m + 1 := ⟨sc_ce s - 1, by omega⟩
      have e1 : (fun t => if t = s then sc_pc p (sc_ce s) ++ Fr s else Fr t) s = (4 * p + m) :: (sc_pc p m ++ Fr s) := by
        show (if s = s then sc_pc p (sc_ce s) ++ Fr s else Fr s) = _
        rw [if_pos rfl, hm]; rfl
      have z1 : fc' s = nI (4 * p + m) := by
        have := sc_SL_hd (X'.2.2.2.2.1.1 s hs)
        rw [e1] at this
        exact this
      have b1 : 4 * p + m < 32 := ((X'.2.2.2.2.1.2 s hs).2 (4 * p + m) (by rw [e1]; exact List.mem_cons_self)).1
      refine ⟨his, br_t (by rw [cls, z1]; exact nI_pos' (by omega)) ?_⟩
      refine sc_room42 X' hs e1 (fun fc2 X2 F2 => ?_)
      exact K It U _ h (4 * p + m) (upd xso p (nI s)) fc2 nf' xii xbk xch xod xnw xol xne xic xhp xpl X2 F2 (sc_LN_pop N1 e1) (Or.inr (Or.inl ⟨hv, rfl, rfl, p, hp, ep, rfl⟩))
theorem sc_enter {post : SX → Prop} {It : Nat → Prop} {U Fr : Nat → List Nat} {en : Nat → Nat} {h c s : Nat} {x : Int32} (X : sc_XS It U Fr en h xso xfc xnf xko xeo xbk xch xod xnw xol xne xic xhp xpl) (F : sc_FC It Fr xso s c) (hs : s < 3)
    (K : ∀ ii' bk' ch' od' nw' ol' ne' ic' eo', sc_XS (fun d => It d ∨ d = c) (fun t => if t = s then U s ++ [c] else U t) Fr (sc_up en c 0) h xso xfc xnf (upd xko c x) eo' bk' ch' od' nw' ol' ne' ic' xhp xpl → post (xcl, xnu, xhs, xso, xfc, xnf, ii', upd xko c x, xvo, xno, eo', bk', ch', od', nw', ol', ne', ic', xhp, xpl)) :
    wpX_enter post (xcl, xnu, xhs, xso, xfc, xnf, xii, xko, xvo, xno, xeo, xbk, xch, xod, xnw, xol, xne, xic, xhp, xpl) (nI c) x (nI s) := by
  obtain ⟨XI, XU, XC, XD, ⟨XF, XFI⟩, XH, XN, XE⟩ := X
  obtain ⟨c32, nI_c, hso, nF⟩ := F
  have L := sc_LF_U XI XU
  have nU : ∀ t, t < 3 → c ∉ U t := fun t ht hm => nI_c (((XU t ht).2 c).mp hm).1
  have cl : (nI c).toNatClampNeg = c := nI_clamp (by omega)
  have cls : (nI s).toNatClampNeg = s := nI_clamp (by omega)
  have hin : vp_in (nI c) 32 := vp_in_nI c32 (by decide)
  have his : vp_in (nI s) 3 := vp_in_nI hs (by decide)
  obtain ⟨V, VF, Vn, Vm⟩ := XC
  have hb := sc_hs_lt x
  refine ⟨hin, nm_e ⟨hin, nm_r (e' := upd xko c x) (by rw [cl]) ⟨hin, nm_r (e' := vp_updL xeo c (lN 0)) (by rw [cl]; rfl) ⟨sc_hs_in x, hin, nm_r (e' := upd xch c (xbk (sc_hs x))) (by rw [cl]; rfl) ⟨sc_hs_in x, nm_r (e' := upd xbk (sc_hs x) (nI c)) rfl ⟨his, his, nm_r (e' := upd xic s (xic s + 1)) (by rw [cls]) ?_⟩⟩⟩⟩⟩⟩
  refine sc_hangLast L XD hs c32 nU (fun od1 nw1 ol1 ne1 D1 => ?_)
  refine K _ _ _ _ _ _ _ _ _ ⟨fun d hd => ?_, fun t ht => ?_, ⟨fun t => if t = sc_hs x then c :: V (sc_hs x) else V t, ?_, ?_, ?_⟩, D1, ⟨XF, fun t ht => ⟨(XFI t ht).1, fun d hd => ?_⟩⟩, ?_, fun t ht => ?_, sc_EN_up XE (by decide)⟩
  · rcases hd with hd | rfl
    · exact XI d hd
    · exact ⟨c32, s, hs, hso⟩
  · by_cases z : t = s
    · subst z
      show (if t = t then U t ++ [c] else U t).Nodup ∧ ∀ d, d ∈ (if t = t then U t ++ [c] else U t) ↔ _
      rw [if_pos rfl]
      refine ⟨sc_app_nd (XU t ht).1 (nU t ht), fun d => ?_⟩
      rw [List.mem_append, (XU t ht).2, List.mem_singleton]
      constructor
      · rintro (⟨a, b⟩ | rfl)
        · exact ⟨Or.inl a, b⟩
        · exact ⟨Or.inr rfl, hso⟩
      · rintro ⟨a | a, b⟩
        · exact Or.inl ⟨a, b⟩
        · exact Or.inr a
    · show (if t = s then U s ++ [c] else U t).Nodup ∧ ∀ d, d ∈ (if t = s then U s ++ [c] else U t) ↔ _
      rw [if_neg z]
      refine ⟨(XU t ht).1, fun d => ?_⟩
      rw [(XU t ht).2]
      constructor
      · rintro ⟨a, b⟩
        exact ⟨Or.inl a, b⟩
      · rintro ⟨a | a, b⟩
        · exact ⟨a, b⟩
        · rw [a, hso] at b
          exact absurd ((nI_eq (by omega) (by omega)).mp b).symm z
  · exact sc_FM_push VF hb (fun t ht hm => nI_c ((Vm t ht c).mp hm).1) (if_pos rfl) (fun t ht h => if_neg h)
  · intro t ht
    by_cases z : t = sc_hs x
    · show (if t = sc_hs x then c :: V (sc_hs x) else V t).Nodup
      rw [if_pos z]
      exact List.nodup_cons.mpr ⟨fun hm => nI_c ((Vm _ hb c).mp hm).1, Vn _ hb⟩
    · show (if t = sc_hs x then c :: V (sc_hs x) else V t).Nodup
      rw [if_neg z]
      exact Vn t ht
  · intro t ht d
    show d ∈ (if t = sc_hs x then c :: V (sc_hs x) else V t) ↔ (It d ∨ d = c) ∧ sc_hs (upd xko c x d) = t
    by_cases e : d = c
    · subst e
      rw [pk_us]
      by_cases z : t = sc_hs x
      · rw [if_pos z]
        exact ⟨fun _ => ⟨Or.inr rfl, z.symm⟩, fun _ => List.mem_cons_self⟩
      · rw [if_neg z]
        exact ⟨fun hm => absurd ((Vm t ht d).mp hm).1 nI_c, fun hm => absurd hm.2.symm z⟩
    · rw [pk_un e]
      have o : (It d ∨ d = c) ↔ It d := ⟨fun z => z.elim id (fun y => absurd y e), Or.inl⟩
      rw [o]
      by_cases z : t = sc_hs x
      · rw [if_pos z, List.mem_cons, Vm _ hb, ← z]
        exact ⟨fun y => y.elim (fun y => absurd y e) id, Or.inr⟩
      · rw [if_neg z]
        exact Vm t ht d
  · have := (XFI t ht).2 d hd
    exact ⟨this.1, fun z => z.elim this.2.1 (fun e => nF t ht (e ▸ hd)), this.2.2⟩
  · refine sc_HP_cg XH (fun d => ?_) (fun d hd => sc_up_n (fun e => nI_c (e ▸ hd.1)))
    by_cases e : d = c
    · subst e
      rw [sc_up_s]
      exact ⟨fun z => absurd z.1 nI_c, fun z => absurd rfl z.2⟩
    · rw [sc_up_n e]
      exact ⟨fun z => ⟨Or.inl z.1, z.2⟩, fun z => ⟨z.1.elim id (fun y => absurd y e), z.2⟩⟩
  · by_cases z : t = s
    · subst z
      show _ = nI (if t = t then U t ++ [c] else U t).length
      rw [if_pos rfl, pk_us, XN t ht, nI_1, List.length_append, List.length_singleton]
    · show _ = nI (if t = s then U s ++ [c] else U t).length
      rw [if_neg z, pk_un z]
      exact XN t ht
theorem sc_st125 {post : Int32 → SX → Prop} {It : Nat → Prop} {U Fr : Nat → List Nat} {en : Nat → Nat} {h c s clk t : Nat} {v : Int32} (X : sc_XS It U Fr en h xso xfc xnf xko xeo xbk xch xod xnw xol xne xic xhp xpl) (hs : s < 3) (hc : It c) (hso : xso (c / 4) = nI s) (ht : t ≤ 1000) (hk : clk ≤ 1000000)
    (K : ∀ h' eo' od' nw' ol' ne' hp' pl', sc_XS It (sc_mv U s c) Fr (sc_up en c (sc_et clk t)) h' xso xfc xnf xko eo' xbk xch od' nw' ol' ne' xic hp' pl' → post (xnu + 1) (lN clk, xnu + 1, nI h', xso, xfc, xnf, xii, xko, upd xvo c v, upd xno c (xnu + 1), eo', xbk, xch, od', nw', ol', ne', xic, hp', pl')) :
    wX_store_125 post v (nI t) (nI c) (lN clk) xnu (nI h) xso xfc xnf xii xko xvo xno xeo xbk xch xod xnw xol xne xic xhp xpl := by
  have c32 := (X.1 c hc).1
  have cl : (nI c).toNatClampNeg = c := nI_clamp (by omega)
  have hin : vp_in (nI c) 32 := vp_in_nI c32 (by decide)
  have L := sc_LF_U X.1 X.2.1
  have mU : c ∈ U s := ((X.2.1 s hs).2 c).mpr ⟨hc, hso⟩
  refine ⟨hin, nm_r (e' := upd xvo c v) (by rw [cl]) ?_⟩
  refine sc_use L X.2.2.2.1 hs mU hso (fun od1 nw1 ol1 ne1 D1 => ?_)
  dsimp only
  have X1 := sc_XS_mv X hs mU D1
  refine sc_setEnd X1.2.2.2.2.2.1 X1.2.2.2.2.2.2.2 c32 ht hk (fun h2 hp2 pl2 eo2 P2 E2 => ?_)
  dsimp only
  have X2 := sc_XS_end X1 hc P2 E2
  exact nm_e ⟨hin, nm_r (e' := upd xno c (xnu + 1)) (by rw [cl]) (K h2 eo2 od1 nw1 ol1 ne1 hp2 pl2 X2)⟩
end
end
section
/-! the reference -/
def sc_eI (e : Nat) : Int32 := if e = 0 then -1 else nI e
def sc_YP (It : Nat → Prop) (so ko vo no : Nat → Int32) (en ag : Nat → Nat) (c : Nat) (k s v m e u : Int32) : Prop :=
  It c ∧ k = ko c ∧ s = so (c / 4) ∧ v = vo c ∧ m = no c ∧ e = sc_eI (en c) ∧ u = nI (ag c)
/-- sg j is the cell of the reference's j-th item -/
def sc_YA (n : Nat) (sg : Nat → Nat) (It : Nat → Prop) (so ko vo no : Nat → Int32) (en ag : Nat → Nat) (ks ss vs ns es us : Nat → Int32) : Prop :=
  (∀ j, j < n → sc_YP It so ko vo no en ag (sg j) (ks j) (ss j) (vs j) (ns j) (es j) (us j)) ∧ (∀ i j, i < n → j < n → sg i = sg j → i = j) ∧ (∀ c, It c → ∃ j, j < n ∧ sg j = c)
def sc_AG (It : Nat → Prop) (U : Nat → List Nat) (ag : Nat → Nat) (lu : Nat) : Prop := (∀ c, It c → ag c ≤ lu) ∧ ∀ s, s < 3 → (U s).Pairwise (fun a b => ag a < ag b)
def sc_PG (so pg : Nat → Int32) : Prop := ∀ s, s < 3 → pg s = nI (sc_cn so (nI s) 8)
def sc_KY (It : Nat → Prop) (ko : Nat → Int32) : Prop := (∀ c, It c → ¬ ko c < 0 ∧ ko c ≤ 255) ∧ ∀ c d, It c → It d → ko c = ko d → c = d
section
variable {n : Nat} {sg : Nat → Nat} {It : Nat → Prop} {so ko vo no : Nat → Int32} {en ag : Nat → Nat} {ks ss vs ns es us : Nat → Int32}
theorem sc_YA_32 (XI : sc_IT It so) (Y : sc_YA n sg It so ko vo no en ag ks ss vs ns es us) : n ≤ 32 := sc_inj32 Y.2.1 (fun i hi => (XI _ (Y.1 i hi).1).1)
theorem sc_YA_31 {c : Nat} (XI : sc_IT It so) (Y : sc_YA n sg It so ko vo no en ag ks ss vs ns es us) (hc : c < 32) (nc : ¬ It c) : n < 32 := sc_inj31 (c := c) Y.2.1 (fun i hi => (XI _ (Y.1 i hi).1).1) hc (fun i hi e => nc (e ▸ (Y.1 i hi).1))
theorem sc_YA_drop {j : Nat} (Y : sc_YA (n + 1) sg It so ko vo no en ag ks ss vs ns es us) (hj : j < n + 1) :
    sc_YA n (sc_up sg j (sg n)) (fun d => It d ∧ d ≠ sg j) so ko vo no en ag (upd ks j (ks n)) (upd ss j (ss n)) (upd vs j (vs n)) (upd ns j (ns n)) (upd es j (es n)) (upd us j (us n)) := by
  obtain ⟨Y1, Y2, Y3⟩ := Y
  refine ⟨fun i hi => ?_, fun i i' hi hi' e => ?_, fun c hc => ?_⟩
  · by_cases e : i = j
    · subst e
      rw [sc_up_s, pk_us, pk_us, pk_us, pk_us, pk_us, pk_us]
      have := Y1 n (by omega)
      exact ⟨⟨this.1, fun z => by have := Y2 n i (by omega) (by omega) z; omega⟩, this.2⟩
    · rw [sc_up_n e, pk_un e, pk_un e, pk_un e, pk_un e, pk_un e, pk_un e]
      have := Y1 i (by omega)
      exact ⟨⟨this.1, fun z => e (Y2 i j (by omega) (by omega) z)⟩, this.2⟩
  · by_cases e1 : i = j
    · by_cases e2 : i' = j
      · omega
      · rw [e1, sc_up_s, sc_up_n e2] at e
        have := Y2 n i' (by omega) (by omega) e
        omega
    · by_cases e2 : i' = j
      · rw [e2, sc_up_s, sc_up_n e1] at e
        have := Y2 i n (by omega) (by omega) e
        omega
      · rw [sc_up_n e1, sc_up_n e2] at e
        exact Y2 i i' (by omega) (by omega) e
  · obtain ⟨i, hi, e⟩ := Y3 c hc.1
    have ij : i ≠ j := fun z => hc.2 (by rw [← e, z])
    by_cases e1 : i = n
    · exact ⟨j, by omega, by rw [sc_up_s, ← e1, e]⟩
    · exact ⟨i, by omega, by rw [sc_up_n ij, e]⟩
variable {ko' vo' no' : Nat → Int32} {en' ag' : Nat → Nat} {ks' ss' vs' ns' es' us' : Nat → Int32}
theorem sc_YA_set {j : Nat} (Y : sc_YA n sg It so ko vo no en ag ks ss vs ns es us) (hj : j < n)
    (P : sc_YP It so ko' vo' no' en' ag' (sg j) (ks' j) (ss' j) (vs' j) (ns' j) (es' j) (us' j))
    (off : ∀ i, i ≠ j → ks' i = ks i ∧ ss' i = ss i ∧ vs' i = vs i ∧ ns' i = ns i ∧ es' i = es i ∧ us' i = us i)
    (offc : ∀ d, d ≠ sg j → ko' d = ko d ∧ vo' d = vo d ∧ no' d = no d ∧ en' d = en d ∧ ag' d = ag d) :
    sc_YA n sg It so ko' vo' no' en' ag' ks' ss' vs' ns' es' us' := by
  obtain ⟨Y1, Y2, Y3⟩ := Y
  refine ⟨fun i hi => ?_, Y2, Y3⟩
  by_cases e : i = j
  · rw [e]; exact P
  · obtain ⟨a1, a2, a3, a4, a5, a6⟩ := off i e
    obtain ⟨b1, b2, b3, b4, b5⟩ := offc (sg i) (fun z => e (Y2 i j hi hj z))
    have := Y1 i hi
    unfold sc_YP at this ⊢
    rw [a1, a2, a3, a4, a5, a6, b1, b2, b3, b4, b5]
    exact this
theorem sc_YA_new {c : Nat} (Y : sc_YA n sg It so ko vo no en ag ks ss vs ns es us) (nc : ¬ It c)
    (P : sc_YP (fun d => It d ∨ d = c) so ko' vo' no' en' ag' c (ks' n) (ss' n) (vs' n) (ns' n) (es' n) (us' n))
    (off : ∀ i, i ≠ n → ks' i = ks i ∧ ss' i = ss i ∧ vs' i = vs i ∧ ns' i = ns i ∧ es' i = es i ∧ us' i = us i)
    (offc : ∀ d, d ≠ c → ko' d = ko d ∧ vo' d = vo d ∧ no' d = no d ∧ en' d = en d ∧ ag' d = ag d) :
    sc_YA (n + 1) (sc_up sg n c) (fun d => It d ∨ d = c) so ko' vo' no' en' ag' ks' ss' vs' ns' es' us' := by
  obtain ⟨Y1, Y2, Y3⟩ := Y
  have nsg : ∀ i, i < n → sg i ≠ c := fun i hi z => nc (z ▸ (Y1 i hi).1)
  refine ⟨fun i hi => ?_, fun i j hi hj e => ?_, fun d hd => ?_⟩
  · by_cases e : i = n
    · rw [e, sc_up_s]; exact P
    · obtain ⟨a1, a2, a3, a4, a5, a6⟩ := off i e
      obtain ⟨b1, b2, b3, b4, b5⟩ := offc (sg i) (nsg i (by omega))
      obtain ⟨c1, c2⟩ := Y1 i (by omega)
      rw [sc_up_n e]
      unfold sc_YP
      rw [a1, a2, a3, a4, a5, a6, b1, b2, b3, b4, b5]
      exact ⟨Or.inl c1, c2⟩
  · by_cases e1 : i = n
    · by_cases e2 : j = n
      · omega
      · rw [e1, sc_up_s, sc_up_n e2] at e
        exact absurd e.symm (nsg j (by omega))
    · by_cases e2 : j = n
      · rw [e2, sc_up_s, sc_up_n e1] at e
        exact absurd e (nsg i (by omega))
      · rw [sc_up_n e1, sc_up_n e2] at e
        exact Y2 i j (by omega) (by omega) e
  · rcases hd with hd | hd
    · obtain ⟨i, hi, e⟩ := Y3 d hd
      exact ⟨i, by omega, by rw [sc_up_n (by omega), e]⟩
    · exact ⟨n, by omega, by rw [sc_up_s, hd]⟩
theorem sc_cn_fl (f : Nat → Int32) (x : Int32) : ∀ m, sc_cn f x m = ((List.range m).filter (fun j => decide (f j = x))).length := by
  intro m
  induction m with
  | zero => rfl
  | succ m ih =>
    rw [List.range_succ, List.filter_append, List.length_append, ← ih]
    show sc_cn f x m + (if f m = x then 1 else 0) = _
    by_cases e : f m = x
    · rw [if_pos e]; simp [e]
    · rw [if_neg e]; simp [e]
theorem sc_YA_cnt {U : Nat → List Nat} {s : Nat} (Y : sc_YA n sg It so ko vo no en ag ks ss vs ns es us) (XU : sc_UI It so U) (hs : s < 3) : sc_cn ss (nI s) n = (U s).length := by
  rw [sc_cn_fl, ← List.length_map (f := sg)]
  refine sc_same_len ((sc_map_nd Y.2.1).sublist (List.Sublist.map sg List.filter_sublist)) (XU s hs).1 (fun d => ?_)
  rw [(XU s hs).2]
  constructor
  · intro h
    obtain ⟨i, hi, rfl⟩ := List.mem_map.mp h
    obtain ⟨h1, h2⟩ := List.mem_filter.mp hi
    have yi := Y.1 i (List.mem_range.mp h1)
    exact ⟨yi.1, by rw [← yi.2.2.1]; exact of_decide_eq_true h2⟩
  · rintro ⟨h1, h2⟩
    obtain ⟨i, hi, rfl⟩ := Y.2.2 d h1
    have yi := Y.1 i hi
    exact List.mem_map.mpr ⟨i, List.mem_filter.mpr ⟨List.mem_range.mpr hi, decide_eq_true (by rw [yi.2.2.1]; exact h2)⟩, rfl⟩
end
section
variable {ycn ycl yln ylu : Int32} {yks yss yvs yns yes yus ypg : Nat → Int32}
theorem sc_yfind_lp {post : Int32 → Prop} {n : Nat} {x : Int32} (hn : n ≤ 32) (K1 : ∀ j, j < n → yks j = x → post (nI j)) (K0 : (∀ j, j < n → yks j ≠ x) → post (-1)) : ∀ (d j : Nat), j + d = n → (∀ i, i < j → yks i ≠ x) → wY_find_2 post x (nI n) ycl yln ylu yks yss yvs yns yes yus ypg (d + 1) (nI j) := by
  intro d
  induction d with
  | zero =>
    intro j e h
    have e : j = n := e
    subst e
    exact br_t (nI_le (Nat.le_refl _) (by omega)) (K0 h)
  | succ d ih =>
    intro j e h
    refine br_f (nI_ge (by omega) (by omega)) ⟨vp_in_nI (by omega) (by decide), ?_⟩
    rw [nI_clamp (n := j) (by omega)]
    refine br_c (fun z => K1 j (by omega) z) (fun z => nm_r (nI_1 j) (ih (j + 1) (by omega) (fun i hi => ?_)))
    by_cases e2 : i = j
    · rw [e2]; exact z
    · exact h i (by omega)
theorem sc_yfind {post : Int32 → Prop} {n : Nat} {x : Int32} (hn : n ≤ 32) (K1 : ∀ j, j < n → yks j = x → post (nI j)) (K0 : (∀ j, j < n → yks j ≠ x) → post (-1)) : wpY_find post (nI n, ycl, yln, ylu, yks, yss, yvs, yns, yes, yus, ypg) x :=
  ⟨n + 1, sc_yfind_lp hn K1 K0 n 0 (by omega) (fun i hi => absurd hi (Nat.not_lt_zero _))⟩
theorem sc_ydrop {post : SY → Prop} {n j : Nat} (hn : n + 1 ≤ 32) (hj : j < n + 1) (K : post (nI n, ycl, yln, ylu, upd yks j (yks n), upd yss j (yss n), upd yvs j (yvs n), upd yns j (yns n), upd yes j (yes n), upd yus j (yus n), ypg)) : wpY_drop post (nI (n + 1), ycl, yln, ylu, yks, yss, yvs, yns, yes, yus, ypg) (nI j) := by
  have cj : (nI j).toNatClampNeg = j := nI_clamp (by omega)
  have cn : (nI n).toNatClampNeg = n := nI_clamp (by omega)
  have ij : vp_in (nI j) 32 := vp_in_nI (by omega) (by decide)
  have inn : vp_in (nI n) 32 := vp_in_nI (by omega) (by decide)
  exact nm_r (nI_pred n) ⟨inn, ij, nm_r (e' := upd yks j (yks n)) (by rw [cj, cn]) ⟨inn, ij, nm_r (e' := upd yss j (yss n)) (by rw [cj, cn]) ⟨inn, ij, nm_r (e' := upd yvs j (yvs n)) (by rw [cj, cn]) ⟨inn, ij, nm_r (e' := upd yns j (yns n)) (by rw [cj, cn]) ⟨inn, ij, nm_r (e' := upd yes j (yes n)) (by rw [cj, cn]) ⟨inn, ij, nm_r (e' := upd yus j (yus n)) (by rw [cj, cn]) K⟩⟩⟩⟩⟩⟩
theorem sc_yitems_lp {post : Int32 → Prop} {n : Nat} {x : Int32} (hn : n ≤ 32) (K : post (nI (sc_cn yss x n))) : ∀ (d j : Nat), j + d = n → wY_items_15 post x (nI n) ycl yln ylu yks yss yvs yns yes yus ypg (d + 1) (nI (sc_cn yss x j)) (nI j) := by
  intro d
  induction d with
  | zero =>
    intro j e
    have e : j = n := e
    subst e
    exact br_t (nI_le (Nat.le_refl _) (by omega)) K
  | succ d ih =>
    intro j e
    have ih' := ih (j + 1) (by omega)
    refine br_f (nI_ge (by omega) (by omega)) ⟨vp_in_nI (by omega) (by decide), ?_⟩
    rw [nI_clamp (n := j) (by omega)]
    by_cases z : yss j = x
    · have e2 : sc_cn yss x (j + 1) = sc_cn yss x j + 1 := by simp only [sc_cn]; rw [if_pos z]
      rw [e2] at ih'
      exact br_t z (nm_r (nI_1 _) (nm_r (nI_1 j) ih'))
    · have e2 : sc_cn yss x (j + 1) = sc_cn yss x j := by simp only [sc_cn]; rw [if_neg z]; omega
      rw [e2] at ih'
      exact br_f z (nm_r (nI_1 j) ih')
theorem sc_le2 {s : Nat} (hs : s < 3) : nI s ≤ 2 := nI_le (b := 2) (by omega) (by decide)
theorem sc_yitems {post : Int32 → Prop} {n s : Nat} (hn : n ≤ 32) (hs : s < 3) (K : post (nI (sc_cn yss (nI s) n))) : wpY_items post (nI n, ycl, yln, ylu, yks, yss, yvs, yns, yes, yus, ypg) (nI s) :=
  br_f (nI_pos (by omega)) (br_t (sc_le2 hs) ⟨n + 1, sc_yitems_lp hn K n 0 (by omega)⟩)
theorem sc_ycells {post : Int32 → Prop} {s : Nat} (hs : s < 3) (K : post (nI (sc_ce s))) : wpY_cells post (nI s) := by
  rcases (by omega : s = 0 ∨ s = 1 ∨ s = 2) with rfl | rfl | rfl
  · exact br_t nI_0 K
  · exact br_f (by decide) (br_t rfl K)
  · exact br_f (by decide) (br_f (by decide) K)
theorem sc_ylong_lp {post : Int32 → Prop} {n : Nat} {x : Int32} {a : Nat → Nat} (hn : n ≤ 32) (ha : ∀ i, i < n → yus i = nI (a i) ∧ a i < 2 ^ 31)
    (K0 : (∀ i, i < n → yss i ≠ x) → post (-1)) (K1 : ∀ m, m < n → yss m = x → (∀ i, i < n → yss i = x → a m ≤ a i) → post (nI m)) :
    ∀ (d j : Nat) (b : Int32), j + d = n → ((b = -1 ∧ ∀ i, i < j → yss i ≠ x) ∨ (∃ m, m < j ∧ b = nI m ∧ yss m = x ∧ ∀ i, i < j → yss i = x → a m ≤ a i)) → wY_longestAgo_4 post x (nI n) ycl yln ylu yks yss yvs yns yes yus ypg (d + 1) b (nI j) := by
  intro d
  induction d with
  | zero =>
    intro j b e h
    have e : j = n := e
    subst e
    refine br_t (nI_le (Nat.le_refl _) (by omega)) ?_
    rcases h with ⟨rfl, h⟩ | ⟨m, hm, rfl, h1, h2⟩
    · exact K0 h
    · exact K1 m hm h1 h2
  | succ d ih =>
    intro j b e h
    refine br_f (nI_ge (by omega) (by omega)) ⟨vp_in_nI (by omega) (by decide), ?_⟩
    rw [nI_clamp (n := j) (by omega)]
    by_cases z : yss j = x
    · refine br_t z ?_
      rcases h with ⟨rfl, h⟩ | ⟨m, hm, rfl, h1, h2⟩
      · refine br_t sc_neg1 (nm_r (nI_1 j) (ih (j + 1) (nI j) (by omega) (Or.inr ⟨j, by omega, rfl, z, fun i hi hz => ?_⟩)))
        by_cases e2 : i = j
        · rw [e2]; exact Nat.le_refl _
        · exact absurd hz (h i (by omega))
      · refine br_f (nI_pos (by omega)) ⟨vp_in_nI (by omega) (by decide), vp_in_nI (by omega) (by decide), ?_⟩
        rw [nI_clamp (n := m) (by omega), (ha m (by omega)).1, (ha j (by omega)).1]
        have am := (ha m (by omega)).2
        have aj := (ha j (by omega)).2
        by_cases le : a m ≤ a j
        · refine br_t (nI_le le aj) (nm_r (nI_1 j) (ih (j + 1) (nI m) (by omega) (Or.inr ⟨m, by omega, rfl, h1, fun i hi hz => ?_⟩)))
          by_cases e2 : i = j
          · rw [e2]; exact le
          · exact h2 i (by omega) hz
        · refine br_f (nI_ge (by omega) am) (nm_r (nI_1 j) (ih (j + 1) (nI j) (by omega) (Or.inr ⟨j, by omega, rfl, z, fun i hi hz => ?_⟩)))
          by_cases e2 : i = j
          · rw [e2]; exact Nat.le_refl _
          · have := h2 i (by omega) hz; omega
    · refine br_f z (nm_r (nI_1 j) (ih (j + 1) b (by omega) ?_))
      rcases h with ⟨rfl, h⟩ | ⟨m, hm, rfl, h1, h2⟩
      · refine Or.inl ⟨rfl, fun i hi => ?_⟩
        by_cases e2 : i = j
        · rw [e2]; exact z
        · exact h i (by omega)
      · refine Or.inr ⟨m, by omega, rfl, h1, fun i hi hz => ?_⟩
        by_cases e2 : i = j
        · rw [e2] at hz; exact absurd hz z
        · exact h2 i (by omega) hz
variable {n : Nat} {sg : Nat → Nat} {It : Nat → Prop} {U Fr : Nat → List Nat} {so ko vo no : Nat → Int32} {en ag : Nat → Nat} {lu : Nat}
theorem sc_ylong {post : Int32 → Prop} {s : Nat} (XI : sc_IT It so) (XU : sc_UI It so U) (Y : sc_YA n sg It so ko vo no en ag yks yss yvs yns yes yus) (A : sc_AG It U ag lu) (hl : lu < 2 ^ 31) (hs : s < 3)
    (K0 : U s = [] → post (-1)) (K1 : ∀ c l m, U s = c :: l → m < n → sg m = c → post (nI m)) : wpY_longestAgo post (nI n, ycl, yln, ylu, yks, yss, yvs, yns, yes, yus, ypg) (nI s) := by
  have hn := sc_YA_32 XI Y
  refine ⟨n + 1, sc_ylong_lp (a := fun i => ag (sg i)) hn (fun i hi => ⟨(Y.1 i hi).2.2.2.2.2.2, Nat.lt_of_le_of_lt (A.1 _ (Y.1 i hi).1) hl⟩) (fun h => K0 ?_) (fun m hm e h => ?_) n 0 (-1) (by omega) (Or.inl ⟨rfl, fun i hi => absurd hi (Nat.not_lt_zero _)⟩)⟩
  · cases hu : U s with
    | nil => rfl
    | cons c l =>
      have mc := ((XU s hs).2 c).mp (by rw [hu]; exact List.mem_cons_self)
      obtain ⟨j, hj, ej⟩ := Y.2.2 c mc.1
      exact absurd (by rw [(Y.1 j hj).2.2.1, ej]; exact mc.2) (h j hj)
  · have mm : sg m ∈ U s := ((XU s hs).2 (sg m)).mpr ⟨(Y.1 m hm).1, by rw [← (Y.1 m hm).2.2.1]; exact e⟩
    cases hu : U s with
    | nil => rw [hu] at mm; exact absurd mm List.not_mem_nil
    | cons c l =>
      refine K1 c l m hu hm ?_
      have mc := ((XU s hs).2 c).mp (by rw [hu]; exact List.mem_cons_self)
      obtain ⟨j, hj, ej⟩ := Y.2.2 c mc.1
      have le := h j hj (by rw [(Y.1 j hj).2.2.1, ej]; exact mc.2)
      have pw := A.2 s hs
      rw [hu] at mm pw
      rcases List.mem_cons.mp mm with z | z
      · exact z
      · have lt := (List.pairwise_cons.mp pw).1 _ z
        rw [ej] at le
        omega
theorem sc_free8 (sv : sc_SV so) (P : sc_PG so ypg) : ((8 - ypg 0) - ypg 1) - ypg 2 = nI (sc_cn so (-1) 8) := by
  have c4 := sc_cn4 (f := so) (n := 8) (fun p hp => by
    rcases sv p hp with e | ⟨t, ht, e⟩
    · exact Or.inl e
    · rcases (by omega : t = 0 ∨ t = 1 ∨ t = 2) with rfl | rfl | rfl
      · exact Or.inr (Or.inl e)
      · exact Or.inr (Or.inr (Or.inl e))
      · exact Or.inr (Or.inr (Or.inr e)))
  have p0 : ypg 0 = nI (sc_cn so 0 8) := P 0 (by decide)
  have p1 : ypg 1 = nI (sc_cn so 1 8) := P 1 (by decide)
  have p2 : ypg 2 = nI (sc_cn so 2 8) := P 2 (by decide)
  rw [p0, p1, p2, show (8 : Int32) = nI 8 from rfl, pk_sub (by omega), pk_sub (by omega), pk_sub (by omega)]
  have e : 8 - sc_cn so 0 8 - sc_cn so 1 8 - sc_cn so 2 8 = sc_cn so (-1) 8 := by omega
  rw [e]
theorem sc_yroom {post : Int32 → SY → Prop} {s : Nat} (XI : sc_IT It so) (XU : sc_UI It so U) (sv : sc_SV so) (N : sc_LN U Fr so 3) (Y : sc_YA n sg It so ko vo no en ag yks yss yvs yns yes yus) (A : sc_AG It U ag lu) (P : sc_PG so ypg) (hl : lu < 2 ^ 31) (hs : s < 3)
    (K1 : Fr s ≠ [] → post 1 (nI n, ycl, yln, ylu, yks, yss, yvs, yns, yes, yus, ypg))
    (K2 : Fr s = [] → (∃ p, p < 8 ∧ so p = -1) → post 1 (nI n, ycl, yln, ylu, yks, yss, yvs, yns, yes, yus, upd ypg s (ypg s + 1)))
    (K3 : Fr s = [] → (∀ p, p < 8 → so p ≠ -1) → ∀ c l m n', U s = c :: l → n = n' + 1 → m < n → sg m = c → post 1 (nI n', ycl, yln, ylu, upd yks m (yks n'), upd yss m (yss n'), upd yvs m (yvs n'), upd yns m (yns n'), upd yes m (yes n'), upd yus m (yus n'), ypg))
    (K0 : Fr s = [] → (∀ p, p < 8 → so p ≠ -1) → U s = [] → post 0 (nI n, ycl, yln, ylu, yks, yss, yvs, yns, yes, yus, ypg)) : wpY_room post (nI n, ycl, yln, ylu, yks, yss, yvs, yns, yes, yus, ypg) (nI s) := by
  have hn := sc_YA_32 XI Y
  have cls : (nI s).toNatClampNeg = s := nI_clamp (by omega)
  have his : vp_in (nI s) 3 := vp_in_nI hs (by decide)
  have ns := N s hs
  rw [if_neg (by omega)] at ns
  have ulen := sc_len32 (XU s hs).1 (n := 32) (fun d hd => (XI d (((XU s hs).2 d).mp hd).1).1)
  have cn8 := sc_cn_le so (nI s) 8
  have ce4 : sc_ce s ≤ 4 := by
    rcases (by omega : s = 0 ∨ s = 1 ∨ s = 2) with rfl | rfl | rfl <;> decide
  have m32 : sc_ce s * sc_cn so (nI s) 8 ≤ 4 * 8 := Nat.mul_le_mul ce4 cn8
  unfold wpY_room
  dsimp only
  refine sc_yitems hn hs ?_
  refine sc_ycells hs ⟨his, ?_⟩
  rw [cls, P s hs, pk_mul, sc_YA_cnt Y XU hs, ← ns]
  by_cases fe : Fr s = []
  · rw [fe]
    refine br_t (nI_le (by rw [List.length_nil]; omega) (by omega)) ?_
    show (_ ≤ (0 : Int32) → _) ∧ _
    rw [sc_free8 sv P]
    by_cases np : ∃ p, p < 8 ∧ so p = -1
    · have pos := sc_cn_pos.mp np
      have le8 := sc_cn_le so (-1) 8
      refine br_f (nI_nle pos (by omega)) ⟨his, his, nm_r (e' := upd ypg s (ypg s + 1)) (by rw [P s hs]) (K2 fe np)⟩
    · have zero : sc_cn so (-1) 8 = 0 := by
        rcases Nat.eq_zero_or_pos (sc_cn so (-1) 8) with z | z
        · exact z
        · exact absurd (sc_cn_pos.mpr z) np
      have np' : ∀ p, p < 8 → so p ≠ -1 := fun p hp e => np ⟨p, hp, e⟩
      rw [zero]
      refine br_t (nI_le (Nat.le_refl 0) (by decide)) ?_
      refine sc_ylong XI XU Y A hl hs (fun ue => br_f (by decide) (K0 fe np' ue)) (fun c l m ue hm em => ?_)
      obtain ⟨n', rfl⟩ : ∃ n', n = n' + 1 := ⟨n - 1, by omega⟩
      exact br_t (nI_pos' (by omega)) (sc_ydrop hn hm (K3 fe np' c l m n' ue rfl hm em))
  · have pos : 0 < (Fr s).length := List.length_pos_iff.mpr fe
    exact br_f (nI_ge (by omega) (by omega)) (K1 fe)
end
end
section
/-! the relation -/
def sc_R (k : Nat) (xcl : Int64) (xnu xhs : Int32) (xso xfc xnf xii xko xvo xno : Nat → Int32) (xeo : Nat → Int64) (xbk xch xod xnw xol xne xic xhp xpl : Nat → Int32) (ycn ycl yln ylu : Int32) (yks yss yvs yns yes yus ypg : Nat → Int32) : Prop :=
  ∃ (It : Nat → Prop) (U Fr : Nat → List Nat) (en ag sg : Nat → Nat) (h clk lu n : Nat),
    xcl = lN clk ∧ xhs = nI h ∧ ycn = nI n ∧ ycl = nI clk ∧ xnu = yln ∧ ylu = nI lu ∧ clk ≤ 200 * k ∧ lu ≤ k ∧
    sc_XS It U Fr en h xso xfc xnf xko xeo xbk xch xod xnw xol xne xic xhp xpl ∧ sc_SV xso ∧ sc_LN U Fr xso 3 ∧ sc_KY It xko ∧
    sc_YA n sg It xso xko xvo xno en ag yks yss yvs yns yes yus ∧ sc_AG It U ag lu ∧ sc_PG xso ypg
/-- the relation at the head of a turn -/
def i_Rel (k : Nat) (u : SX) (v : SY) : Prop := match u, v with
  | (xcl, xnu, xhs, xso, xfc, xnf, xii, xko, xvo, xno, xeo, xbk, xch, xod, xnw, xol, xne, xic, xhp, xpl), (ycn, ycl, yln, ylu, yks, yss, yvs, yns, yes, yus, ypg) => sc_R k xcl xnu xhs xso xfc xnf xii xko xvo xno xeo xbk xch xod xnw xol xne xic xhp xpl ycn ycl yln ylu yks yss yvs yns yes yus ypg
section
variable {xcl : Int64} {xnu xhs : Int32} {xso xfc xnf xii xko xvo xno : Nat → Int32} {xeo : Nat → Int64} {xbk xch xod xnw xol xne xic xhp xpl : Nat → Int32}
variable {ycn ycl yln ylu : Int32} {yks yss yvs yns yes yus ypg : Nat → Int32}
theorem sc_R_up {k : Nat} (R : sc_R k xcl xnu xhs xso xfc xnf xii xko xvo xno xeo xbk xch xod xnw xol xne xic xhp xpl ycn ycl yln ylu yks yss yvs yns yes yus ypg) : sc_R (k + 5) xcl xnu xhs xso xfc xnf xii xko xvo xno xeo xbk xch xod xnw xol xne xic xhp xpl ycn ycl yln ylu yks yss yvs yns yes yus ypg := by
  obtain ⟨It, U, Fr, en, ag, sg, h, clk, lu, n, e1, e2, e3, e4, e5, e6, bk, bl, rest⟩ := R
  exact ⟨It, U, Fr, en, ag, sg, h, clk, lu, n, e1, e2, e3, e4, e5, e6, by omega, by omega, rest⟩
variable {n : Nat} {sg : Nat → Nat} {It : Nat → Prop} {so ko vo no : Nat → Int32} {en ag : Nat → Nat}
theorem sc_yf1 {post : Int32 → Prop} {c : Nat} {x : Int32} (XI : sc_IT It so) (Y : sc_YA n sg It so ko vo no en ag yks yss yvs yns yes yus) (KY : sc_KY It ko) (hc : It c) (e : ko c = x) (K : ∀ j, j < n → sg j = c → post (nI j)) : wpY_find post (nI n, ycl, yln, ylu, yks, yss, yvs, yns, yes, yus, ypg) x :=
  sc_yfind (sc_YA_32 XI Y) (fun j hj ej => K j hj (KY.2 _ _ (Y.1 j hj).1 hc (by rw [← (Y.1 j hj).2.1, ej, e]))) (fun h => by
    obtain ⟨j, hj, ej⟩ := Y.2.2 c hc
    exact absurd (by rw [(Y.1 j hj).2.1, ej, e]) (h j hj))
theorem sc_yf0 {post : Int32 → Prop} {x : Int32} (XI : sc_IT It so) (Y : sc_YA n sg It so ko vo no en ag yks yss yvs yns yes yus) (h : ∀ c, It c → ko c ≠ x) (K : post (-1)) : wpY_find post (nI n, ycl, yln, ylu, yks, yss, yvs, yns, yes, yus, ypg) x :=
  sc_yfind (sc_YA_32 XI Y) (fun j hj ej => absurd (by rw [← (Y.1 j hj).2.1, ej]) (h _ (Y.1 j hj).1)) (fun _ => K)
theorem sc_has {k : Nat} {x : Int32} (R : sc_R k xcl xnu xhs xso xfc xnf xii xko xvo xno xeo xbk xch xod xnw xol xne xic xhp xpl ycn ycl yln ylu yks yss yvs yns yes yus ypg) : wpX_has (fun r => wpY_has (fun r' => r' = r ∧ i_Rel (k + 5) (xcl, xnu, xhs, xso, xfc, xnf, xii, xko, xvo, xno, xeo, xbk, xch, xod, xnw, xol, xne, xic, xhp, xpl) (ycn, ycl, yln, ylu, yks, yss, yvs, yns, yes, yus, ypg)) (ycn, ycl, yln, ylu, yks, yss, yvs, yns, yes, yus, ypg) x) (xcl, xnu, xhs, xso, xfc, xnf, xii, xko, xvo, xno, xeo, xbk, xch, xod, xnw, xol, xne, xic, xhp, xpl) x := by
  have R' := sc_R_up R
  obtain ⟨It, U, Fr, en, ag, sg, h, clk, lu, n, rfl, rfl, rfl, rfl, rfl, rfl, bk, bl, X, sv, N, KY, Y, A, P⟩ := R
  have XI := X.1
  unfold wpX_has wpY_has
  dsimp only
  refine sc_find X.2.2.1 (fun c hc => (XI c hc).1) KY.1 (fun c hc e => ?_) (fun h0 => ?_)
  · have c32 := (XI c hc).1
    refine br_f (nI_pos (by omega)) (sc_yf1 XI Y KY hc e (fun j hj ej => ?_))
    have n32 := sc_YA_32 XI Y
    exact br_f (nI_pos (by omega)) ⟨rfl, R'⟩
  · exact br_t sc_neg1 (sc_yf0 XI Y h0 (br_t sc_neg1 ⟨rfl, R'⟩))
theorem sc_number {k : Nat} {x : Int32} (R : sc_R k xcl xnu xhs xso xfc xnf xii xko xvo xno xeo xbk xch xod xnw xol xne xic xhp xpl ycn ycl yln ylu yks yss yvs yns yes yus ypg) : wpX_number (fun r => wpY_number (fun r' => r' = r ∧ i_Rel (k + 5) (xcl, xnu, xhs, xso, xfc, xnf, xii, xko, xvo, xno, xeo, xbk, xch, xod, xnw, xol, xne, xic, xhp, xpl) (ycn, ycl, yln, ylu, yks, yss, yvs, yns, yes, yus, ypg)) (ycn, ycl, yln, ylu, yks, yss, yvs, yns, yes, yus, ypg) x) (xcl, xnu, xhs, xso, xfc, xnf, xii, xko, xvo, xno, xeo, xbk, xch, xod, xnw, xol, xne, xic, xhp, xpl) x := by
  have R' := sc_R_up R
  obtain ⟨It, U, Fr, en, ag, sg, h, clk, lu, n, rfl, rfl, rfl, rfl, rfl, rfl, bk, bl, X, sv, N, KY, Y, A, P⟩ := R
  have XI := X.1
  unfold wpX_number wpY_number
  dsimp only
  refine sc_find X.2.2.1 (fun c hc => (XI c hc).1) KY.1 (fun c hc e => ?_) (fun h0 => ?_)
  · have c32 := (XI c hc).1
    refine br_t (nI_pos' (by omega)) ⟨vp_in_nI c32 (by decide), sc_yf1 XI Y KY hc e (fun j hj ej => ?_)⟩
    have n32 := sc_YA_32 XI Y
    refine br_t (nI_pos' (by omega)) ⟨vp_in_nI (by omega) (by decide), ?_, R'⟩
    rw [nI_clamp (by omega), nI_clamp (by omega), (Y.1 j hj).2.2.2.2.1, ej]
  · exact br_f (by decide) (sc_yf0 XI Y h0 (br_f (by decide) ⟨rfl, R'⟩))
theorem sc_s2 : (2 : Int32).toInt = ((2 : Nat) : Int) := by decide
theorem sc_s3 : (3 : Int32).toInt = ((3 : Nat) : Int) := by decide
theorem sc_items {k : Nat} {x : Int32} (R : sc_R k xcl xnu xhs xso xfc xnf xii xko xvo xno xeo xbk xch xod xnw xol xne xic xhp xpl ycn ycl yln ylu yks yss yvs yns yes yus ypg) : wpX_items (fun r => wpY_items (fun r' => r' = r ∧ i_Rel (k + 5) (xcl, xnu, xhs, xso, xfc, xnf, xii, xko, xvo, xno, xeo, xbk, xch, xod, xnw, xol, xne, xic, xhp, xpl) (ycn, ycl, yln, ylu, yks, yss, yvs, yns, yes, yus, ypg)) (ycn, ycl, yln, ylu, yks, yss, yvs, yns, yes, yus, ypg) x) (xcl, xnu, xhs, xso, xfc, xnf, xii, xko, xvo, xno, xeo, xbk, xch, xod, xnw, xol, xne, xic, xhp, xpl) x := by
  have R' := sc_R_up R
  obtain ⟨It, U, Fr, en, ag, sg, h, clk, lu, n, rfl, rfl, rfl, rfl, rfl, rfl, bk, bl, X, sv, N, KY, Y, A, P⟩ := R
  by_cases x0 : x < 0
  · exact br_t x0 (br_t x0 ⟨rfl, R'⟩)
  · by_cases x2 : x ≤ 2
    · obtain ⟨s, hs, rfl⟩ := nI_of2 sc_s2 x0 x2
      have hs : s < 3 := by omega
      refine br_f x0 (br_t x2 ⟨vp_in_nI hs (by decide), sc_yitems (sc_YA_32 X.1 Y) hs ⟨?_, R'⟩⟩)
      rw [nI_clamp (by omega), X.2.2.2.2.2.2.1 s hs, sc_YA_cnt Y X.2.1 hs]
    · exact br_f x0 (br_f x2 (br_f x0 (br_f x2 ⟨rfl, R'⟩)))
theorem sc_pages_lp {post : Int32 → Prop} {x y : Int32} (hy : (x = 3 ∧ y = -1) ∨ (¬ x = 3 ∧ y = x)) (K : post (nI (sc_cn xso y 8))) : ∀ d j : Nat, j + d = 8 → wX_pages_15 post x xcl xnu xhs xso xfc xnf xii xko xvo xno xeo xbk xch xod xnw xol xne xic xhp xpl (d + 1) (nI (sc_cn xso y j)) (nI j) := by
  intro d
  induction d with
  | zero =>
    intro j e
    have e : j = 8 := e
    subst e
    exact br_t (nI_le (Nat.le_refl 8) (by decide)) K
  | succ d ih =>
    intro j e
    have ih' := ih (j + 1) (by omega)
    have J : wX_pages_38 post (wX_pages_15 post x xcl xnu xhs xso xfc xnf xii xko xvo xno xeo xbk xch xod xnw xol xne xic xhp xpl (d + 1)) x (nI j) y (xso j) (nI (sc_cn xso y j)) xcl xnu xhs xso xfc xnf xii xko xvo xno xeo xbk xch xod xnw xol xne xic xhp xpl := by
      by_cases z : xso j = y
      · have e2 : sc_cn xso y (j + 1) = sc_cn xso y j + 1 := by simp only [sc_cn]; rw [if_pos z]
        rw [e2] at ih'
        exact br_t z (nm_r (nI_1 _) (nm_r (nI_1 j) ih'))
      · have e2 : sc_cn xso y (j + 1) = sc_cn xso y j := by simp only [sc_cn]; rw [if_neg z]; omega
        rw [e2] at ih'
        exact br_f z (nm_r (Int32.add_zero _) (nm_r (nI_1 j) ih'))
    refine br_f (nI_ge (b := 8) (by omega) (by decide)) ⟨vp_in_nI (by omega) (by decide), ?_⟩
    rw [nI_clamp (n := j) (by omega)]
    rcases hy with ⟨h1, h2⟩ | ⟨h1, h2⟩
    · subst h2
      exact br_t h1 J
    · subst h2
      exact br_f h1 J
theorem sc_pages {k : Nat} {x : Int32} (R : sc_R k xcl xnu xhs xso xfc xnf xii xko xvo xno xeo xbk xch xod xnw xol xne xic xhp xpl ycn ycl yln ylu yks yss yvs yns yes yus ypg) : wpX_pages (fun r => wpY_pages (fun r' => r' = r ∧ i_Rel (k + 5) (xcl, xnu, xhs, xso, xfc, xnf, xii, xko, xvo, xno, xeo, xbk, xch, xod, xnw, xol, xne, xic, xhp, xpl) (ycn, ycl, yln, ylu, yks, yss, yvs, yns, yes, yus, ypg)) (ycn, ycl, yln, ylu, yks, yss, yvs, yns, yes, yus, ypg) x) (xcl, xnu, xhs, xso, xfc, xnf, xii, xko, xvo, xno, xeo, xbk, xch, xod, xnw, xol, xne, xic, xhp, xpl) x := by
  have R' := sc_R_up R
  obtain ⟨It, U, Fr, en, ag, sg, h, clk, lu, n, rfl, rfl, rfl, rfl, rfl, rfl, bk, bl, X, sv, N, KY, Y, A, P⟩ := R
  by_cases x0 : x < 0
  · exact br_t x0 (br_t x0 ⟨rfl, R'⟩)
  · by_cases x3 : x ≤ 3
    · refine br_f x0 (br_t x3 ?_)
      by_cases e3 : x = 3
      · exact ⟨8 + 1, sc_pages_lp (y := -1) (Or.inl ⟨e3, rfl⟩) (br_f x0 (br_t x3 (br_t e3 ⟨sc_free8 sv P, R'⟩))) 8 0 (by omega)⟩
      · refine ⟨8 + 1, sc_pages_lp (y := x) (Or.inr ⟨e3, rfl⟩) (br_f x0 (br_t x3 (br_f e3 ?_))) 8 0 (by omega)⟩
        obtain ⟨s, hs, rfl⟩ := nI_of2 sc_s3 x0 x3
        have hs : s < 3 := by
          have : s ≠ 3 := fun z => e3 (by rw [z]; rfl)
          omega
        refine ⟨vp_in_nI hs (by decide), ?_, R'⟩
        rw [nI_clamp (by omega)]
        exact P s hs
    · exact br_f x0 (br_f x3 (br_f x0 (br_f x3 ⟨rfl, R'⟩)))
theorem sc_oldest {k : Nat} {x : Int32} (R : sc_R k xcl xnu xhs xso xfc xnf xii xko xvo xno xeo xbk xch xod xnw xol xne xic xhp xpl ycn ycl yln ylu yks yss yvs yns yes yus ypg) (hk : k + 5 ≤ 2560) : wpX_oldest (fun r => wpY_oldest (fun r' => r' = r ∧ i_Rel (k + 5) (xcl, xnu, xhs, xso, xfc, xnf, xii, xko, xvo, xno, xeo, xbk, xch, xod, xnw, xol, xne, xic, xhp, xpl) (ycn, ycl, yln, ylu, yks, yss, yvs, yns, yes, yus, ypg)) (ycn, ycl, yln, ylu, yks, yss, yvs, yns, yes, yus, ypg) x) (xcl, xnu, xhs, xso, xfc, xnf, xii, xko, xvo, xno, xeo, xbk, xch, xod, xnw, xol, xne, xic, xhp, xpl) x := by
  have R' := sc_R_up R
  obtain ⟨It, U, Fr, en, ag, sg, h, clk, lu, n, rfl, rfl, rfl, rfl, rfl, rfl, bk, bl, X, sv, N, KY, Y, A, P⟩ := R
  by_cases x0 : x < 0
  · exact br_t x0 (br_t x0 ⟨rfl, R'⟩)
  · by_cases x2 : x ≤ 2
    · have x2' : ¬ 2 < x := Int32.not_lt.mpr x2
      obtain ⟨s, hs, rfl⟩ := nI_of2 sc_s2 x0 x2
      have hs : s < 3 := by omega
      have cls : (nI s).toNatClampNeg = s := nI_clamp (by omega)
      have odh : xod s = sc_hd (U s) := sc_SL_hd (X.2.2.2.1.1 s hs)
      have n32 := sc_YA_32 X.1 Y
      refine br_f x0 (br_f x2' ⟨vp_in_nI hs (by decide), ?_⟩)
      rw [cls]
      cases hu : U s with
      | nil =>
        have z : xod s = -1 := by rw [odh, hu]; rfl
        refine br_f (by rw [z]; decide) (br_f x0 (br_t x2 ?_))
        exact sc_ylong X.1 X.2.1 Y A (by omega) hs (fun _ => br_f (by decide) ⟨rfl, R'⟩) (fun c l m e => by rw [hu] at e; exact absurd e.symm (List.cons_ne_nil _ _))
      | cons c l =>
        have z : xod s = nI c := by rw [odh, hu]; rfl
        have mc := ((X.2.1 s hs).2 c).mp (by rw [hu]; exact List.mem_cons_self)
        have c32 := (X.1 c mc.1).1
        rw [z]
        refine br_t (nI_pos' (by omega)) ⟨vp_in_nI hs (by decide), vp_in_nI c32 (by decide), br_f x0 (br_t x2 ?_)⟩
        refine sc_ylong X.1 X.2.1 Y A (by omega) hs (fun e => by rw [hu] at e; exact absurd e (List.cons_ne_nil _ _)) (fun c' l' m e hm em => ?_)
        rw [hu] at e
        have ec : c' = c := (List.cons.inj e).1.symm
        refine br_t (nI_pos' (by omega)) ⟨vp_in_nI (by omega) (by decide), ?_, R'⟩
        rw [nI_clamp (by omega), nI_clamp (by omega), (Y.1 m hm).2.1, em, ec]
    · have x2' : 2 < x := Int32.not_le.mp x2
      exact br_f x0 (br_t x2' (br_f x0 (br_f x2 ⟨rfl, R'⟩)))
end
end
section
/-! get, swap, add, touch, remove -/
theorem sc_AG_mv {It : Nat → Prop} {U : Nat → List Nat} {ag : Nat → Nat} {lu s c : Nat} (a1 : ∀ d, It d → d ≠ c → ag d ≤ lu) (a2 : ∀ t, t < 3 → ((U t).erase c).Pairwise (fun a b => ag a < ag b)) (L : sc_LF 3 U) (mem : ∀ t, t < 3 → ∀ d, d ∈ U t → It d) : sc_AG It (sc_mv U s c) (sc_up ag c (lu + 1)) (lu + 1) := by
  have ne : ∀ t, t < 3 → ∀ d, d ∈ (U t).erase c → d ≠ c := fun t ht d hd e => (L.1 t ht).1.not_mem_erase (e ▸ hd)
  have old : ∀ t, t < 3 → ((U t).erase c).Pairwise (fun a b => sc_up ag c (lu + 1) a < sc_up ag c (lu + 1) b) := fun t ht =>
    List.Pairwise.imp_of_mem (fun {a b} ha hb h => by rw [sc_up_n (ne t ht a ha), sc_up_n (ne t ht b hb)]; exact h) (a2 t ht)
  constructor
  · intro d hd
    by_cases e : d = c
    · rw [e, sc_up_s]; exact Nat.le_refl _
    · rw [sc_up_n e]
      have := a1 d hd e
      omega
  · intro t ht
    unfold sc_mv
    by_cases z : t = s
    · subst z
      rw [if_pos rfl, List.pairwise_append]
      refine ⟨old t ht, List.pairwise_singleton _ _, fun a ha b hb => ?_⟩
      rw [List.mem_singleton.mp hb, sc_up_s, sc_up_n (ne t ht a ha)]
      have := a1 a (mem t ht a (List.mem_of_mem_erase ha)) (ne t ht a ha)
      omega
    · rw [if_neg z]; exact old t ht
theorem sc_AG_use {It : Nat → Prop} {so : Nat → Int32} {U : Nat → List Nat} {ag : Nat → Nat} {lu s c : Nat} (A : sc_AG It U ag lu) (XI : sc_IT It so) (XU : sc_UI It so U) : sc_AG It (sc_mv U s c) (sc_up ag c (lu + 1)) (lu + 1) :=
  sc_AG_mv (fun d hd _ => A.1 d hd) (fun t ht => (A.2 t ht).sublist List.erase_sublist) (sc_LF_U XI XU) (fun t ht d hd => (((XU t ht).2 d).mp hd).1)
theorem sc_eI_0 {clk : Nat} : sc_eI (sc_et clk 0) = -1 := rfl
theorem sc_eI_t {clk t : Nat} (h : t ≠ 0) : sc_eI (sc_et clk t) = nI clk + nI t := by
  unfold sc_eI sc_et
  rw [if_neg h, if_neg (by omega), nI_add]
theorem sc_s1000 : (1000 : Int32).toInt = ((1000 : Nat) : Int) := by decide
section
variable {xcl : Int64} {xnu xhs : Int32} {xso xfc xnf xii xko xvo xno : Nat → Int32} {xeo : Nat → Int64} {xbk xch xod xnw xol xne xic xhp xpl : Nat → Int32}
variable {ycn ycl yln ylu : Int32} {yks yss yvs yns yes yus ypg : Nat → Int32}
theorem sc_yuse {post : SY → Prop} {j lu : Nat} (hj : j < 32) (K : post (ycn, ycl, yln, nI (lu + 1), yks, yss, yvs, yns, yes, upd yus j (nI (lu + 1)), ypg)) : wpY_use post (ycn, ycl, yln, nI lu, yks, yss, yvs, yns, yes, yus, ypg) (nI j) :=
  nm_r (nI_1 lu) ⟨vp_in_nI hj (by decide), nm_r (e' := upd yus j (nI (lu + 1))) (by rw [nI_clamp (by omega)]) K⟩
theorem sc_ychange {post : SY → Prop} {j lu : Nat} {v : Int32} (hj : j < 32) (K : post (ycn, ycl, yln + 1, nI (lu + 1), yks, yss, upd yvs j v, upd yns j (yln + 1), yes, upd yus j (nI (lu + 1)), ypg)) : wpY_change post (ycn, ycl, yln, nI lu, yks, yss, yvs, yns, yes, yus, ypg) (nI j) v :=
  ⟨vp_in_nI hj (by decide), nm_r (e' := upd yvs j v) (by rw [nI_clamp (by omega)]) (nm_e ⟨vp_in_nI hj (by decide), nm_r (e' := upd yns j (yln + 1)) (by rw [nI_clamp (by omega)]) (sc_yuse hj K)⟩)⟩
theorem sc_next {post : Int32 → SX → Prop} {c : Nat} (hc : c < 32) (K : post (xnu + 1) (xcl, xnu + 1, xhs, xso, xfc, xnf, xii, xko, xvo, upd xno c (xnu + 1), xeo, xbk, xch, xod, xnw, xol, xne, xic, xhp, xpl)) : wpX_nextNumber post (xcl, xnu, xhs, xso, xfc, xnf, xii, xko, xvo, xno, xeo, xbk, xch, xod, xnw, xol, xne, xic, xhp, xpl) (nI c) :=
  nm_e ⟨vp_in_nI hc (by decide), nm_r (e' := upd xno c (xnu + 1)) (by rw [nI_clamp (by omega)]) K⟩
theorem sc_get {k : Nat} {x : Int32} (R : sc_R k xcl xnu xhs xso xfc xnf xii xko xvo xno xeo xbk xch xod xnw xol xne xic xhp xpl ycn ycl yln ylu yks yss yvs yns yes yus ypg) (hk : k + 5 ≤ 2560) : wpX_get (fun r u' => wpY_get (fun r' v' => r' = r ∧ i_Rel (k + 5) u' v') (ycn, ycl, yln, ylu, yks, yss, yvs, yns, yes, yus, ypg) x) (xcl, xnu, xhs, xso, xfc, xnf, xii, xko, xvo, xno, xeo, xbk, xch, xod, xnw, xol, xne, xic, xhp, xpl) x := by
  have R' := sc_R_up R
  obtain ⟨It, U, Fr, en, ag, sg, h, clk, lu, n, rfl, rfl, rfl, rfl, rfl, rfl, bk, bl, X, sv, N, KY, Y, A, P⟩ := R
  have XI := X.1
  have XU := X.2.1
  have L := sc_LF_U XI XU
  have n32 := sc_YA_32 XI Y
  unfold wpX_get wpY_get
  dsimp only
  refine sc_find X.2.2.1 (fun c hc => (XI c hc).1) KY.1 (fun c hc e => ?_) (fun h0 => ?_)
  · obtain ⟨c32, s, hs, hso⟩ := XI c hc
    have cl : (nI c).toNatClampNeg = c := nI_clamp (by omega)
    have mU : c ∈ U s := ((XU s hs).2 c).mpr ⟨hc, hso⟩
    refine br_t (nI_pos' (by omega)) (sc_use L X.2.2.2.1 hs mU hso (fun od1 nw1 ol1 ne1 D1 => ?_))
    dsimp only
    refine ⟨vp_in_nI c32 (by decide), ?_⟩
    rw [cl]
    refine sc_yf1 XI Y KY hc e (fun j hj ej => br_t (nI_pos' (by omega)) (sc_yuse (by omega) ?_))
    dsimp only
    have y := Y.1 j hj
    refine ⟨vp_in_nI (by omega) (by decide), by rw [nI_clamp (by omega), y.2.2.2.1, ej], ?_⟩
    refine ⟨It, sc_mv U s c, Fr, en, sc_up ag c (lu + 1), sg, h, clk, lu + 1, n, rfl, rfl, rfl, rfl, rfl, rfl, by omega, by omega, sc_XS_mv X hs mU D1, sv, sc_LN_mv L hs N mU, KY, ?_, sc_AG_use A XI XU, P⟩
    exact sc_YA_set Y hj ⟨y.1, y.2.1, y.2.2.1, y.2.2.2.1, y.2.2.2.2.1, y.2.2.2.2.2.1, by rw [pk_us, ej, sc_up_s]⟩ (fun i hi => ⟨rfl, rfl, rfl, rfl, rfl, pk_un hi⟩) (fun d hd => ⟨rfl, rfl, rfl, rfl, sc_up_n (by rw [← ej]; exact hd)⟩)
  · exact br_f (by decide) (sc_yf0 XI Y h0 (br_f (by decide) ⟨rfl, R'⟩))
theorem sc_swap {k : Nat} {x q v : Int32} (R : sc_R k xcl xnu xhs xso xfc xnf xii xko xvo xno xeo xbk xch xod xnw xol xne xic xhp xpl ycn ycl yln ylu yks yss yvs yns yes yus ypg) (hk : k + 5 ≤ 2560) : wpX_swap (fun r u' => wpY_swap (fun r' v' => r' = r ∧ i_Rel (k + 5) u' v') (ycn, ycl, yln, ylu, yks, yss, yvs, yns, yes, yus, ypg) x q v) (xcl, xnu, xhs, xso, xfc, xnf, xii, xko, xvo, xno, xeo, xbk, xch, xod, xnw, xol, xne, xic, xhp, xpl) x q v := by
  have R' := sc_R_up R
  obtain ⟨It, U, Fr, en, ag, sg, h, clk, lu, n, rfl, rfl, rfl, rfl, rfl, rfl, bk, bl, X, sv, N, KY, Y, A, P⟩ := R
  have XI := X.1
  have XU := X.2.1
  have L := sc_LF_U XI XU
  have n32 := sc_YA_32 XI Y
  unfold wpX_swap wpY_swap
  dsimp only
  refine sc_find X.2.2.1 (fun c hc => (XI c hc).1) KY.1 (fun c hc e => ?_) (fun h0 => ?_)
  · obtain ⟨c32, s, hs, hso⟩ := XI c hc
    have cl : (nI c).toNatClampNeg = c := nI_clamp (by omega)
    have hin : vp_in (nI c) 32 := vp_in_nI c32 (by decide)
    have mU : c ∈ U s := ((XU s hs).2 c).mpr ⟨hc, hso⟩
    refine br_f (nI_pos (by omega)) ⟨hin, ?_⟩
    rw [cl]
    by_cases eq : xno c = q
    · refine br_t eq ⟨hin, nm_e (sc_use L X.2.2.2.1 hs mU hso (fun od1 nw1 ol1 ne1 D1 => ?_))⟩
      dsimp only
      refine sc_next c32 ?_
      dsimp only
      refine sc_yf1 XI Y KY hc e (fun j hj ej => ?_)
      have y := Y.1 j hj
      have cj : (nI j).toNatClampNeg = j := nI_clamp (by omega)
      refine br_t (nI_pos' (by omega)) ⟨vp_in_nI (by omega) (by decide), br_t (by rw [cj, y.2.2.2.2.1, ej]; exact eq) (sc_ychange (by omega) ?_)⟩
      dsimp only
      refine ⟨rfl, ?_⟩
      refine ⟨It, sc_mv U s c, Fr, en, sc_up ag c (lu + 1), sg, h, clk, lu + 1, n, rfl, rfl, rfl, rfl, rfl, rfl, by omega, by omega, sc_XS_mv X hs mU D1, sv, sc_LN_mv L hs N mU, KY, ?_, sc_AG_use A XI XU, P⟩
      exact sc_YA_set Y hj ⟨y.1, y.2.1, y.2.2.1, by rw [pk_us, ej, pk_us], by rw [pk_us, ej, pk_us], y.2.2.2.2.2.1, by rw [pk_us, ej, sc_up_s]⟩ (fun i hi => ⟨rfl, rfl, pk_un hi, pk_un hi, rfl, pk_un hi⟩) (fun d hd => ⟨rfl, pk_un (by rw [← ej]; exact hd), pk_un (by rw [← ej]; exact hd), rfl, sc_up_n (by rw [← ej]; exact hd)⟩)
    · refine br_f eq (br_t (nI_pos' (by omega)) (sc_yf1 XI Y KY hc e (fun j hj ej => ?_)))
      have y := Y.1 j hj
      have cj : (nI j).toNatClampNeg = j := nI_clamp (by omega)
      exact br_t (nI_pos' (by omega)) ⟨vp_in_nI (by omega) (by decide), br_f (by rw [cj, y.2.2.2.2.1, ej]; exact eq) ⟨rfl, R'⟩⟩
  · exact br_t sc_neg1 (br_f (by decide) (sc_yf0 XI Y h0 (br_f (by decide) ⟨rfl, R'⟩)))
theorem sc_add {k : Nat} {x v : Int32} (R : sc_R k xcl xnu xhs xso xfc xnf xii xko xvo xno xeo xbk xch xod xnw xol xne xic xhp xpl ycn ycl yln ylu yks yss yvs yns yes yus ypg) (hk : k + 5 ≤ 2560) : wpX_add (fun r u' => wpY_add (fun r' v' => r' = r ∧ i_Rel (k + 5) u' v') (ycn, ycl, yln, ylu, yks, yss, yvs, yns, yes, yus, ypg) x v) (xcl, xnu, xhs, xso, xfc, xnf, xii, xko, xvo, xno, xeo, xbk, xch, xod, xnw, xol, xne, xic, xhp, xpl) x v := by
  have R' := sc_R_up R
  obtain ⟨It, U, Fr, en, ag, sg, h, clk, lu, n, rfl, rfl, rfl, rfl, rfl, rfl, bk, bl, X, sv, N, KY, Y, A, P⟩ := R
  have XI := X.1
  have XU := X.2.1
  have L := sc_LF_U XI XU
  have n32 := sc_YA_32 XI Y
  unfold wpX_add wpY_add
  dsimp only
  refine sc_find X.2.2.1 (fun c hc => (XI c hc).1) KY.1 (fun c hc e => ?_) (fun h0 => ?_)
  · obtain ⟨c32, s, hs, hso⟩ := XI c hc
    have cl : (nI c).toNatClampNeg = c := nI_clamp (by omega)
    have hin : vp_in (nI c) 32 := vp_in_nI c32 (by decide)
    have mU : c ∈ U s := ((XU s hs).2 c).mpr ⟨hc, hso⟩
    refine br_t (nI_pos' (by omega)) ⟨hin, hin, ?_⟩
    rw [cl]
    refine nm_e (sc_use L X.2.2.2.1 hs mU hso (fun od1 nw1 ol1 ne1 D1 => ?_))
    dsimp only
    refine sc_next c32 ?_
    dsimp only
    refine ⟨hin, sc_yf1 XI Y KY hc e (fun j hj ej => ?_)⟩
    have y := Y.1 j hj
    have cj : (nI j).toNatClampNeg = j := nI_clamp (by omega)
    refine br_t (nI_pos' (by omega)) ⟨vp_in_nI (by omega) (by decide), sc_ychange (by omega) ?_⟩
    dsimp only
    rw [cj]
    refine ⟨vp_in_nI (by omega) (by decide), ?_, ?_⟩
    · first | rw [pk_us, pk_us, y.2.2.2.1, ej] | rw [cl, pk_us, pk_us, y.2.2.2.1, ej]
    refine ⟨It, sc_mv U s c, Fr, en, sc_up ag c (lu + 1), sg, h, clk, lu + 1, n, rfl, rfl, rfl, rfl, rfl, rfl, by omega, by omega, sc_XS_mv X hs mU D1, sv, sc_LN_mv L hs N mU, KY, ?_, sc_AG_use A XI XU, P⟩
    exact sc_YA_set Y hj ⟨y.1, y.2.1, y.2.2.1, by rw [pk_us, y.2.2.2.1, ej, pk_us], by rw [pk_us, ej, pk_us], y.2.2.2.2.2.1, by rw [pk_us, ej, sc_up_s]⟩ (fun i hi => ⟨rfl, rfl, pk_un hi, pk_un hi, rfl, pk_un hi⟩) (fun d hd => ⟨rfl, pk_un (by rw [← ej]; exact hd), pk_un (by rw [← ej]; exact hd), rfl, sc_up_n (by rw [← ej]; exact hd)⟩)
  · exact br_f (by decide) (sc_yf0 XI Y h0 (br_f (by decide) ⟨rfl, R'⟩))
theorem sc_touch {k : Nat} {x p : Int32} (R : sc_R k xcl xnu xhs xso xfc xnf xii xko xvo xno xeo xbk xch xod xnw xol xne xic xhp xpl ycn ycl yln ylu yks yss yvs yns yes yus ypg) (hk : k + 5 ≤ 2560) : wpX_touch (fun r u' => wpY_touch (fun r' v' => r' = r ∧ i_Rel (k + 5) u' v') (ycn, ycl, yln, ylu, yks, yss, yvs, yns, yes, yus, ypg) x p) (xcl, xnu, xhs, xso, xfc, xnf, xii, xko, xvo, xno, xeo, xbk, xch, xod, xnw, xol, xne, xic, xhp, xpl) x p := by
  have R' := sc_R_up R
  obtain ⟨It, U, Fr, en, ag, sg, h, clk, lu, n, rfl, rfl, rfl, rfl, rfl, rfl, bk, bl, X, sv, N, KY, Y, A, P⟩ := R
  have XI := X.1
  have XU := X.2.1
  have L := sc_LF_U XI XU
  have n32 := sc_YA_32 XI Y
  unfold wpX_touch wpY_touch
  dsimp only
  by_cases p0 : p < 0
  · exact br_t p0 (br_t p0 ⟨rfl, R'⟩)
  by_cases p1 : p ≤ 1000
  · obtain ⟨t, ht, rfl⟩ := nI_of2 sc_s1000 p0 p1
    refine br_f p0 (br_t p1 ?_)
    refine sc_find X.2.2.1 (fun c hc => (XI c hc).1) KY.1 (fun c hc e => ?_) (fun h0 => ?_)
    · obtain ⟨c32, s, hs, hso⟩ := XI c hc
      have mU : c ∈ U s := ((XU s hs).2 c).mpr ⟨hc, hso⟩
      refine br_t (nI_pos' (by omega)) (sc_use L X.2.2.2.1 hs mU hso (fun od1 nw1 ol1 ne1 D1 => ?_))
      dsimp only
      have X1 := sc_XS_mv X hs mU D1
      refine sc_setEnd X1.2.2.2.2.2.1 X1.2.2.2.2.2.2.2 c32 ht (by omega) (fun h2 hp2 pl2 eo2 P2 E2 => ?_)
      dsimp only
      have X2 := sc_XS_end X1 hc P2 E2
      refine br_f p0 (br_t p1 (sc_yf1 XI Y KY hc e (fun j hj ej => br_t (nI_pos' (by omega)) ?_)))
      have y := Y.1 j hj
      have cj : (nI j).toNatClampNeg = j := nI_clamp (by omega)
      have fin : i_Rel (k + 5) (lN clk, xnu, nI h2, xso, xfc, xnf, xii, xko, xvo, xno, eo2, xbk, xch, od1, nw1, ol1, ne1, xic, hp2, pl2) (nI n, nI clk, xnu, nI (lu + 1), yks, yss, yvs, yns, upd yes j (sc_eI (sc_et clk t)), upd yus j (nI (lu + 1)), ypg) := by
        refine ⟨It, sc_mv U s c, Fr, sc_up en c (sc_et clk t), sc_up ag c (lu + 1), sg, h2, clk, lu + 1, n, rfl, rfl, rfl, rfl, rfl, rfl, by omega, by omega, X2, sv, sc_LN_mv L hs N mU, KY, ?_, sc_AG_use A XI XU, P⟩
        exact sc_YA_set Y hj ⟨y.1, y.2.1, y.2.2.1, y.2.2.2.1, y.2.2.2.2.1, by rw [pk_us, ej, sc_up_s], by rw [pk_us, ej, sc_up_s]⟩ (fun i hi => ⟨rfl, rfl, rfl, rfl, pk_un hi, pk_un hi⟩) (fun d hd => ⟨rfl, rfl, rfl, sc_up_n (by rw [← ej]; exact hd), sc_up_n (by rw [← ej]; exact hd)⟩)
      have t44 : ∀ z, z = sc_eI (sc_et clk t) → wY_touch_44 (fun r' v' => r' = 1 ∧ i_Rel (k + 5) (lN clk, xnu, nI h2, xso, xfc, xnf, xii, xko, xvo, xno, eo2, xbk, xch, od1, nw1, ol1, ne1, xic, hp2, pl2) v') (nI j) z (nI j) (nI n) (nI clk) xnu (nI lu) yks yss yvs yns yes yus ypg := by
        intro z ez
        exact ⟨vp_in_nI (by omega) (by decide), nm_r (e' := upd yes j (sc_eI (sc_et clk t))) (by rw [cj, ez]) (sc_yuse (by omega) ⟨rfl, fin⟩)⟩
      by_cases t0 : t = 0
      · exact br_t (by rw [t0]; exact nI_0) (t44 _ (by rw [t0]; exact sc_eI_0.symm))
      · exact br_f (nI_ne0 (by omega) (by omega)) (t44 _ (sc_eI_t t0).symm)
    · exact br_f (by decide) (br_f p0 (br_t p1 (sc_yf0 XI Y h0 (br_f (by decide) ⟨rfl, R'⟩))))
  · exact br_f p0 (br_f p1 (br_f p0 (br_f p1 ⟨rfl, R'⟩)))
theorem sc_remove {k : Nat} {x : Int32} (R : sc_R k xcl xnu xhs xso xfc xnf xii xko xvo xno xeo xbk xch xod xnw xol xne xic xhp xpl ycn ycl yln ylu yks yss yvs yns yes yus ypg) (hk : k + 5 ≤ 2560) : wpX_remove (fun r u' => wpY_remove (fun r' v' => r' = r ∧ i_Rel (k + 5) u' v') (ycn, ycl, yln, ylu, yks, yss, yvs, yns, yes, yus, ypg) x) (xcl, xnu, xhs, xso, xfc, xnf, xii, xko, xvo, xno, xeo, xbk, xch, xod, xnw, xol, xne, xic, xhp, xpl) x := by
  have R' := sc_R_up R
  obtain ⟨It, U, Fr, en, ag, sg, h, clk, lu, n, rfl, rfl, rfl, rfl, rfl, rfl, bk, bl, X, sv, N, KY, Y, A, P⟩ := R
  have XI := X.1
  have XU := X.2.1
  have L := sc_LF_U XI XU
  have n32 := sc_YA_32 XI Y
  unfold wpX_remove wpY_remove
  dsimp only
  refine sc_find X.2.2.1 (fun c hc => (XI c hc).1) KY.1 (fun c hc e => ?_) (fun h0 => ?_)
  · obtain ⟨c32, s, hs, hso⟩ := XI c hc
    have mU : c ∈ U s := ((XU s hs).2 c).mpr ⟨hc, hso⟩
    refine br_t (nI_pos' (by omega)) (sc_giveUp X hc hs hso (fun h1 fc1 nf1 ii1 bk1 ch1 od1 nw1 ol1 ne1 ic1 hp1 pl1 X1 => ?_))
    dsimp only
    refine sc_yf1 XI Y KY hc e (fun j hj ej => br_t (nI_pos' (by omega)) ?_)
    obtain ⟨m, rfl⟩ : ∃ m, n = m + 1 := ⟨n - 1, by omega⟩
    have Y1 := sc_YA_drop Y hj
    rw [ej] at Y1
    refine sc_ydrop n32 hj ⟨rfl, ?_⟩
    exact ⟨_, _, _, en, ag, _, h1, clk, lu, m, rfl, rfl, rfl, rfl, rfl, rfl, by omega, by omega, X1, sv, sc_LN_give L hs N mU, ⟨fun d hd => KY.1 d hd.1, fun a b ha hb => KY.2 a b ha.1 hb.1⟩, Y1, ⟨fun d hd => A.1 d hd.1, fun t ht => (A.2 t ht).sublist List.erase_sublist⟩, P⟩
  · exact br_f (by decide) (sc_yf0 XI Y h0 (br_f (by decide) ⟨rfl, R'⟩))
end
end
section
/-! tick -/
def sc_ex (en : Nat → Nat) (clk d : Nat) : Prop := en d ≠ 0 ∧ en d ≤ clk
section
variable {xcl : Int64} {xnu xhs : Int32} {xso xfc xnf xii xko xvo xno : Nat → Int32} {xeo : Nat → Int64} {xbk xch xod xnw xol xne xic xhp xpl : Nat → Int32}
variable {ycn ycl yln ylu : Int32} {yks yss yvs yns yes yus ypg : Nat → Int32}
theorem sc_tick_lp {post : Int32 → SX → Prop} {It0 : Nat → Prop} {U0 : Nat → List Nat} {en : Nat → Nat} {clk : Nat} (h0 : ∀ d, It0 d → d < 32) (hk : clk < 2 ^ 31)
    (K : ∀ It' U' Fr' h' fc' nf' ii' bk' ch' od' nw' ol' ne' ic' hp' pl', ∀ Rm : List Nat, sc_XS It' U' Fr' en h' xso fc' nf' xko xeo bk' ch' od' nw' ol' ne' ic' hp' pl' → sc_LN U' Fr' xso 3 → (∀ t, t < 3 → List.Sublist (U' t) (U0 t)) → (∀ d, It' d ↔ It0 d ∧ d ∉ Rm) → Rm.Nodup → (∀ d, d ∈ Rm ↔ It0 d ∧ sc_ex en clk d) → post (nI Rm.length) (lN clk, xnu, nI h', xso, fc', nf', ii', xko, xvo, xno, xeo, bk', ch', od', nw', ol', ne', ic', hp', pl')) :
    ∀ (m : Nat) (It : Nat → Prop) (U Fr : Nat → List Nat) (h : Nat) (fc nf ii bk ch od nw ol ne ic hp pl : Nat → Int32) (Rm : List Nat), m + Rm.length = 32 → sc_XS It U Fr en h xso fc nf xko xeo bk ch od nw ol ne ic hp pl → sc_LN U Fr xso 3 → (∀ t, t < 3 → List.Sublist (U t) (U0 t)) → (∀ d, It d ↔ It0 d ∧ d ∉ Rm) → Rm.Nodup → (∀ d, d ∈ Rm → It0 d ∧ sc_ex en clk d) →
      wX_tick_28 post (m + 1) (nI Rm.length) (nI Rm.length) (lN clk) xnu (nI h) xso fc nf ii xko xvo xno xeo bk ch od nw ol ne ic hp pl := by
  intro m
  induction m with
  | zero =>
    intro It U Fr h fc nf ii bk ch od nw ol ne ic hp pl Rm hm X N S I nd hR
    have e : Rm.length = 32 := by omega
    refine br_t (by rw [e]; exact nI_le (Nat.le_refl 32) (by decide)) (K It U Fr h fc nf ii bk ch od nw ol ne ic hp pl Rm X N S I nd (fun d => ⟨hR d, fun z => ?_⟩))
    by_cases hd : d ∈ Rm
    · exact hd
    · have := sc_len31 nd (n := 32) (fun q hq => h0 q (hR q hq).1) (h0 d z.1) hd
      omega
  | succ m ih =>
    intro It U Fr h fc nf ii bk ch od nw ol ne ic hp pl Rm hm X N S I nd hR
    obtain ⟨hh, H, B, O, mm⟩ := X.2.2.2.2.2.1
    have XE := X.2.2.2.2.2.2.2
    have XI := X.1
    have L := sc_LF_U XI X.2.1
    have fin : (∀ d, It d → ¬ sc_ex en clk d) → post (nI Rm.length) (lN clk, xnu, nI h, xso, fc, nf, ii, xko, xvo, xno, xeo, bk, ch, od, nw, ol, ne, ic, hp, pl) := by
      intro hx
      refine K It U Fr h fc nf ii bk ch od nw ol ne ic hp pl Rm X N S I nd (fun d => ⟨hR d, fun z => ?_⟩)
      by_cases hd : d ∈ Rm
      · exact hd
      · exact absurd z.2 (hx d ((I d).mpr ⟨z.1, hd⟩))
    have x32 : ¬ (32 : Int32) ≤ nI Rm.length := nI_ge (b := 32) (by omega) (by decide)
    by_cases hz : h = 0
    · subst hz
      refine br_f x32 (br_t (nI_le (Nat.le_refl 0) (by decide)) (fin (fun d hd ex => ?_)))
      obtain ⟨i, hi, _⟩ := (mm d).mp ⟨hd, ex.1⟩
      omega
    · have b0 := B.1 0 (by omega)
      have c0 : (nI (H 0)).toNatClampNeg = H 0 := nI_clamp (by omega)
      have m0 := (mm (H 0)).mpr ⟨0, by omega, rfl⟩
      refine br_f x32 (br_f (nI_nle (by omega) (by omega)) ?_)
      rw [b0.1, c0, (XE (H 0)).1]
      refine ⟨vp_in_nI b0.2.1 (by decide), ?_⟩
      by_cases lt : clk < en (H 0)
      · refine br_t ((lN_lt hk (XE _).2).mpr lt) (fin (fun d hd ex => ?_))
        obtain ⟨i, hi, e⟩ := (mm d).mp ⟨hd, ex.1⟩
        have top : en (H 0) ≤ en (H i) := sc_OR_top O i hi
        rw [e] at top
        have := ex.2
        omega
      · refine br_f (fun z => lt ((lN_lt hk (XE _).2).mp z)) ?_
        obtain ⟨_, s, hs, hso⟩ := XI (H 0) m0.1
        have mU : H 0 ∈ U s := ((X.2.1 s hs).2 _).mpr ⟨m0.1, hso⟩
        have nR := ((I (H 0)).mp m0.1)
        refine sc_giveUp X m0.1 hs hso (fun h1 fc1 nf1 ii1 bk1 ch1 od1 nw1 ol1 ne1 ic1 hp1 pl1 X1 => ?_)
        dsimp only
        refine nm_r (nI_1 _) (nm_r (nI_1 _) ?_)
        refine ih _ _ _ h1 fc1 nf1 ii1 bk1 ch1 od1 nw1 ol1 ne1 ic1 hp1 pl1 (H 0 :: Rm) (by rw [List.length_cons]; omega) X1 (sc_LN_give L hs N mU) (fun t ht => List.erase_sublist.trans (S t ht)) (fun d => ?_) (List.nodup_cons.mpr ⟨nR.2, nd⟩) (fun d hd => ?_)
        · show (It d ∧ d ≠ H 0) ↔ _
          rw [I d, List.mem_cons]
          exact ⟨fun z => ⟨z.1.1, fun y => y.elim z.2 z.1.2⟩, fun z => ⟨⟨z.1, fun y => z.2 (Or.inr y)⟩, fun y => z.2 (Or.inl y)⟩⟩
        · rcases List.mem_cons.mp hd with rfl | hd
          · exact ⟨nR.1, m0.2, by omega⟩
          · exact hR d hd
theorem sc_ytick_lp {post : Int32 → SY → Prop} {It0 : Nat → Prop} {so ko vo no : Nat → Int32} {en ag : Nat → Nat} {clk : Nat} (hk : clk < 2 ^ 31) (he : ∀ d, en d < 2 ^ 31)
    (K : ∀ n sg It ks ss vs ns es us, ∀ Rm : List Nat, sc_YA n sg It so ko vo no en ag ks ss vs ns es us → (∀ d, It d ↔ It0 d ∧ d ∉ Rm) → Rm.Nodup → (∀ d, d ∈ Rm ↔ It0 d ∧ sc_ex en clk d) → post (nI Rm.length) (nI n, nI clk, yln, ylu, ks, ss, vs, ns, es, us, ypg)) :
    ∀ (i n : Nat) (sg : Nat → Nat) (It : Nat → Prop) (ks ss vs ns es us : Nat → Int32) (Rm : List Nat), i ≤ n → n ≤ 32 → sc_YA n sg It so ko vo no en ag ks ss vs ns es us → (∀ d, It d ↔ It0 d ∧ d ∉ Rm) → Rm.Nodup → (∀ d, d ∈ Rm → It0 d ∧ sc_ex en clk d) → (∀ j, i ≤ j → j < n → ¬ sc_ex en clk (sg j)) →
      wY_tick_32 post (i + 1) (nI Rm.length) (nI i + (-1)) (nI n) (nI clk) yln ylu ks ss vs ns es us ypg := by
  intro i
  induction i with
  | zero =>
    intro n sg It ks ss vs ns es us Rm hi hn Y I nd hR hx
    refine br_t (by decide) (K n sg It ks ss vs ns es us Rm Y I nd (fun d => ⟨hR d, fun z => ?_⟩))
    by_cases hd : d ∈ Rm
    · exact hd
    · obtain ⟨j, hj, e⟩ := Y.2.2 d ((I d).mpr ⟨z.1, hd⟩)
      exact absurd z.2 (by rw [← e]; exact hx j (Nat.zero_le _) hj)
  | succ i ih =>
    intro n sg It ks ss vs ns es us Rm hi hn Y I nd hR hx
    have y := Y.1 i (by omega)
    have ye := y.2.2.2.2.2.1
    have hin : vp_in (nI i) 32 := vp_in_nI (by omega) (by decide)
    have skip : ¬ sc_ex en clk (sg i) → wY_tick_32 post (i + 1) (nI Rm.length) (nI i + (-1)) (nI n) (nI clk) yln ylu ks ss vs ns es us ypg := fun hn' =>
      ih n sg It ks ss vs ns es us Rm (by omega) hn Y I nd hR (fun j h1 h2 => by
        by_cases e : j = i
        · rw [e]; exact hn'
        · exact hx j (by omega) h2)
    rw [pk_m1]
    refine br_f (nI_pos (by omega)) ⟨hin, ?_⟩
    rw [nI_clamp (n := i) (by omega), ye]
    by_cases e0 : en (sg i) = 0
    · refine br_t (by rw [e0]; decide) (nm_e (skip (fun z => z.1 e0)))
    · have eI : sc_eI (en (sg i)) = nI (en (sg i)) := if_neg e0
      have e31 := he (sg i)
      rw [eI]
      refine br_f (nI_pos e31) ⟨hin, ?_⟩
      by_cases lt : clk < en (sg i)
      · refine br_t (nI_lt lt e31) (nm_e (skip (fun z => by have := z.2; omega)))
      · refine br_f (nI_nlt (by omega) hk) ?_
        obtain ⟨m, rfl⟩ : ∃ m, n = m + 1 := ⟨n - 1, by omega⟩
        have Y1 := sc_YA_drop Y (j := i) (by omega)
        have nR := (I (sg i)).mp y.1
        refine sc_ydrop hn (by omega) ?_
        dsimp only
        refine nm_r (nI_1 _) (nm_e ?_)
        refine ih m _ _ _ _ _ _ _ _ (sg i :: Rm) (by omega) (by omega) Y1 (fun d => ?_) (List.nodup_cons.mpr ⟨nR.2, nd⟩) (fun d hd => ?_) (fun j h1 h2 => ?_)
        · show (It d ∧ d ≠ sg i) ↔ _
          rw [I d, List.mem_cons]
          exact ⟨fun z => ⟨z.1.1, fun y => y.elim z.2 z.1.2⟩, fun z => ⟨⟨z.1, fun y => z.2 (Or.inr y)⟩, fun y => z.2 (Or.inl y)⟩⟩
        · rcases List.mem_cons.mp hd with rfl | hd
          · exact ⟨nR.1, e0, by omega⟩
          · exact hR d hd
        · by_cases e : j = i
          · rw [e, sc_up_s]; exact hx m (by omega) (by omega)
          · rw [sc_up_n e]; exact hx j (by omega) (by omega)
theorem sc_tick {k : Nat} {p : Int32} (R : sc_R k xcl xnu xhs xso xfc xnf xii xko xvo xno xeo xbk xch xod xnw xol xne xic xhp xpl ycn ycl yln ylu yks yss yvs yns yes yus ypg) (hk : k + 5 ≤ 2560) : wpX_tick (fun r u' => wpY_tick (fun r' v' => r' = r ∧ i_Rel (k + 5) u' v') (ycn, ycl, yln, ylu, yks, yss, yvs, yns, yes, yus, ypg) p) (xcl, xnu, xhs, xso, xfc, xnf, xii, xko, xvo, xno, xeo, xbk, xch, xod, xnw, xol, xne, xic, xhp, xpl) p := by
  have R' := sc_R_up R
  obtain ⟨It, U, Fr, en, ag, sg, h, clk, lu, n, rfl, rfl, rfl, rfl, rfl, rfl, bk, bl, X, sv, N, KY, Y, A, P⟩ := R
  have XI := X.1
  have n32 := sc_YA_32 XI Y
  have XE := X.2.2.2.2.2.2.2
  by_cases p0 : p < 0
  · exact br_t p0 (br_t p0 ⟨rfl, R'⟩)
  by_cases p1 : p ≤ 1000
  · obtain ⟨t, ht, rfl⟩ := nI_of2 sc_s1000 p0 p1
    have k31 : clk + t < 2 ^ 31 := by omega
    refine br_f p0 (br_t p1 (nm_r (e' := lN (clk + t)) (by rw [nI_l (by omega), lN_add]) ⟨32 + 1, ?_⟩))
    refine sc_tick_lp (It0 := It) (U0 := U) (fun d hd => (XI d hd).1) k31 (fun It' U' Fr' h' fc' nf' ii' bk' ch' od' nw' ol' ne' ic' hp' pl' Rm X' N' S' I' nd' hR' => ?_) 32 It U Fr h xfc xnf xii xbk xch xod xnw xol xne xic xhp xpl [] rfl X N (fun t _ => List.Sublist.refl _) (fun d => ⟨fun z => ⟨z, List.not_mem_nil⟩, fun z => z.1⟩) List.nodup_nil (fun d hd => absurd hd List.not_mem_nil)
    refine br_f p0 (br_t p1 (nm_r (nI_add clk t) (nm_r (e' := nI n + (-1)) (Int32.sub_eq_add_neg _ _) ⟨n + 1, ?_⟩)))
    refine sc_ytick_lp (It0 := It) k31 (fun d => (XE d).2) (fun n2 sg2 It2 ks2 ss2 vs2 ns2 es2 us2 Rm2 Y2 I2 nd2 hR2 => ?_) n n sg It yks yss yvs yns yes yus [] (Nat.le_refl _) n32 Y (fun d => ⟨fun z => ⟨z, List.not_mem_nil⟩, fun z => z.1⟩) List.nodup_nil (fun d hd => absurd hd List.not_mem_nil) (fun j h1 h2 => by omega)
    have mem : ∀ d, d ∈ Rm2 ↔ d ∈ Rm := fun d => (hR2 d).trans (hR' d).symm
    have eI : It2 = It' := funext fun d => propext (by rw [I2, I', mem])
    subst eI
    refine ⟨congrArg nI (sc_same_len nd2 nd' mem), ?_⟩
    exact ⟨It2, U', Fr', en, ag, sg2, h', clk + t, lu, n2, rfl, rfl, rfl, rfl, rfl, rfl, by omega, by omega, X', sv, N', ⟨fun d hd => KY.1 d ((I' d).mp hd).1, fun a b ha hb => KY.2 a b ((I' a).mp ha).1 ((I' b).mp hb).1⟩, Y2, ⟨fun d hd => A.1 d ((I' d).mp hd).1, fun t ht => (A.2 t ht).sublist (S' t ht)⟩, P⟩
  · exact br_f p0 (br_f p1 (br_f p0 (br_f p1 ⟨rfl, R'⟩)))
end
end
section
/-! store -/
section
variable {xcl : Int64} {xnu xhs : Int32} {xso xfc xnf xii xko xvo xno : Nat → Int32} {xeo : Nat → Int64} {xbk xch xod xnw xol xne xic xhp xpl : Nat → Int32}
variable {ycn ycl yln ylu : Int32} {yks yss yvs yns yes yus ypg : Nat → Int32}
theorem sc_y113 {post : Int32 → SY → Prop} {x v : Int32} {i t s clk lu : Nat} (hi : i < 32) (ht : t ≤ 1000) (K : post (yln + 1) (ycn, nI clk, yln + 1, nI (lu + 1), upd yks i x, upd yss i (nI s), upd yvs i v, upd yns i (yln + 1), upd yes i (sc_eI (sc_et clk t)), upd yus i (nI (lu + 1)), ypg)) : wY_store_113 post x v (nI t) (nI s) (nI i) ycn (nI clk) yln (nI lu) yks yss yvs yns yes yus ypg := by
  have ci : (nI i).toNatClampNeg = i := nI_clamp (by omega)
  have hin : vp_in (nI i) 32 := vp_in_nI hi (by decide)
  have t152 : ∀ z, z = sc_eI (sc_et clk t) → wY_store_152 post v (nI i) z (nI i) ycn (nI clk) yln (nI lu) (upd yks i x) (upd yss i (nI s)) yvs yns yes yus ypg := fun z ez =>
    ⟨hin, nm_r (e' := upd yes i (sc_eI (sc_et clk t))) (by rw [ci, ez]) (sc_ychange hi K)⟩
  refine ⟨hin, nm_r (e' := upd yks i x) (by rw [ci]) ⟨hin, nm_r (e' := upd yss i (nI s)) (by rw [ci]) ?_⟩⟩
  by_cases t0 : t = 0
  · exact br_t (by rw [t0]; exact nI_0) (t152 _ (by rw [t0]; exact sc_eI_0.symm))
  · exact br_f (nI_ne0 (by omega) (by omega)) (t152 _ (sc_eI_t t0).symm)
variable {It : Nat → Prop} {U Fr : Nat → List Nat} {en ag sg : Nat → Nat} {k h clk lu n s f t : Nat} {x v : Int32}
theorem sc_freshX {post : Int32 → SX → Prop} (X : sc_XS It U Fr en h xso xfc xnf xko xeo xbk xch xod xnw xol xne xic xhp xpl) (F : sc_FC It Fr xso s f) (hs : s < 3) (ht : t ≤ 1000) (hk : clk ≤ 1000000)
    (K : ∀ h2 ii2 bk2 ch2 od2 nw2 ol2 ne2 ic2 hp2 pl2 eo2, sc_XS (fun d => It d ∨ d = f) (sc_mv (fun t => if t = s then U s ++ [f] else U t) s f) Fr (sc_up (sc_up en f 0) f (sc_et clk t)) h2 xso xfc xnf (upd xko f x) eo2 bk2 ch2 od2 nw2 ol2 ne2 ic2 hp2 pl2 → post (xnu + 1) (lN clk, xnu + 1, nI h2, xso, xfc, xnf, ii2, upd xko f x, upd xvo f v, upd xno f (xnu + 1), eo2, bk2, ch2, od2, nw2, ol2, ne2, ic2, hp2, pl2)) :
    wX_store_112 post x v (nI t) (nI s) (nI f) (lN clk) xnu (nI h) xso xfc xnf xii xko xvo xno xeo xbk xch xod xnw xol xne xic xhp xpl := by
  unfold wX_store_112
  refine sc_enter X F hs (fun ii1 bk1 ch1 od1 nw1 ol1 ne1 ic1 eo1 X1 => ?_)
  dsimp only
  refine sc_st125 X1 hs (Or.inr rfl) F.2.2.1 ht hk (fun h2 eo2 od2 nw2 ol2 ne2 hp2 pl2 X2 => ?_)
  exact K h2 ii1 bk1 ch1 od2 nw2 ol2 ne2 ic1 hp2 pl2 eo2 X2
theorem sc_freshY {h2 : Nat} (XI : sc_IT It xso) (XU : sc_UI It xso U) (F : sc_FC It Fr xso s f) (sv : sc_SV xso) (N : sc_LN U Fr xso s) (KY : sc_KY It xko) (nx : ∀ c, It c → xko c ≠ x) (x0 : ¬ x < 0) (x1 : x ≤ 255) (hs : s < 3) (ht : t ≤ 1000) (bk : clk ≤ 200 * k) (bl : lu ≤ k)
    (Y : sc_YA n sg It xso xko xvo xno en ag yks yss yvs yns yes yus) (A : sc_AG It U ag lu) (P : sc_PG xso ypg)
    (X2 : sc_XS (fun d => It d ∨ d = f) (sc_mv (fun t => if t = s then U s ++ [f] else U t) s f) Fr (sc_up (sc_up en f 0) f (sc_et clk t)) h2 xso xfc xnf (upd xko f x) xeo xbk xch xod xnw xol xne xic xhp xpl) :
    wY_store_97 (fun r' v' => r' = xnu + 1 ∧ i_Rel (k + 5) (lN clk, xnu + 1, nI h2, xso, xfc, xnf, xii, upd xko f x, upd xvo f v, upd xno f (xnu + 1), xeo, xbk, xch, xod, xnw, xol, xne, xic, xhp, xpl) v') x v (nI t) (nI s) (nI n) (nI clk) xnu (nI lu) yks yss yvs yns yes yus ypg := by
  have n31 := sc_YA_31 XI Y F.1 F.2.1
  have L := sc_LF_U XI XU
  have nU : ∀ t, t < 3 → f ∉ U t := fun t ht hm => F.2.1 (((XU t ht).2 f).mp hm).1
  have hso := F.2.2.1
  have L1 : sc_LF 3 (fun t => if t = s then U s ++ [f] else U t) := by
    refine ⟨fun t ht => ?_, fun a b d ha hb h1 h2 => ?_⟩
    · by_cases z : t = s
      · subst z
        show (if t = t then U t ++ [f] else U t).Nodup ∧ ∀ d, d ∈ (if t = t then U t ++ [f] else U t) → d < 32
        rw [if_pos rfl]
        refine ⟨sc_app_nd (L.1 t ht).1 (nU t ht), fun d hd => ?_⟩
        rcases List.mem_append.mp hd with hd | hd
        · exact (L.1 t ht).2 d hd
        · rw [List.mem_singleton.mp hd]; exact F.1
      · show (if t = s then U s ++ [f] else U t).Nodup ∧ ∀ d, d ∈ (if t = s then U s ++ [f] else U t) → d < 32
        rw [if_neg z]
        exact L.1 t ht
    · have m : ∀ c, c < 3 → d ∈ (if c = s then U s ++ [f] else U c) → (d ∈ U c ∨ (d = f ∧ c = s)) := fun c hc hm => by
        by_cases z : c = s
        · rw [if_pos z] at hm
          rcases List.mem_append.mp hm with hm | hm
          · exact Or.inl (by rw [z]; exact hm)
          · exact Or.inr ⟨List.mem_singleton.mp hm, z⟩
        · rw [if_neg z] at hm
          exact Or.inl hm
      rcases m a ha h1 with h1 | h1
      · rcases m b hb h2 with h2 | h2
        · exact L.2 a b d ha hb h1 h2
        · exact absurd (h2.1 ▸ h1) (nU a ha)
      · rcases m b hb h2 with h2 | h2
        · exact absurd (h1.1 ▸ h2) (nU b hb)
        · rw [h1.2, h2.2]
  have mU1 : f ∈ (fun t => if t = s then U s ++ [f] else U t) s := by
    show f ∈ (if s = s then U s ++ [f] else U s)
    rw [if_pos rfl]; simp
  have memU : ∀ t, t < 3 → ∀ d, d ∈ (fun t => if t = s then U s ++ [f] else U t) t → It d ∨ d = f := by
    intro t ht d hd
    have hd : d ∈ (if t = s then U s ++ [f] else U t) := hd
    by_cases z : t = s
    · rw [if_pos z] at hd
      rcases List.mem_append.mp hd with hd | hd
      · exact Or.inl (((XU s hs).2 d).mp hd).1
      · exact Or.inr (List.mem_singleton.mp hd)
    · rw [if_neg z] at hd
      exact Or.inl (((XU t ht).2 d).mp hd).1
  refine nm_r (nI_1 n) (sc_y113 n31 ht ⟨rfl, ?_⟩)
  refine ⟨_, _, Fr, _, sc_up ag f (lu + 1), sc_up sg n f, h2, clk, lu + 1, n + 1, rfl, rfl, rfl, rfl, rfl, rfl, by omega, by omega, X2, sv, sc_LN_mv L1 hs (sc_LN_enter N) mU1, ?_, ?_, ?_, P⟩
  · constructor
    · intro c hc
      by_cases e : c = f
      · rw [e, pk_us]; exact ⟨x0, x1⟩
      · rw [pk_un e]; exact KY.1 c (hc.elim id (fun z => absurd z e))
    · intro c d hc hd
      by_cases e : c = f
      · by_cases e' : d = f
        · intro _; rw [e, e']
        · rw [e, pk_us, pk_un e']
          exact fun z => absurd z.symm (nx d (hd.elim id (fun z => absurd z e')))
      · by_cases e' : d = f
        · rw [e', pk_us, pk_un e]
          exact fun z => absurd z (nx c (hc.elim id (fun z => absurd z e)))
        · rw [pk_un e, pk_un e']
          exact KY.2 c d (hc.elim id (fun z => absurd z e)) (hd.elim id (fun z => absurd z e'))
  · exact sc_YA_new Y F.2.1 ⟨Or.inr rfl, by rw [pk_us, pk_us], by rw [pk_us, hso], by rw [pk_us, pk_us], by rw [pk_us, pk_us], by rw [pk_us, sc_up_s], by rw [pk_us, sc_up_s]⟩ (fun i hi => ⟨pk_un hi, pk_un hi, pk_un hi, pk_un hi, pk_un hi, pk_un hi⟩) (fun d hd => ⟨pk_un hd, pk_un hd, pk_un hd, by rw [sc_up_n hd, sc_up_n hd], sc_up_n hd⟩)
  · refine sc_AG_mv (fun d hd hne => A.1 d (hd.elim id (fun z => absurd z hne))) (fun t ht => ?_) L1 memU
    have e : ((fun t => if t = s then U s ++ [f] else U t) t).erase f = U t := by
      show (if t = s then U s ++ [f] else U t).erase f = U t
      by_cases z : t = s
      · rw [if_pos z, z, List.erase_append_right _ (nU s hs), List.erase_cons_head, List.append_nil]
      · rw [if_neg z, List.erase_of_not_mem (nU t ht)]
    rw [e]
    exact A.2 t ht
theorem sc_YA_so {so so' ko vo no : Nat → Int32} (Y : sc_YA n sg It so ko vo no en ag yks yss yvs yns yes yus) (h : ∀ d, It d → so' (d / 4) = so (d / 4)) : sc_YA n sg It so' ko vo no en ag yks yss yvs yns yes yus := by
  refine ⟨fun j hj => ?_, Y.2⟩
  obtain ⟨y1, y2, y3, y4⟩ := Y.1 j hj
  exact ⟨y1, y2, by rw [h _ y1]; exact y3, y4⟩
theorem sc_yroomMR {post : Int32 → SY → Prop} {It' : Nat → Prop} {U' : Nat → List Nat} {so so' ko vo no : Nat → Int32} (XI : sc_IT It so) (XU : sc_UI It so U) (sv : sc_SV so) (N : sc_LN U Fr so 3) (Y : sc_YA n sg It so ko vo no en ag yks yss yvs yns yes yus) (A : sc_AG It U ag lu) (P : sc_PG so ypg) (hl : lu < 2 ^ 31) (hs : s < 3) (M : sc_MR It It' U U' Fr so so' s)
    (K : ∀ n' sg' ks' ss' vs' ns' es' us' pg', sc_YA n' sg' It' so' ko vo no en ag ks' ss' vs' ns' es' us' → sc_AG It' U' ag lu → sc_PG so' pg' → post 1 (nI n', ycl, yln, ylu, ks', ss', vs', ns', es', us', pg')) : wpY_room post (nI n, ycl, yln, ylu, yks, yss, yvs, yns, yes, yus, ypg) (nI s) := by
  refine sc_yroom XI XU sv N Y A P hl hs (fun fe => ?_) (fun fe np => ?_) (fun fe np c l m n' ue en' hm em => ?_) (fun fe np ue => ?_)
  · rcases M with ⟨_, rfl, rfl, rfl⟩ | ⟨z, _⟩ | ⟨z, _⟩
    · exact K n sg yks yss yvs yns yes yus ypg Y A P
    · exact absurd z fe
    · exact absurd z fe
  · rcases M with ⟨z, _⟩ | ⟨_, rfl, rfl, p, hp, ep, rfl⟩ | ⟨_, z, _⟩
    · exact absurd fe z
    · refine K n sg yks yss yvs yns yes yus _ (sc_YA_so Y (fun d hd => pk_un (sc_nd_page XI ep hd))) A (fun t ht => ?_)
      have c := sc_cn_up (f := so) (x := nI t) (y := nI s) hp
      rw [if_neg (by rw [ep]; exact sc_ne1 (by omega))] at c
      by_cases z : t = s
      · subst z
        rw [if_pos rfl] at c
        rw [pk_us, P t ht, nI_1]
        exact congrArg nI (by omega)
      · rw [if_neg (fun q => z ((nI_eq (by omega) (by omega)).mp q).symm)] at c
        rw [pk_un z, P t ht]
        exact congrArg nI (by omega)
    · obtain ⟨p, hp, ep⟩ := np
      exact absurd ep (z p hp)
  · rcases M with ⟨z, _⟩ | ⟨_, _, _, p, hp, ep, _⟩ | ⟨_, _, rfl, d, l', ud, rfl, rfl⟩
    · exact absurd fe z
    · exact absurd ep (np p hp)
    · rw [ue] at ud
      have ec : c = d := (List.cons.inj ud).1
      subst en' ec
      have Y1 := sc_YA_drop Y hm
      rw [em] at Y1
      exact K n' _ _ _ _ _ _ _ ypg Y1 ⟨fun d hd => A.1 d hd.1, fun t ht => (A.2 t ht).sublist List.erase_sublist⟩ P
  · rcases M with ⟨z, _⟩ | ⟨_, _, _, p, hp, ep, _⟩ | ⟨_, _, _, d, l', ud, _⟩
    · exact absurd fe z
    · exact absurd ep (np p hp)
    · rw [ue] at ud; exact absurd ud.symm (List.cons_ne_nil _ _)
theorem sc_SV_MR {It' : Nat → Prop} {U' : Nat → List Nat} {so so' : Nat → Int32} (sv : sc_SV so) (hs : s < 3) (M : sc_MR It It' U U' Fr so so' s) : sc_SV so' := by
  rcases M with ⟨_, _, _, rfl⟩ | ⟨_, _, _, p, hp, _, rfl⟩ | ⟨_, _, rfl, _⟩
  · exact sv
  · intro q hq
    by_cases e : q = p
    · rw [e, pk_us]; exact Or.inr ⟨s, hs, rfl⟩
    · rw [pk_un e]; exact sv q hq
  · exact sv
theorem sc_It_MR {It' : Nat → Prop} {U' : Nat → List Nat} {so so' : Nat → Int32} (M : sc_MR It It' U U' Fr so so' s) : ∀ d, It' d → It d := by
  rcases M with ⟨_, rfl, _⟩ | ⟨_, rfl, _⟩ | ⟨_, _, _, e, l, _, rfl, _⟩
  · exact fun d hd => hd
  · exact fun d hd => hd
  · exact fun d hd => hd.1
/-- an item of another sort stays -/
theorem sc_keep_MR {It' : Nat → Prop} {U' : Nat → List Nat} {so so' : Nat → Int32} {c q : Nat} (XI : sc_IT It so) (XU : sc_UI It so U) (hs : s < 3) (hq : q < 3) (M : sc_MR It It' U U' Fr so so' s) (hc : It c) (hso : so (c / 4) = nI q) (ne : q ≠ s) : It' c ∧ so' (c / 4) = nI q := by
  rcases M with ⟨_, rfl, _, rfl⟩ | ⟨_, rfl, _, p, hp, ep, rfl⟩ | ⟨_, _, rfl, e, l, ue, rfl, _⟩
  · exact ⟨hc, hso⟩
  · exact ⟨hc, by rw [pk_un (sc_nd_page XI ep hc)]; exact hso⟩
  · refine ⟨⟨hc, fun z => ne ?_⟩, hso⟩
    have me := ((XU s hs).2 e).mp (by rw [ue]; exact List.mem_cons_self)
    rw [← z, hso] at me
    exact (nI_eq (by omega) (by omega)).mp me.2
end
end
section
/-! store, joined -/
section
variable {xcl : Int64} {xnu xhs : Int32} {xso xfc xnf xii xko xvo xno : Nat → Int32} {xeo : Nat → Int64} {xbk xch xod xnw xol xne xic xhp xpl : Nat → Int32}
variable {ycn ycl yln ylu : Int32} {yks yss yvs yns yes yus ypg : Nat → Int32}
variable {It : Nat → Prop} {U Fr : Nat → List Nat} {en ag sg : Nat → Nat} {k h clk lu n s t : Nat} {x v : Int32}
theorem sc_85 {post : Int32 → SX → Prop} {g : Int32} (hk : k + 5 ≤ 2560) (bk : clk ≤ 200 * k) (bl : lu ≤ k) (X : sc_XS It U Fr en h xso xfc xnf xko xeo xbk xch xod xnw xol xne xic xhp xpl) (sv : sc_SV xso) (N : sc_LN U Fr xso 3) (KY : sc_KY It xko) (Y : sc_YA n sg It xso xko xvo xno en ag yks yss yvs yns yes yus) (A : sc_AG It U ag lu) (P : sc_PG xso ypg)
    (x0 : ¬ x < 0) (x1 : x ≤ 255) (hs : s < 3) (ht : t ≤ 1000)
    (old : (g = -1 ∧ ∀ c, It c → xko c ≠ x) ∨ (∃ c q, g = nI c ∧ It c ∧ xko c = x ∧ q < 3 ∧ xso (c / 4) = nI q ∧ q ≠ s))
    (R' : i_Rel (k + 5) (lN clk, xnu, nI h, xso, xfc, xnf, xii, xko, xvo, xno, xeo, xbk, xch, xod, xnw, xol, xne, xic, xhp, xpl) (nI n, nI clk, xnu, nI lu, yks, yss, yvs, yns, yes, yus, ypg))
    (H : ∀ r u', wY_store_67 (fun r' v' => r' = r ∧ i_Rel (k + 5) u' v') x v (nI t) (nI s) (nI n) (nI clk) xnu (nI lu) yks yss yvs yns yes yus ypg → post r u') :
    wX_store_85 post x v (nI t) (nI s) g (lN clk) xnu (nI h) xso xfc xnf xii xko xvo xno xeo xbk xch xod xnw xol xne xic xhp xpl := by
  have XI := X.1
  have XU := X.2.1
  have n32 := sc_YA_32 XI Y
  have ck : clk ≤ 1000000 := by omega
  have l31 : lu < 2 ^ 31 := by omega
  unfold wX_store_85
  refine sc_makeRoom X sv hs N (fun fe np ue => ?_) (fun It' U' Fr' h' f so' fc' nf' ii' bk' ch' od' nw' ol' ne' ic' hp' pl' X' F' N' M => ?_)
  · dsimp only
    refine br_f (by decide) (H _ _ ?_)
    unfold wY_store_67
    refine sc_yroom XI XU sv N Y A P l31 hs (fun z => absurd fe z) (fun _ ⟨p, hp, ep⟩ => absurd ep (np p hp)) (fun _ _ c l m n' z => by rw [ue] at z; exact absurd z.symm (List.cons_ne_nil _ _)) (fun _ _ _ => ?_)
    dsimp only
    exact br_t rfl ⟨rfl, R'⟩
  · dsimp only
    have f32 := F'.1
    have sub := sc_It_MR M
    have sv' := sc_SV_MR sv hs M
    have KY' : sc_KY It' xko := ⟨fun c hc => KY.1 c (sub c hc), fun c d hc hd => KY.2 c d (sub c hc) (sub d hd)⟩
    have L' := sc_LF_U X'.1 X'.2.1
    refine br_t (nI_pos' (by omega)) ?_
    rcases old with ⟨rfl, nx⟩ | ⟨c, q, rfl, hc, ec, hq, hso, hne⟩
    · refine br_t sc_neg1 (sc_freshX X' F' hs ht ck (fun h2 ii2 bk2 ch2 od2 nw2 ol2 ne2 ic2 hp2 pl2 eo2 X2 => H _ _ ?_))
      unfold wY_store_67
      refine sc_yroomMR XI XU sv N Y A P l31 hs M (fun n3 sg3 ks3 ss3 vs3 ns3 es3 us3 pg3 Y3 A3 P3 => ?_)
      dsimp only
      refine br_f (by decide) (sc_yf0 X'.1 Y3 (fun d hd => nx d (sub d hd)) (br_t sc_neg1 ?_))
      exact sc_freshY X'.1 X'.2.1 F' sv' N' KY' (fun d hd => nx d (sub d hd)) x0 x1 hs ht bk bl Y3 A3 P3 X2
    · obtain ⟨hc', hso'⟩ := sc_keep_MR XI XU hs hq M hc hso hne
      have c32 := (XI c hc).1
      have mU' : c ∈ U' q := ((X'.2.1 q hq).2 c).mpr ⟨hc', hso'⟩
      refine br_f (nI_pos (by omega)) (sc_giveUp X' hc' hq hso' (fun h1 fc1 nf1 ii1 bk1 ch1 od1 nw1 ol1 ne1 ic1 hp1 pl1 X1 => ?_))
      dsimp only
      have F1 : sc_FC (fun d => It' d ∧ d ≠ c) (fun t => if t = q then c :: Fr' q else Fr' t) so' s f := by
        refine ⟨f32, fun z => F'.2.1 z.1, F'.2.2.1, fun t ht hm => ?_⟩
        have hm : f ∈ (if t = q then c :: Fr' q else Fr' t) := hm
        by_cases z : t = q
        · rw [if_pos z] at hm
          rcases List.mem_cons.mp hm with e | hm
          · exact F'.2.1 (e ▸ hc')
          · exact F'.2.2.2 q hq hm
        · rw [if_neg z] at hm
          exact F'.2.2.2 t ht hm
      have N1 := sc_LN_give L' hq N' mU'
      refine sc_freshX X1 F1 hs ht ck (fun h2 ii2 bk2 ch2 od2 nw2 ol2 ne2 ic2 hp2 pl2 eo2 X2 => H _ _ ?_)
      unfold wY_store_67
      refine sc_yroomMR XI XU sv N Y A P l31 hs M (fun n3 sg3 ks3 ss3 vs3 ns3 es3 us3 pg3 Y3 A3 P3 => ?_)
      dsimp only
      have n3b := sc_YA_32 X'.1 Y3
      refine br_f (by decide) (sc_yf1 X'.1 Y3 KY' hc' ec (fun j hj ej => br_f (nI_pos (by omega)) ?_))
      obtain ⟨m, rfl⟩ : ∃ m, n3 = m + 1 := ⟨n3 - 1, by omega⟩
      have Y4 := sc_YA_drop Y3 hj
      rw [ej] at Y4
      refine sc_ydrop n3b hj ?_
      dsimp only
      exact sc_freshY X1.1 X1.2.1 F1 sv' N1 ⟨fun d hd => KY'.1 d hd.1, fun a b ha hb => KY'.2 a b ha.1 hb.1⟩ (fun d hd e => hd.2 (KY'.2 d c hd.1 hc' (e.trans ec.symm))) x0 x1 hs ht bk bl Y4 ⟨fun d hd => A3.1 d hd.1, fun t ht => (A3.2 t ht).sublist List.erase_sublist⟩ P3 X2
theorem sc_57 {post : Int32 → SX → Prop} (hk : k + 5 ≤ 2560) (bk : clk ≤ 200 * k) (bl : lu ≤ k) (X : sc_XS It U Fr en h xso xfc xnf xko xeo xbk xch xod xnw xol xne xic xhp xpl) (sv : sc_SV xso) (N : sc_LN U Fr xso 3) (KY : sc_KY It xko) (Y : sc_YA n sg It xso xko xvo xno en ag yks yss yvs yns yes yus) (A : sc_AG It U ag lu) (P : sc_PG xso ypg)
    (x0 : ¬ x < 0) (x1 : x ≤ 255) (hs : s < 3) (ht : t ≤ 1000)
    (R' : i_Rel (k + 5) (lN clk, xnu, nI h, xso, xfc, xnf, xii, xko, xvo, xno, xeo, xbk, xch, xod, xnw, xol, xne, xic, xhp, xpl) (nI n, nI clk, xnu, nI lu, yks, yss, yvs, yns, yes, yus, ypg))
    (H : ∀ r u', wpY_find (fun r_8 => (r_8 < 0 → wY_store_67 (fun r' v' => r' = r ∧ i_Rel (k + 5) u' v') x v (nI t) (nI s) (nI n) (nI clk) xnu (nI lu) yks yss yvs yns yes yus ypg) ∧ (¬ r_8 < 0 → (vp_in r_8 32 ∧ (((yss r_8.toNatClampNeg) = nI s → wY_store_113 (fun r' v' => r' = r ∧ i_Rel (k + 5) u' v') x v (nI t) (nI s) r_8 (nI n) (nI clk) xnu (nI lu) yks yss yvs yns yes yus ypg) ∧ (¬ (yss r_8.toNatClampNeg) = nI s → wY_store_67 (fun r' v' => r' = r ∧ i_Rel (k + 5) u' v') x v (nI t) (nI s) (nI n) (nI clk) xnu (nI lu) yks yss yvs yns yes yus ypg))))) (nI n, nI clk, xnu, nI lu, yks, yss, yvs, yns, yes, yus, ypg) x → post r u') :
    wX_store_57 post x v (nI t) (nI s) (lN clk) xnu (nI h) xso xfc xnf xii xko xvo xno xeo xbk xch xod xnw xol xne xic xhp xpl := by
  have XI := X.1
  have XU := X.2.1
  have L := sc_LF_U XI XU
  have n32 := sc_YA_32 XI Y
  have ck : clk ≤ 1000000 := by omega
  unfold wX_store_57
  refine sc_find X.2.2.1 (fun c hc => (XI c hc).1) KY.1 (fun c hc e => ?_) (fun h0 => ?_)
  · obtain ⟨c32, q, hq, hso⟩ := XI c hc
    refine br_f (nI_pos (by omega)) ?_
    rw [sc_shr c32, nI_clamp (n := c / 4) (by omega), hso]
    refine ⟨vp_in_nI (by omega) (by decide), ?_⟩
    by_cases eq : q = s
    · subst eq
      have mU : c ∈ U q := ((XU q hq).2 c).mpr ⟨hc, hso⟩
      refine br_t rfl (sc_st125 X hq hc hso ht ck (fun h2 eo2 od2 nw2 ol2 ne2 hp2 pl2 X2 => H _ _ (sc_yf1 XI Y KY hc e (fun j hj ej => ?_))))
      have y := Y.1 j hj
      have cj : (nI j).toNatClampNeg = j := nI_clamp (by omega)
      refine br_f (nI_pos (by omega)) ⟨vp_in_nI (by omega) (by decide), br_t (by rw [cj, y.2.2.1, ej]; exact hso) (sc_y113 (by omega) ht ⟨rfl, ?_⟩)⟩
      refine ⟨It, sc_mv U q c, Fr, sc_up en c (sc_et clk t), sc_up ag c (lu + 1), sg, h2, clk, lu + 1, n, rfl, rfl, rfl, rfl, rfl, rfl, by omega, by omega, X2, sv, sc_LN_mv L hq N mU, KY, ?_, sc_AG_use A XI XU, P⟩
      exact sc_YA_set Y hj ⟨y.1, by rw [pk_us, ej, e], by rw [pk_us, ej, hso], by rw [pk_us, ej, pk_us], by rw [pk_us, ej, pk_us], by rw [pk_us, ej, sc_up_s], by rw [pk_us, ej, sc_up_s]⟩ (fun i hi => ⟨pk_un hi, pk_un hi, pk_un hi, pk_un hi, pk_un hi, pk_un hi⟩) (fun d hd => ⟨rfl, pk_un (by rw [← ej]; exact hd), pk_un (by rw [← ej]; exact hd), sc_up_n (by rw [← ej]; exact hd), sc_up_n (by rw [← ej]; exact hd)⟩)
    · have ne : ¬ nI q = nI s := fun z => eq ((nI_eq (by omega) (by omega)).mp z)
      refine br_f ne (sc_85 hk bk bl X sv N KY Y A P x0 x1 hs ht (Or.inr ⟨c, q, rfl, hc, e, hq, hso, eq⟩) R' (fun r u' h67 => H r u' (sc_yf1 XI Y KY hc e (fun j hj ej => ?_))))
      have y := Y.1 j hj
      have cj : (nI j).toNatClampNeg = j := nI_clamp (by omega)
      exact br_f (nI_pos (by omega)) ⟨vp_in_nI (by omega) (by decide), br_f (by rw [cj, y.2.2.1, ej, hso]; exact ne) h67⟩
  · exact br_t sc_neg1 (sc_85 hk bk bl X sv N KY Y A P x0 x1 hs ht (Or.inl ⟨rfl, h0⟩) R' (fun r u' h67 => H r u' (sc_yf0 XI Y h0 (br_t sc_neg1 h67))))
theorem sc_store {l p : Int32} (R : sc_R k xcl xnu xhs xso xfc xnf xii xko xvo xno xeo xbk xch xod xnw xol xne xic xhp xpl ycn ycl yln ylu yks yss yvs yns yes yus ypg) (hk : k + 5 ≤ 2560) : wpX_store (fun r u' => wpY_store (fun r' v' => r' = r ∧ i_Rel (k + 5) u' v') (ycn, ycl, yln, ylu, yks, yss, yvs, yns, yes, yus, ypg) x l v p) (xcl, xnu, xhs, xso, xfc, xnf, xii, xko, xvo, xno, xeo, xbk, xch, xod, xnw, xol, xne, xic, xhp, xpl) x l v p := by
  have R' := sc_R_up R
  obtain ⟨It, U, Fr, en, ag, sg, h, clk, lu, n, rfl, rfl, rfl, rfl, rfl, rfl, bk, bl, X, sv, N, KY, Y, A, P⟩ := R
  by_cases c1 : x < 0
  · exact br_t c1 (br_t c1 ⟨rfl, R'⟩)
  by_cases c2 : 255 < x
  · exact br_f c1 (br_t c2 (br_f c1 (br_t c2 ⟨rfl, R'⟩)))
  by_cases c3 : l < 1
  · exact br_f c1 (br_f c2 (br_t c3 (br_f c1 (br_f c2 (br_t c3 ⟨rfl, R'⟩)))))
  by_cases c4 : 12 < l
  · exact br_f c1 (br_f c2 (br_f c3 (br_t c4 (br_f c1 (br_f c2 (br_f c3 (br_t c4 ⟨rfl, R'⟩)))))))
  by_cases c5 : p < 0
  · exact br_f c1 (br_f c2 (br_f c3 (br_f c4 (br_t c5 (br_f c1 (br_f c2 (br_f c3 (br_f c4 (br_t c5 ⟨rfl, R'⟩)))))))))
  by_cases c6 : p ≤ 1000
  · obtain ⟨t, ht, rfl⟩ := nI_of2 sc_s1000 c5 c6
    have x1 : x ≤ 255 := Int32.not_lt.mp c2
    refine br_f c1 (br_f c2 (br_f c3 (br_f c4 (br_f c5 (br_t c6 ?_)))))
    by_cases h3 : 3 < l
    · by_cases h6 : 6 < l
      · exact br_t h3 (br_t h6 (sc_57 (s := 2) hk bk bl X sv N KY Y A P c1 x1 (by decide) ht R' (fun r u' hy => br_f c1 (br_f c2 (br_f c3 (br_f c4 (br_f c5 (br_t c6 (br_t h3 (br_t h6 hy))))))))))
      · exact br_t h3 (br_f h6 (sc_57 (s := 1) hk bk bl X sv N KY Y A P c1 x1 (by decide) ht R' (fun r u' hy => br_f c1 (br_f c2 (br_f c3 (br_f c4 (br_f c5 (br_t c6 (br_t h3 (br_f h6 hy))))))))))
    · exact br_f h3 (sc_57 (s := 0) hk bk bl X sv N KY Y A P c1 x1 (by decide) ht R' (fun r u' hy => br_f c1 (br_f c2 (br_f c3 (br_f c4 (br_f c5 (br_t c6 (br_f h3 hy))))))))
  · exact br_f c1 (br_f c2 (br_f c3 (br_f c4 (br_f c5 (br_f c6 (br_f c1 (br_f c2 (br_f c3 (br_f c4 (br_f c5 (br_f c6 ⟨rfl, R'⟩)))))))))))
end
end
section
/-! the constructors, and what is owed -/
theorem sc_upd_all {a : Nat → Int32} {j : Nat} (h : ∀ c, c < j → a c = -1) : ∀ c, c < j + 1 → upd a j (-1) c = -1 := by
  intro c hc
  by_cases e : c = j
  · rw [e, pk_us]
  · rw [pk_un e]; exact h c (by omega)
section
variable {xcl : Int64} {xnu xhs : Int32} {xso xfc xnf xii xko xvo xno : Nat → Int32} {xeo : Nat → Int64} {xbk xch xod xnw xol xne xic xhp xpl : Nat → Int32}
theorem sc_i214 {post : SX → Prop} (K : ∀ pl', (∀ c, c < 32 → pl' c = -1) → post (xcl, xnu, xhs, xso, xfc, xnf, xii, xko, xvo, xno, xeo, xbk, xch, xod, xnw, xol, xne, xic, xhp, pl')) : ∀ (d j : Nat) (pl' : Nat → Int32), j + d = 32 → (∀ c, c < j → pl' c = -1) → wX_init_214 post xcl xnu xhs (d + 1) (nI j) xso xfc xnf xii xko xvo xno xeo xbk xch xod xnw xol xne xic xhp pl' := by
  intro d
  induction d with
  | zero =>
    intro j pl' e h
    have e : j = 32 := e
    subst e
    exact br_t (nI_le (Nat.le_refl 32) (by decide)) (K pl' h)
  | succ d ih =>
    intro j pl' e h
    exact br_f (nI_ge (b := 32) (by omega) (by decide)) ⟨vp_in_nI (by omega) (by decide), nm_r (e' := upd pl' j (-1)) (by rw [nI_clamp (by omega)]) (nm_r (nI_1 j) (ih (j + 1) _ (by omega) (sc_upd_all h)))⟩
theorem sc_i193 {post : SX → Prop} (K : ∀ bk', (∀ c, c < 16 → bk' c = -1) → ∃ n, wX_init_214 post xcl xnu xhs n 0 xso xfc xnf xii xko xvo xno xeo bk' xch xod xnw xol xne xic xhp xpl) : ∀ (d j : Nat) (bk' : Nat → Int32), j + d = 16 → (∀ c, c < j → bk' c = -1) → wX_init_193 post xcl xnu xhs (d + 1) (nI j) xso xfc xnf xii xko xvo xno xeo bk' xch xod xnw xol xne xic xhp xpl := by
  intro d
  induction d with
  | zero =>
    intro j bk' e h
    have e : j = 16 := e
    subst e
    exact br_t (nI_le (Nat.le_refl 16) (by decide)) (K bk' h)
  | succ d ih =>
    intro j bk' e h
    exact br_f (nI_ge (b := 16) (by omega) (by decide)) ⟨vp_in_nI (by omega) (by decide), nm_r (e' := upd bk' j (-1)) (by rw [nI_clamp (by omega)]) (nm_r (nI_1 j) (ih (j + 1) _ (by omega) (sc_upd_all h)))⟩
theorem sc_i159 {post : SX → Prop} (K : ∀ fc' od' nw', (∀ c, c < 3 → fc' c = -1) → (∀ c, c < 3 → od' c = -1) → (∀ c, c < 3 → nw' c = -1) → ∃ n, wX_init_193 post xcl xnu xhs n 0 xso fc' xnf xii xko xvo xno xeo xbk xch od' nw' xol xne xic xhp xpl) : ∀ (d j : Nat) (fc' od' nw' : Nat → Int32), j + d = 3 → (∀ c, c < j → fc' c = -1) → (∀ c, c < j → od' c = -1) → (∀ c, c < j → nw' c = -1) → wX_init_159 post xcl xnu xhs (d + 1) (nI j) xso fc' xnf xii xko xvo xno xeo xbk xch od' nw' xol xne xic xhp xpl := by
  intro d
  induction d with
  | zero =>
    intro j fc' od' nw' e h1 h2 h3
    have e : j = 3 := e
    subst e
    exact br_t (nI_le (Nat.le_refl 3) (by decide)) (K fc' od' nw' h1 h2 h3)
  | succ d ih =>
    intro j fc' od' nw' e h1 h2 h3
    have hin : vp_in (nI j) 3 := vp_in_nI (by omega) (by decide)
    have cl : (nI j).toNatClampNeg = j := nI_clamp (by omega)
    exact br_f (nI_ge (b := 3) (by omega) (by decide)) ⟨hin, nm_r (e' := upd fc' j (-1)) (by rw [cl]) ⟨hin, nm_r (e' := upd od' j (-1)) (by rw [cl]) ⟨hin, nm_r (e' := upd nw' j (-1)) (by rw [cl]) (nm_r (nI_1 j) (ih (j + 1) _ _ _ (by omega) (sc_upd_all h1) (sc_upd_all h2) (sc_upd_all h3)))⟩⟩⟩
theorem sc_i138 {post : SX → Prop} (K : ∀ so', (∀ c, c < 8 → so' c = -1) → ∃ n, wX_init_159 post xcl xnu xhs n 0 so' xfc xnf xii xko xvo xno xeo xbk xch xod xnw xol xne xic xhp xpl) : ∀ (d j : Nat) (so' : Nat → Int32), j + d = 8 → (∀ c, c < j → so' c = -1) → wX_init_138 post xcl xnu xhs (d + 1) (nI j) so' xfc xnf xii xko xvo xno xeo xbk xch xod xnw xol xne xic xhp xpl := by
  intro d
  induction d with
  | zero =>
    intro j so' e h
    have e : j = 8 := e
    subst e
    exact br_t (nI_le (Nat.le_refl 8) (by decide)) (K so' h)
  | succ d ih =>
    intro j so' e h
    exact br_f (nI_ge (b := 8) (by omega) (by decide)) ⟨vp_in_nI (by omega) (by decide), nm_r (e' := upd so' j (-1)) (by rw [nI_clamp (by omega)]) (nm_r (nI_1 j) (ih (j + 1) _ (by omega) (sc_upd_all h)))⟩
end
theorem sc_start {so fc od nw bk pl : Nat → Int32} (h1 : ∀ c, c < 8 → so c = -1) (h2 : ∀ c, c < 3 → fc c = -1) (h3 : ∀ c, c < 3 → od c = -1) (h4 : ∀ c, c < 3 → nw c = -1) (h5 : ∀ c, c < 16 → bk c = -1) (h6 : ∀ c, c < 32 → pl c = -1) :
    sc_R 0 0 0 0 so fc (fun _ => 0) (fun _ => 0) (fun _ => 0) (fun _ => 0) (fun _ => 0) (fun _ => 0) bk (fun _ => 0) od nw (fun _ => 0) (fun _ => 0) (fun _ => 0) (fun _ => 0) pl 0 0 0 0 (fun _ => 0) (fun _ => 0) (fun _ => 0) (fun _ => 0) (fun _ => 0) (fun _ => 0) (fun _ => 0) := by
  have cn : ∀ s, s < 3 → sc_cn so (nI s) 8 = 0 := by
    intro s hs
    rcases Nat.eq_zero_or_pos (sc_cn so (nI s) 8) with z | z
    · exact z
    · obtain ⟨p, hp, e⟩ := sc_cn_pos.mpr z
      rw [h1 p hp] at e
      exact absurd e (sc_ne1 (by omega))
  refine ⟨fun _ => False, fun _ => [], fun _ => [], fun _ => 0, fun _ => 0, fun _ => 0, 0, 0, 0, 0, rfl, rfl, rfl, rfl, rfl, rfl, by omega, by omega, ⟨?_, ?_, ?_, ?_, ⟨?_, ?_⟩, ?_, ?_, ?_⟩, ?_, ?_, ?_, ?_, ?_, ?_⟩
  · exact fun c hc => hc.elim
  · exact fun s hs => ⟨List.nodup_nil, fun c => ⟨fun h => absurd h List.not_mem_nil, fun h => h.1.elim⟩⟩
  · exact ⟨fun _ => [], fun b hb => h5 b hb, fun b hb => List.nodup_nil, fun b hb c => ⟨fun h => absurd h List.not_mem_nil, fun h => h.1.elim⟩⟩
  · exact ⟨fun s hs => h3 s hs, fun s hs => h4 s hs⟩
  · exact fun s hs => h2 s hs
  · exact fun s hs => ⟨List.nodup_nil, fun c h => absurd h List.not_mem_nil⟩
  · exact ⟨by decide, fun _ => 0, ⟨fun i hi => absurd hi (Nat.not_lt_zero _), fun c hc _ => h6 c hc⟩, fun i i0 ih => absurd ih (Nat.not_lt_zero _), fun d => ⟨fun h => h.1.elim, fun ⟨i, hi, _⟩ => absurd hi (Nat.not_lt_zero _)⟩⟩
  · exact fun s hs => rfl
  · exact fun d => ⟨rfl, Nat.two_pow_pos 31⟩
  · exact fun p hp => Or.inl (h1 p hp)
  · intro t ht
    rw [cn t ht, if_neg (by omega)]
    rfl
  · exact ⟨fun c hc => hc.elim, fun c d hc => hc.elim⟩
  · exact ⟨fun j hj => absurd hj (Nat.not_lt_zero _), fun i j hi => absurd hi (Nat.not_lt_zero _), fun c hc => hc.elim⟩
  · exact ⟨fun c hc => hc.elim, fun s hs => List.Pairwise.nil⟩
  · intro s hs
    rw [cn s hs]
    rfl
theorem i_up {k : Nat} {u : SX} {v : SY} (h : i_Rel k u v) : i_Rel (k + 5) u v := by
  obtain ⟨xcl, xnu, xhs, xso, xfc, xnf, xii, xko, xvo, xno, xeo, xbk, xch, xod, xnw, xol, xne, xic, xhp, xpl⟩ := u
  obtain ⟨ycn, ycl, yln, ylu, yks, yss, yvs, yns, yes, yus, ypg⟩ := v
  exact sc_R_up (xii := xii) h
theorem i_vc0 : wpX_init (fun u => wpY_init (fun v => i_Rel 0 u v)) := by
  refine ⟨8 + 1, sc_i138 (fun so' h1 => ⟨3 + 1, sc_i159 (fun fc' od' nw' h2 h3 h4 => ⟨16 + 1, sc_i193 (fun bk' h5 => ⟨32 + 1, sc_i214 (fun pl' h6 => ?_) 32 0 (fun _ => 0) rfl (fun c hc => absurd hc (Nat.not_lt_zero _))⟩) 16 0 (fun _ => 0) rfl (fun c hc => absurd hc (Nat.not_lt_zero _))⟩) 3 0 (fun _ => 0) (fun _ => 0) (fun _ => 0) rfl (fun c hc => absurd hc (Nat.not_lt_zero _)) (fun c hc => absurd hc (Nat.not_lt_zero _)) (fun c hc => absurd hc (Nat.not_lt_zero _))⟩) 8 0 (fun _ => 0) rfl (fun c hc => absurd hc (Nat.not_lt_zero _))⟩
  exact sc_start h1 h2 h3 h4 h5 h6
theorem i_vc_store {k : Nat} {u : SX} {v : SY} (I : i_Rel k u v) (hk : k + 5 ≤ 2560) (v1 : Int32) (v2 : Int32) (v3 : Int32) (v4 : Int32) : wpX_store (fun r u' => wpY_store (fun r' v' => r' = r ∧ i_Rel (k + 5) u' v') v v1 v2 v3 v4) u v1 v2 v3 v4 := by
  obtain ⟨xcl, xnu, xhs, xso, xfc, xnf, xii, xko, xvo, xno, xeo, xbk, xch, xod, xnw, xol, xne, xic, xhp, xpl⟩ := u
  obtain ⟨ycn, ycl, yln, ylu, yks, yss, yvs, yns, yes, yus, ypg⟩ := v
  exact sc_store I hk
theorem i_vc_get {k : Nat} {u : SX} {v : SY} (I : i_Rel k u v) (hk : k + 5 ≤ 2560) (v1 : Int32) : wpX_get (fun r u' => wpY_get (fun r' v' => r' = r ∧ i_Rel (k + 5) u' v') v v1) u v1 := by
  obtain ⟨xcl, xnu, xhs, xso, xfc, xnf, xii, xko, xvo, xno, xeo, xbk, xch, xod, xnw, xol, xne, xic, xhp, xpl⟩ := u
  obtain ⟨ycn, ycl, yln, ylu, yks, yss, yvs, yns, yes, yus, ypg⟩ := v
  exact sc_get I hk
theorem i_vc_has {k : Nat} {u : SX} {v : SY} (I : i_Rel k u v) (hk : k + 5 ≤ 2560) (v1 : Int32) : wpX_has (fun r => wpY_has (fun r' => r' = r ∧ i_Rel (k + 5) u v) v v1) u v1 := by
  obtain ⟨xcl, xnu, xhs, xso, xfc, xnf, xii, xko, xvo, xno, xeo, xbk, xch, xod, xnw, xol, xne, xic, xhp, xpl⟩ := u
  obtain ⟨ycn, ycl, yln, ylu, yks, yss, yvs, yns, yes, yus, ypg⟩ := v
  exact sc_has I
theorem i_vc_number {k : Nat} {u : SX} {v : SY} (I : i_Rel k u v) (hk : k + 5 ≤ 2560) (v1 : Int32) : wpX_number (fun r => wpY_number (fun r' => r' = r ∧ i_Rel (k + 5) u v) v v1) u v1 := by
  obtain ⟨xcl, xnu, xhs, xso, xfc, xnf, xii, xko, xvo, xno, xeo, xbk, xch, xod, xnw, xol, xne, xic, xhp, xpl⟩ := u
  obtain ⟨ycn, ycl, yln, ylu, yks, yss, yvs, yns, yes, yus, ypg⟩ := v
  exact sc_number I
theorem i_vc_swap {k : Nat} {u : SX} {v : SY} (I : i_Rel k u v) (hk : k + 5 ≤ 2560) (v1 : Int32) (v2 : Int32) (v3 : Int32) : wpX_swap (fun r u' => wpY_swap (fun r' v' => r' = r ∧ i_Rel (k + 5) u' v') v v1 v2 v3) u v1 v2 v3 := by
  obtain ⟨xcl, xnu, xhs, xso, xfc, xnf, xii, xko, xvo, xno, xeo, xbk, xch, xod, xnw, xol, xne, xic, xhp, xpl⟩ := u
  obtain ⟨ycn, ycl, yln, ylu, yks, yss, yvs, yns, yes, yus, ypg⟩ := v
  exact sc_swap I hk
theorem i_vc_add {k : Nat} {u : SX} {v : SY} (I : i_Rel k u v) (hk : k + 5 ≤ 2560) (v1 : Int32) (v2 : Int32) : wpX_add (fun r u' => wpY_add (fun r' v' => r' = r ∧ i_Rel (k + 5) u' v') v v1 v2) u v1 v2 := by
  obtain ⟨xcl, xnu, xhs, xso, xfc, xnf, xii, xko, xvo, xno, xeo, xbk, xch, xod, xnw, xol, xne, xic, xhp, xpl⟩ := u
  obtain ⟨ycn, ycl, yln, ylu, yks, yss, yvs, yns, yes, yus, ypg⟩ := v
  exact sc_add I hk
theorem i_vc_touch {k : Nat} {u : SX} {v : SY} (I : i_Rel k u v) (hk : k + 5 ≤ 2560) (v1 : Int32) (v2 : Int32) : wpX_touch (fun r u' => wpY_touch (fun r' v' => r' = r ∧ i_Rel (k + 5) u' v') v v1 v2) u v1 v2 := by
  obtain ⟨xcl, xnu, xhs, xso, xfc, xnf, xii, xko, xvo, xno, xeo, xbk, xch, xod, xnw, xol, xne, xic, xhp, xpl⟩ := u
  obtain ⟨ycn, ycl, yln, ylu, yks, yss, yvs, yns, yes, yus, ypg⟩ := v
  exact sc_touch I hk
theorem i_vc_remove {k : Nat} {u : SX} {v : SY} (I : i_Rel k u v) (hk : k + 5 ≤ 2560) (v1 : Int32) : wpX_remove (fun r u' => wpY_remove (fun r' v' => r' = r ∧ i_Rel (k + 5) u' v') v v1) u v1 := by
  obtain ⟨xcl, xnu, xhs, xso, xfc, xnf, xii, xko, xvo, xno, xeo, xbk, xch, xod, xnw, xol, xne, xic, xhp, xpl⟩ := u
  obtain ⟨ycn, ycl, yln, ylu, yks, yss, yvs, yns, yes, yus, ypg⟩ := v
  exact sc_remove I hk
theorem i_vc_tick {k : Nat} {u : SX} {v : SY} (I : i_Rel k u v) (hk : k + 5 ≤ 2560) (v1 : Int32) : wpX_tick (fun r u' => wpY_tick (fun r' v' => r' = r ∧ i_Rel (k + 5) u' v') v v1) u v1 := by
  obtain ⟨xcl, xnu, xhs, xso, xfc, xnf, xii, xko, xvo, xno, xeo, xbk, xch, xod, xnw, xol, xne, xic, xhp, xpl⟩ := u
  obtain ⟨ycn, ycl, yln, ylu, yks, yss, yvs, yns, yes, yus, ypg⟩ := v
  exact sc_tick I hk
theorem i_vc_items {k : Nat} {u : SX} {v : SY} (I : i_Rel k u v) (hk : k + 5 ≤ 2560) (v1 : Int32) : wpX_items (fun r => wpY_items (fun r' => r' = r ∧ i_Rel (k + 5) u v) v v1) u v1 := by
  obtain ⟨xcl, xnu, xhs, xso, xfc, xnf, xii, xko, xvo, xno, xeo, xbk, xch, xod, xnw, xol, xne, xic, xhp, xpl⟩ := u
  obtain ⟨ycn, ycl, yln, ylu, yks, yss, yvs, yns, yes, yus, ypg⟩ := v
  exact sc_items I
theorem i_vc_pages {k : Nat} {u : SX} {v : SY} (I : i_Rel k u v) (hk : k + 5 ≤ 2560) (v1 : Int32) : wpX_pages (fun r => wpY_pages (fun r' => r' = r ∧ i_Rel (k + 5) u v) v v1) u v1 := by
  obtain ⟨xcl, xnu, xhs, xso, xfc, xnf, xii, xko, xvo, xno, xeo, xbk, xch, xod, xnw, xol, xne, xic, xhp, xpl⟩ := u
  obtain ⟨ycn, ycl, yln, ylu, yks, yss, yvs, yns, yes, yus, ypg⟩ := v
  exact sc_pages I
theorem i_vc_oldest {k : Nat} {u : SX} {v : SY} (I : i_Rel k u v) (hk : k + 5 ≤ 2560) (v1 : Int32) : wpX_oldest (fun r => wpY_oldest (fun r' => r' = r ∧ i_Rel (k + 5) u v) v v1) u v1 := by
  obtain ⟨xcl, xnu, xhs, xso, xfc, xnf, xii, xko, xvo, xno, xeo, xbk, xch, xod, xnw, xol, xne, xic, xhp, xpl⟩ := u
  obtain ⟨ycn, ycl, yln, ylu, yks, yss, yvs, yns, yes, yus, ypg⟩ := v
  exact sc_oldest I hk
end
