section
theorem pk_us {f : Nat → Int32} {k : Nat} {x : Int32} : upd f k x k = x := if_pos rfl
theorem pk_un {f : Nat → Int32} {k j : Nat} {x : Int32} (h : j ≠ k) : upd f k x j = f j := if_neg h
theorem pk_sub {a b : Nat} (h : b ≤ a) : nI a - nI b = nI (a - b) := by
  obtain ⟨c, rfl⟩ : ∃ c, a = c + b := ⟨a - b, by omega⟩
  rw [← nI_add, Int32.add_sub_cancel, Nat.add_sub_cancel]
theorem pk_m1 (n : Nat) : nI (n + 1) + (-1) = nI n := by
  rw [← nI_1, Int32.add_assoc, show (1 : Int32) + (-1) = 0 from rfl, Int32.add_zero]
theorem pk_mul (a b : Nat) : nI a * nI b = nI (a * b) := (Int32.ofNat_mul a b).symm
theorem pk_div {a d : Nat} (ha : a < 2 ^ 31) (h0 : 0 < d) (hd : d < 2 ^ 31) : nI a / nI d = nI (a / d) := by
  apply Int32.toInt_inj.mp
  rw [lg_idiv_nonneg (by rw [nI_toInt ha]; omega) (by rw [nI_toInt hd]; omega), nI_toInt ha, nI_toInt hd, nI_toInt (Nat.lt_of_le_of_lt (Nat.div_le_self a d) ha)]
  first | rfl | exact (Int.natCast_ediv _ _).symm
theorem pk_rem {a d : Nat} (ha : a < 2 ^ 31) (h0 : 0 < d) (hd : d < 2 ^ 31) : nI a - nI a / nI d * nI d = nI (a % d) := by
  rw [pk_div ha h0 hd, pk_mul, pk_sub (Nat.div_mul_le_self a d)]
  exact congrArg nI (by have := Nat.div_add_mod' a d; omega)
theorem pk_sub_toInt {a b : Nat} (ha : a < 2 ^ 30) (hb : b < 2 ^ 30) : (nI a - nI b).toInt = (a : Int) - b := by
  rw [Int32.toInt_sub, nI_toInt (by omega), nI_toInt (by omega)]
  exact Int.bmod_eq_of_le (by omega) (by omega)
theorem pk_sneg {a b : Nat} (hb : b < 2 ^ 30) (h : a < b) : nI a - nI b < 0 := by
  rw [Int32.lt_iff_toInt_lt, pk_sub_toInt (by omega) hb, show (0 : Int32).toInt = 0 from by decide]
  omega
theorem pk_ix (x : Int32) {n : Nat} (hn : n < 2 ^ 31) : x < 0 ∨ nI n ≤ x ∨ ∃ j : Nat, j < n ∧ x = nI j := by
  by_cases h : x < 0
  · exact Or.inl h
  · obtain ⟨j, hj, rfl⟩ := nI_of h
    by_cases h2 : j < n
    · exact Or.inr (Or.inr ⟨j, h2, rfl⟩)
    · exact Or.inr (Or.inl (nI_le (by omega) hj))
theorem pk_le {x y : Int32} {A B : Prop} (a b : Nat) (f : a ≤ b → A) (g : b < a → B) (hx : x = nI a := by rfl) (hy : y = nI b := by rfl) (ha : a < 2 ^ 31 := by omega) (hb : b < 2 ^ 31 := by omega) : (x ≤ y → A) ∧ (¬ x ≤ y → B) := by
  subst hx hy
  rw [nI_leI ha hb]
  exact ⟨f, fun z => g (by omega)⟩
theorem pk_lt {x y : Int32} {A B : Prop} (a b : Nat) (f : a < b → A) (g : b ≤ a → B) (hx : x = nI a := by rfl) (hy : y = nI b := by rfl) (ha : a < 2 ^ 31 := by omega) (hb : b < 2 ^ 31 := by omega) : (x < y → A) ∧ (¬ x < y → B) := by
  subst hx hy
  rw [nI_ltI ha hb]
  exact ⟨f, fun z => g (by omega)⟩
theorem pk_eq {x y : Int32} {A B : Prop} (a b : Nat) (f : a = b → A) (g : a ≠ b → B) (hx : x = nI a := by rfl) (hy : y = nI b := by rfl) (ha : a < 2 ^ 31 := by omega) (hb : b < 2 ^ 31 := by omega) : (x = y → A) ∧ (¬ x = y → B) := by
  subst hx hy
  rw [nI_eq ha hb]
  exact ⟨f, g⟩
theorem pk_in {x : Int32} (n N : Nat) (h : n < N) (hx : x = nI n := by rfl) (hN : N < 2 ^ 31 := by omega) : vp_in x N := by
  subst hx
  exact vp_in_nI h hN
theorem pk_cl {x : Int32} (n : Nat) (hx : x = nI n := by rfl) (h : n < 2 ^ 31 := by omega) : x.toNatClampNeg = n := by
  subst hx
  exact nI_clamp h
theorem pk_tn {n : Nat} (h : n < 2 ^ 32) : (nI n).toBitVec.toNat = n := Nat.mod_eq_of_lt h
theorem pk_and (x : Int32) {m : Int32} (k : Nat) (hm : m.toBitVec.toNat = 2 ^ k - 1) : x &&& m = nI (x.toBitVec.toNat % 2 ^ k) := by
  apply Int32.toBitVec_inj.mp
  apply BitVec.eq_of_toNat_eq
  rw [Int32.toBitVec_and, BitVec.toNat_and, hm, Nat.and_two_pow_sub_one_eq_mod]
  show _ = (BitVec.ofNat 32 _).toNat
  rw [BitVec.toNat_ofNat]
  exact (Nat.mod_eq_of_lt (Nat.lt_of_le_of_lt (Nat.mod_le _ _) x.toBitVec.isLt)).symm
theorem pk_andN {n : Nat} (h : n < 2 ^ 32) {m : Int32} (k : Nat) (hm : m.toBitVec.toNat = 2 ^ k - 1) : nI n &&& m = nI (n % 2 ^ k) := by
  rw [pk_and _ k hm, pk_tn h]
theorem pk_andE (x : Int32) {m : Int32} (k : Nat) (hm : m.toBitVec.toNat = 2 ^ k - 1) : ∃ j : Nat, j < 2 ^ k ∧ x &&& m = nI j := ⟨_, Nat.mod_lt _ (Nat.two_pow_pos k), pk_and x k hm⟩
theorem pk_andIn (x : Int32) {m : Int32} (k : Nat) (hm : m.toBitVec.toNat = 2 ^ k - 1) (hk : k ≤ 30) : vp_in (x &&& m) (2 ^ k) := by
  obtain ⟨j, hj, e⟩ := pk_andE x k hm
  rw [e]
  exact vp_in_nI hj (Nat.lt_of_le_of_lt (Nat.pow_le_pow_right (by decide) hk) (by decide))
theorem pk_shl (a s : Int32) (k : Nat) (hs : (s.toBitVec.smod 32).toNat = k) : (a <<< s).toBitVec.toNat = a.toBitVec.toNat * 2 ^ k % 2 ^ 32 := by
  show (a.toBitVec <<< (s.toBitVec.smod 32).toNat).toNat = _
  rw [hs, BitVec.toNat_shiftLeft, Nat.shiftLeft_eq]
theorem pk_shlN {n : Nat} (s : Int32) (k : Nat) (hs : (s.toBitVec.smod 32).toNat = k) (h : n * 2 ^ k < 2 ^ 32) : nI n <<< s = nI (n * 2 ^ k) := by
  apply Int32.toBitVec_inj.mp
  apply BitVec.eq_of_toNat_eq
  have hn : n < 2 ^ 32 := Nat.lt_of_le_of_lt (Nat.le_mul_of_pos_right n (Nat.two_pow_pos k)) h
  rw [pk_shl _ _ k hs, pk_tn hn, pk_tn h, Nat.mod_eq_of_lt h]
theorem pk_shr (a s : Int32) (k : Nat) (hs : (s.toBitVec.smod 32).toNat = k) : (a >>> s).toInt = a.toInt >>> k := by
  show (a.toBitVec.sshiftRight (s.toBitVec.smod 32).toNat).toInt = _
  rw [hs, BitVec.toInt_sshiftRight]
  rfl
theorem pk_shrN {n : Nat} (h : n < 2 ^ 31) (s : Int32) (k : Nat) (hs : (s.toBitVec.smod 32).toNat = k) : nI n >>> s = nI (n / 2 ^ k) := by
  apply Int32.toInt_inj.mp
  have h2 : n / 2 ^ k ≤ n := Nat.div_le_self _ _
  rw [pk_shr _ _ k hs, nI_toInt h, nI_toInt (by omega), Int.shiftRight_eq_div_pow]
  rfl
theorem pk_loop {σ : Type} (W : Nat → Nat → σ → Prop) (I : Nat → σ → Prop) (e i0 : Nat) (s : σ) (hi : i0 ≤ e) (h0 : I i0 s) (hx : ∀ n s, I e s → W (n + 1) e s)
    (hs : ∀ n i s, i < e → I i s → (∀ s', I (i + 1) s' → W n (i + 1) s') → W (n + 1) i s) : ∃ n, W n i0 s :=
  ⟨e + 1, loop_i W I e hx hs (e + 1) i0 s hi (by omega) h0⟩
theorem pk_least (P : Nat → Prop) (h : ∃ k, P k) : ∃ k, P k ∧ ∀ j, j < k → ¬ P j := by
  obtain ⟨k, hk⟩ := h
  induction k using Nat.strongRecOn with
  | ind k ih =>
    by_cases e : ∃ j, j < k ∧ P j
    · obtain ⟨j, hj, pj⟩ := e
      exact ih j hj pj
    · exact ⟨k, hk, fun j hj pj => e ⟨j, hj, pj⟩⟩
def bx_sum (f : Nat → Int32) : Nat → Int32
  | 0 => 0
  | n + 1 => bx_sum f n + f n
theorem co_dec {N : Nat} {P : Nat → Prop} [DecidablePred P] (h : (List.range N).all (fun i => decide (P i)) = true) {i : Nat} (hi : i < N) : P i := by
  have := List.all_eq_true.mp h i (List.mem_range.mpr hi)
  exact of_decide_eq_true this
end
section
/-! classes of two involutions on a set of numbers, counted by transversals -/
def kr_cl (V : Nat → Prop) (s t : Nat → Nat) (S : Nat → Prop) : Prop := ∀ v, V v → S v → S (s v) ∧ S (t v)
/-- w lies in every closed set that holds v -/
def kr_R (V : Nat → Prop) (s t : Nat → Nat) (v w : Nat) : Prop := ∀ S : Nat → Prop, kr_cl V s t S → S v → S w
def kr_inv (V : Nat → Prop) (s : Nat → Nat) : Prop := ∀ v, V v → V (s v) ∧ s (s v) = v
theorem kr_refl {V : Nat → Prop} {s t : Nat → Nat} {v : Nat} : kr_R V s t v v := fun _ _ h => h
theorem kr_trans {V : Nat → Prop} {s t : Nat → Nat} {u v w : Nat} (h1 : kr_R V s t u v) (h2 : kr_R V s t v w) : kr_R V s t u w :=
  fun S c h => h2 S c (h1 S c h)
theorem kr_s {V : Nat → Prop} {s t : Nat → Nat} {v : Nat} (hv : V v) : kr_R V s t v (s v) := fun _ c h => (c v hv h).1
theorem kr_t {V : Nat → Prop} {s t : Nat → Nat} {v : Nat} (hv : V v) : kr_R V s t v (t v) := fun _ c h => (c v hv h).2
theorem kr_V {V : Nat → Prop} {s t : Nat → Nat} {v w : Nat} (hs : kr_inv V s) (ht : kr_inv V t) (hv : V v) (h : kr_R V s t v w) : V w :=
  h V (fun x hx _ => ⟨(hs x hx).1, (ht x hx).1⟩) hv
theorem kr_symm {V : Nat → Prop} {s t : Nat → Nat} {v w : Nat} (hs : kr_inv V s) (ht : kr_inv V t) (hv : V v) (h : kr_R V s t v w) : kr_R V s t w v := by
  have key := h (fun x => V x ∧ kr_R V s t x v) (fun x hx hxx => ?_) ⟨hv, kr_refl⟩
  · exact key.2
  · refine ⟨⟨(hs x hx).1, fun S c q => hxx.2 S c ?_⟩, ⟨(ht x hx).1, fun S c q => hxx.2 S c ?_⟩⟩
    · have z := (c _ (hs x hx).1 q).1
      rwa [(hs x hx).2] at z
    · have z := (c _ (ht x hx).1 q).2
      rwa [(ht x hx).2] at z
/-- l holds one member of each class of R on V -/
def kr_T (V : Nat → Prop) (R : Nat → Nat → Prop) (l : List Nat) : Prop :=
  (∀ u, u ∈ l → V u) ∧ l.Pairwise (fun a b => ¬ R a b) ∧ ∀ v, V v → ∃ u, u ∈ l ∧ R v u
theorem kr_le {V : Nat → Prop} {R : Nat → Nat → Prop} (sy : ∀ a b, V a → R a b → R b a) (tr : ∀ a b c, R a b → R b c → R a c) :
    ∀ (l m : List Nat), (∀ u, u ∈ l → V u) → l.Pairwise (fun a b => ¬ R a b) → (∀ u, u ∈ l → ∃ w, w ∈ m ∧ R u w) → l.length ≤ m.length := by
  intro l
  induction l with
  | nil => intro m _ _ _; exact Nat.zero_le _
  | cons x l ih =>
    intro m hV hp hc
    obtain ⟨w, hw, hxw⟩ := hc x List.mem_cons_self
    rw [List.pairwise_cons] at hp
    have h1 := ih (m.erase w) (fun u hu => hV u (List.mem_cons_of_mem _ hu)) hp.2 (fun u hu => by
      obtain ⟨w', hw', huw⟩ := hc u (List.mem_cons_of_mem _ hu)
      refine ⟨w', ?_, huw⟩
      have hne : w' ≠ w := fun e => by
        subst e
        exact hp.1 u hu (tr _ _ _ hxw (sy _ _ (hV u (List.mem_cons_of_mem _ hu)) huw))
      exact (List.mem_erase_of_ne hne).mpr hw')
    rw [List.length_erase_of_mem hw] at h1
    have h2 : 0 < m.length := List.length_pos_of_mem hw
    rw [List.length_cons]
    omega
theorem kr_uniq {V : Nat → Prop} {R : Nat → Nat → Prop} (sy : ∀ a b, V a → R a b → R b a) (tr : ∀ a b c, R a b → R b c → R a c)
    {l m : List Nat} (hl : kr_T V R l) (hm : kr_T V R m) : l.length = m.length :=
  Nat.le_antisymm (kr_le sy tr l m hl.1 hl.2.1 (fun u hu => hm.2.2 u (hl.1 u hu)))
    (kr_le sy tr m l hm.1 hm.2.1 (fun u hu => hl.2.2 u (hm.1 u hu)))
/-- N classes -/
def kr_N (V : Nat → Prop) (s t : Nat → Nat) (N : Nat) : Prop := ∃ l : List Nat, kr_T V (kr_R V s t) l ∧ l.length = N
theorem kr_Nuniq {V : Nat → Prop} {s t : Nat → Nat} {M N : Nat} (hs : kr_inv V s) (ht : kr_inv V t) (h1 : kr_N V s t M) (h2 : kr_N V s t N) : M = N := by
  obtain ⟨l, hl, rfl⟩ := h1
  obtain ⟨m, hm, rfl⟩ := h2
  exact kr_uniq (V := V) (R := kr_R V s t) (fun a b ha h => kr_symm hs ht ha h) (fun a b c => kr_trans) hl hm
/-- the other set, the other relation, a map that keeps and reflects -/
theorem kr_map {V W : Nat → Prop} {R Q : Nat → Nat → Prop} (f : Nat → Nat) (hf : ∀ v, V v → W (f v)) (hR : ∀ a b, V a → V b → (R a b ↔ Q (f a) (f b)))
    (hS : ∀ w, W w → ∃ v, V v ∧ Q w (f v)) (tr : ∀ a b c, Q a b → Q b c → Q a c) {l : List Nat} (hl : kr_T V R l) : kr_T W Q (l.map f) := by
  refine ⟨fun u hu => ?_, ?_, fun w hw => ?_⟩
  · obtain ⟨v, hv, rfl⟩ := List.mem_map.mp hu
    exact hf v (hl.1 v hv)
  · rw [List.pairwise_map]
    exact hl.2.1.imp_of_mem (fun ha hb hn q => hn ((hR _ _ (hl.1 _ ha) (hl.1 _ hb)).mpr q))
  · obtain ⟨v, hv, hq⟩ := hS w hw
    obtain ⟨u, hu, hr⟩ := hl.2.2 v hv
    exact ⟨f u, List.mem_map_of_mem hu, tr _ _ _ hq ((hR _ _ hv (hl.1 u hu)).mp hr)⟩
/-- s with a and b taken out, their partners joined -/
def kr_sp (s : Nat → Nat) (a b : Nat) (v : Nat) : Nat := if s v = a then s b else if s v = b then s a else s v
theorem kr_sp_inv {V V' : Nat → Prop} {s : Nat → Nat} {a b : Nat} (hs : kr_inv V s) (h0 : ∀ v, V v → s v ≠ v) (ha : V a) (hb : V b)
    (hab : a ≠ b) (hV : ∀ v, V' v ↔ V v ∧ v ≠ a ∧ v ≠ b) : kr_inv V' (kr_sp s a b) ∧ ∀ v, V' v → kr_sp s a b v ≠ v := by
  have inj : ∀ x y, V x → V y → s x = s y → x = y := fun x y hx hy e => by rw [← (hs x hx).2, ← (hs y hy).2, e]
  refine ⟨fun v hv => ?_, fun v hv => ?_⟩
  · obtain ⟨v0, va, vb⟩ := (hV v).mp hv
    by_cases h1 : s v = a
    · have e1 : kr_sp s a b v = s b := if_pos h1
      have e2 : s a = v := by rw [← h1]; exact (hs v v0).2
      have n1 : s b ≠ a := fun e => vb (by rw [← e2, ← e]; exact (hs b hb).2)
      refine ⟨by rw [e1]; exact (hV _).mpr ⟨(hs b hb).1, n1, h0 b hb⟩, ?_⟩
      rw [e1]
      show (if s (s b) = a then s b else if s (s b) = b then s a else s (s b)) = v
      rw [(hs b hb).2, if_neg (Ne.symm hab), if_pos rfl, e2]
    · by_cases h2 : s v = b
      · have e1 : kr_sp s a b v = s a := by rw [kr_sp, if_neg h1, if_pos h2]
        have e2 : s b = v := by rw [← h2]; exact (hs v v0).2
        have n1 : s a ≠ b := fun e => va (by rw [← e2, ← e]; exact (hs a ha).2)
        refine ⟨by rw [e1]; exact (hV _).mpr ⟨(hs a ha).1, h0 a ha, n1⟩, ?_⟩
        rw [e1]
        show (if s (s a) = a then s b else if s (s a) = b then s a else s (s a)) = v
        rw [(hs a ha).2, if_pos rfl, e2]
      · have e1 : kr_sp s a b v = s v := by rw [kr_sp, if_neg h1, if_neg h2]
        refine ⟨by rw [e1]; exact (hV _).mpr ⟨(hs v v0).1, h1, h2⟩, ?_⟩
        rw [e1]
        show (if s (s v) = a then s b else if s (s v) = b then s a else s (s v)) = v
        rw [(hs v v0).2, if_neg va, if_neg vb]
  · obtain ⟨v0, va, vb⟩ := (hV v).mp hv
    intro e
    by_cases h1 : s v = a
    · rw [kr_sp, if_pos h1] at e
      have e2 : s a = v := by rw [← h1]; exact (hs v v0).2
      exact hab (inj a b ha hb (by rw [e, e2]))
    · by_cases h2 : s v = b
      · rw [kr_sp, if_neg h1, if_pos h2] at e
        have e2 : s b = v := by rw [← h2]; exact (hs v v0).2
        exact hab (inj a b ha hb (by rw [e, e2]))
      · rw [kr_sp, if_neg h1, if_neg h2] at e
        exact h0 v v0 e
/-- the splice: a pair a, b = t a is taken out -/
theorem kr_splice {V V' : Nat → Prop} {s t : Nat → Nat} {a b : Nat} (hs : kr_inv V s) (h0 : ∀ v, V v → s v ≠ v) (ht : kr_inv V t)
    (ha : V a) (hb : t a = b) (hab : a ≠ b) (hV : ∀ v, V' v ↔ V v ∧ v ≠ a ∧ v ≠ b) {l : List Nat}
    (T : kr_T V' (kr_R V' (kr_sp s a b) t) l) : kr_T V (kr_R V s t) (if s a = b then a :: l else l) := by
  have hVb : V b := by rw [← hb]; exact (ht a ha).1
  have tb : t b = a := by rw [← hb]; exact (ht a ha).2
  have si := kr_sp_inv hs h0 ha hVb hab hV
  have tV : ∀ v, V' v → V' (t v) := fun v hv => by
    obtain ⟨v0, va, vb⟩ := (hV v).mp hv
    refine (hV _).mpr ⟨(ht v v0).1, fun e => vb ?_, fun e => va ?_⟩
    · rw [← (ht v v0).2, e, hb]
    · rw [← (ht v v0).2, e, tb]
  have R1 : ∀ x y, V' x → V' y → kr_R V s t x y → kr_R V' (kr_sp s a b) t x y := by
    intro x y hx hy h S' c hS
    have key := h (fun v => (V' v ∧ S' v) ∨ ((v = a ∨ v = b) ∧ s a ≠ b ∧ S' (s a))) (fun v hv hS1 => ?_) (Or.inl ⟨hx, hS⟩)
    · rcases key with key | key
      · exact key.2
      · obtain ⟨_, ya, yb⟩ := (hV y).mp hy
        rcases key.1 with e | e
        · exact absurd e ya
        · exact absurd e yb
    · rcases hS1 with ⟨hv', hS1⟩ | ⟨hv', hn, hS1⟩
      · obtain ⟨v0, va, vb⟩ := (hV v).mp hv'
        have cc := c v hv' hS1
        refine ⟨?_, Or.inl ⟨tV v hv', cc.2⟩⟩
        by_cases h1 : s v = a
        · have e2 : s a = v := by rw [← h1]; exact (hs v v0).2
          exact Or.inr ⟨Or.inl h1, by rw [e2]; exact vb, by rw [e2]; exact hS1⟩
        · by_cases h2 : s v = b
          · have e2 : s b = v := by rw [← h2]; exact (hs v v0).2
            refine Or.inr ⟨Or.inr h2, fun e => va ?_, ?_⟩
            · rw [← e2, ← e]; exact (hs a ha).2
            · have z := cc.1
              rw [kr_sp, if_neg h1, if_pos h2] at z
              exact z
          · have z := cc.1
            rw [kr_sp, if_neg h1, if_neg h2] at z
            exact Or.inl ⟨(hV _).mpr ⟨(hs v v0).1, h1, h2⟩, z⟩
      · have va' : V' (s a) := (hV _).mpr ⟨(hs a ha).1, h0 a ha, hn⟩
        rcases hv' with rfl | rfl
        · exact ⟨Or.inl ⟨va', hS1⟩, Or.inr ⟨Or.inr hb, hn, hS1⟩⟩
        · have z := (c _ va' hS1).1
          rw [kr_sp, (hs a ha).2, if_pos rfl] at z
          refine ⟨Or.inl ⟨(hV _).mpr ⟨(hs v hVb).1, fun e => hn ?_, h0 v hVb⟩, z⟩, Or.inr ⟨Or.inl tb, hn, hS1⟩⟩
          rw [← e]; exact (hs v hVb).2
  have R2 : ∀ x y, V' x → kr_R V' (kr_sp s a b) t x y → kr_R V s t x y := by
    intro x y hx h S c hS
    refine h S (fun v hv hv1 => ?_) hS
    obtain ⟨v0, va, vb⟩ := (hV v).mp hv
    have cc := c v v0 hv1
    refine ⟨?_, cc.2⟩
    by_cases h1 : s v = a
    · rw [kr_sp, if_pos h1]
      have z1 := (c a ha (h1 ▸ cc.1)).2
      rw [hb] at z1
      exact (c b hVb z1).1
    · by_cases h2 : s v = b
      · rw [kr_sp, if_neg h1, if_pos h2]
        have z1 := (c b hVb (h2 ▸ cc.1)).2
        rw [tb] at z1
        exact (c a ha z1).1
      · rw [kr_sp, if_neg h1, if_neg h2]
        exact cc.1
  have pw : l.Pairwise (fun x y => ¬ kr_R V s t x y) :=
    T.2.1.imp_of_mem (fun hx hy hn q => hn (R1 _ _ (T.1 _ hx) (T.1 _ hy) q))
  have cov : ∀ v, V' v → ∃ u, u ∈ l ∧ kr_R V s t v u := fun v hv => by
    obtain ⟨u, hu, hr⟩ := T.2.2 v hv
    exact ⟨u, hu, R2 v u hv hr⟩
  have inV : ∀ u, u ∈ l → V u := fun u hu => ((hV u).mp (T.1 u hu)).1
  by_cases hc : s a = b
  · rw [if_pos hc]
    have sb : s b = a := by rw [← hc]; exact (hs a ha).2
    refine ⟨fun u hu => ?_, ?_, fun v hv => ?_⟩
    · rcases List.mem_cons.mp hu with rfl | hu
      · exact ha
      · exact inV u hu
    · refine List.pairwise_cons.mpr ⟨fun u hu hr => ?_, pw⟩
      have z := hr (fun x => x = a ∨ x = b) (fun x _ hx => by
        rcases hx with rfl | rfl
        · exact ⟨Or.inr hc, Or.inr hb⟩
        · exact ⟨Or.inl sb, Or.inl tb⟩) (Or.inl rfl)
      obtain ⟨_, ua, ub⟩ := (hV u).mp (T.1 u hu)
      rcases z with z | z
      · exact ua z
      · exact ub z
    · by_cases va : v = a
      · exact ⟨a, List.mem_cons_self, by rw [va]; exact kr_refl⟩
      · by_cases vb : v = b
        · refine ⟨a, List.mem_cons_self, ?_⟩
          have z := kr_t (V := V) (s := s) (t := t) hVb
          rw [tb] at z
          rw [vb]; exact z
        · obtain ⟨u, hu, hr⟩ := cov v ((hV v).mpr ⟨hv, va, vb⟩)
          exact ⟨u, List.mem_cons_of_mem _ hu, hr⟩
  · rw [if_neg hc]
    have va' : V' (s a) := (hV _).mpr ⟨(hs a ha).1, h0 a ha, hc⟩
    refine ⟨inV, pw, fun v hv => ?_⟩
    obtain ⟨u, hu, hr⟩ := cov _ va'
    by_cases va : v = a
    · rw [va]
      exact ⟨u, hu, kr_trans (kr_s ha) hr⟩
    · by_cases vb : v = b
      · have z := kr_t (V := V) (s := s) (t := t) hVb
        rw [tb] at z
        rw [vb]
        exact ⟨u, hu, kr_trans z (kr_trans (kr_s ha) hr)⟩
      · exact cov v ((hV v).mpr ⟨hv, va, vb⟩)
end
section
/-! the reference's walk along one loop, and over all starts -/
def kw_I (V : Nat → Prop) (s t : Nat → Nat) (S0 : Nat → Prop) (x : Nat) (S : Nat → Prop) (y : Nat) : Prop :=
  V y ∧ ¬ S0 y ∧ (∀ v, S0 v → S v) ∧ (∀ v, S v → V v) ∧ (∀ v, S v → S (s v)) ∧
  (∀ v, S v → ¬ S0 v → kr_R V s t x v) ∧ kr_R V s t x y ∧
  (∀ v, S v → ¬ S0 v → v ≠ x → S (t v) ∨ t v = y) ∧
  ((y = x ∧ ∀ v, S v → S0 v) ∨ (S x ∧ S (t y) ∧ ¬ S0 (t y) ∧ (S y → y = x)))
theorem kw_0 {V : Nat → Prop} {s t : Nat → Nat} {S0 : Nat → Prop} {x : Nat} (hx : V x) (hn : ¬ S0 x) (h0 : ∀ v, S0 v → V v ∧ S0 (s v) ∧ S0 (t v)) :
    kw_I V s t S0 x S0 x :=
  ⟨hx, hn, fun _ h => h, fun v h => (h0 v h).1, fun v h => (h0 v h).2.1, fun _ h hh => absurd h hh, kr_refl, fun _ h hh => absurd h hh, Or.inl ⟨rfl, fun _ h => h⟩⟩
theorem kw_s {V : Nat → Prop} {s t : Nat → Nat} {S0 S : Nat → Prop} {x y : Nat} (hs : kr_inv V s) (hs0 : ∀ v, V v → s v ≠ v) (ht : kr_inv V t) (ht0 : ∀ v, V v → t v ≠ v)
    (h0 : ∀ v, S0 v → V v ∧ S0 (s v) ∧ S0 (t v)) (I : kw_I V s t S0 x S y) (hy : ¬ S y) : kw_I V s t S0 x (fun v => S v ∨ v = y ∨ v = s y) (t (s y)) := by
  obtain ⟨Vy, ny, sub, inV, cs, cR, cy, ct, dj⟩ := I
  have Vsy := (hs y Vy).1
  have ssy := (hs y Vy).2
  have Vy' := (ht _ Vsy).1
  have tty := (ht _ Vsy).2
  have nsy : ¬ S0 (s y) := fun q => ny (by have z := (h0 _ q).2.1; rwa [ssy] at z)
  have nSsy : ¬ S (s y) := fun q => hy (by have z := cs _ q; rwa [ssy] at z)
  have ny' : ¬ S0 (t (s y)) := fun q => nsy (by have z := (h0 _ q).2.2; rwa [tty] at z)
  have Rsy : kr_R V s t x (s y) := kr_trans cy (kr_s Vy)
  refine ⟨Vy', ny', fun v h => Or.inl (sub v h), ?_, ?_, ?_, kr_trans Rsy (kr_t Vsy), ?_, Or.inr ⟨?_, ?_, ?_, ?_⟩⟩
  · intro v h
    rcases h with h | h | h
    · exact inV v h
    · rw [h]; exact Vy
    · rw [h]; exact Vsy
  · intro v h
    rcases h with h | h | h
    · exact Or.inl (cs v h)
    · rw [h]; exact Or.inr (Or.inr rfl)
    · rw [h, ssy]; exact Or.inr (Or.inl rfl)
  · intro v h hn
    rcases h with h | h | h
    · exact cR v h hn
    · rw [h]; exact cy
    · rw [h]; exact Rsy
  · intro v h hn hx
    rcases h with h | h | h
    · rcases ct v h hn hx with q | q
      · exact Or.inl (Or.inl q)
      · exact Or.inl (Or.inr (Or.inl q))
    · rcases dj with q | q
      · exact absurd (h.trans q.1) hx
      · rw [h]; exact Or.inl (Or.inl q.2.1)
    · rw [h]; exact Or.inr rfl
  · rcases dj with q | q
    · exact Or.inr (Or.inl q.1.symm)
    · exact Or.inl q.1
  · rw [tty]; exact Or.inr (Or.inr rfl)
  · rw [tty]; exact nsy
  · intro h
    rcases h with h | h | h
    · by_cases e : t (s y) = x
      · exact e
      · rcases ct _ h ny' e with q | q
        · rw [tty] at q; exact absurd q nSsy
        · rw [tty] at q; exact absurd q (hs0 y Vy)
    · rcases dj with q | q
      · rw [h]; exact q.1
      · have z := q.2.1
        have e : t y = s y := by rw [← tty, h]
        rw [e] at z
        exact absurd z nSsy
    · exact absurd h (ht0 _ Vsy)
theorem kw_e {V : Nat → Prop} {s t : Nat → Nat} {S0 S : Nat → Prop} {x y : Nat} (h0 : ∀ v, S0 v → V v ∧ S0 (s v) ∧ S0 (t v))
    (I : kw_I V s t S0 x S y) (hy : S y) : ∀ v, S v ↔ S0 v ∨ kr_R V s t x v := by
  obtain ⟨Vy, ny, sub, inV, cs, cR, cy, ct, dj⟩ := I
  rcases dj with q | q
  · exact absurd (q.2 _ hy) ny
  · have e := q.2.2.2 hy
    subst e
    have ctt : ∀ v, S v → S (t v) := fun v h => by
      by_cases hv : S0 v
      · exact sub _ (h0 v hv).2.2
      · by_cases hx : v = y
        · rw [hx]; exact q.2.1
        · rcases ct v h hv hx with z | z
          · exact z
          · rw [z]; exact q.1
    intro v
    refine ⟨fun h => ?_, fun h => ?_⟩
    · by_cases hv : S0 v
      · exact Or.inl hv
      · exact Or.inr (cR v h hv)
    · rcases h with h | h
      · exact sub v h
      · exact h S (fun w _ hw => ⟨cs w hw, ctt w hw⟩) q.1
/-- starts below x are done -/
def kw_O (V : Nat → Prop) (s t : Nat → Nat) (x : Nat) (S : Nat → Prop) (l : List Nat) : Prop :=
  (∀ u, u ∈ l → V u) ∧ l.Pairwise (fun a b => ¬ kr_R V s t a b) ∧ (∀ v, S v ↔ V v ∧ ∃ u, u ∈ l ∧ kr_R V s t v u) ∧ ∀ v, v < x → V v → S v
theorem kw_Oc {V : Nat → Prop} {s t : Nat → Nat} {x : Nat} {S : Nat → Prop} {l : List Nat} (hs : kr_inv V s) (ht : kr_inv V t) (O : kw_O V s t x S l) :
    ∀ v, S v → V v ∧ S (s v) ∧ S (t v) := by
  intro v h
  obtain ⟨hv, u, hu, hr⟩ := (O.2.2.1 v).mp h
  refine ⟨hv, (O.2.2.1 _).mpr ⟨(hs v hv).1, u, hu, ?_⟩, (O.2.2.1 _).mpr ⟨(ht v hv).1, u, hu, ?_⟩⟩
  · have z := kr_s (V := V) (s := s) (t := t) (hs v hv).1
    rw [(hs v hv).2] at z
    exact kr_trans z hr
  · have z := kr_t (V := V) (s := s) (t := t) (ht v hv).1
    rw [(ht v hv).2] at z
    exact kr_trans z hr
theorem kw_O0 {V : Nat → Prop} {s t : Nat → Nat} {S : Nat → Prop} (h : ∀ v, ¬ S v) : kw_O V s t 0 S [] :=
  ⟨fun _ h => (nomatch h), List.Pairwise.nil, fun v => ⟨fun q => absurd q (h v), fun q => by obtain ⟨_, u, hu, _⟩ := q; cases hu⟩, fun _ h => absurd h (Nat.not_lt_zero _)⟩
theorem kw_On {V : Nat → Prop} {s t : Nat → Nat} {x : Nat} {S : Nat → Prop} {l : List Nat} (O : kw_O V s t x S l) (h : V x → S x) : kw_O V s t (x + 1) S l :=
  ⟨O.1, O.2.1, O.2.2.1, fun v hv hV => by
    by_cases e : v = x
    · rw [e] at hV; rw [e]; exact h hV
    · exact O.2.2.2 v (by omega) hV⟩
theorem kw_Os {V : Nat → Prop} {s t : Nat → Nat} {x : Nat} {S S' : Nat → Prop} {l : List Nat} (hs : kr_inv V s) (ht : kr_inv V t) (O : kw_O V s t x S l) (hx : V x) (hn : ¬ S x)
    (h : ∀ v, S' v ↔ S v ∨ kr_R V s t x v) : kw_O V s t (x + 1) S' (x :: l) := by
  refine ⟨fun u hu => ?_, List.pairwise_cons.mpr ⟨fun u hu hr => ?_, O.2.1⟩, fun v => ?_, fun v hv hV => ?_⟩
  · rcases List.mem_cons.mp hu with rfl | hu
    · exact hx
    · exact O.1 u hu
  · exact hn ((O.2.2.1 x).mpr ⟨hx, u, hu, hr⟩)
  · rw [h, O.2.2.1]
    constructor
    · intro q
      rcases q with ⟨hv, u, hu, hr⟩ | q
      · exact ⟨hv, u, List.mem_cons_of_mem _ hu, hr⟩
      · exact ⟨kr_V hs ht hx q, x, List.mem_cons_self, kr_symm hs ht hx q⟩
    · intro q
      obtain ⟨hv, u, hu, hr⟩ := q
      rcases List.mem_cons.mp hu with rfl | hu
      · exact Or.inr (kr_symm hs ht hv hr)
      · exact Or.inl ⟨hv, u, hu, hr⟩
  · rw [h]
    by_cases e : v = x
    · rw [e]; exact Or.inr kr_refl
    · exact Or.inl (O.2.2.2 v (by omega) hV)
theorem kw_Oe {V : Nat → Prop} {s t : Nat → Nat} {x : Nat} {S : Nat → Prop} {l : List Nat} (hV : ∀ v, V v → v < x) (O : kw_O V s t x S l) : kr_N V s t l.length :=
  ⟨l, ⟨O.1, O.2.1, fun v hv => ((O.2.2.1 v).mp (O.2.2.2 v (hV v hv) hv)).2⟩, rfl⟩
/-- how many of the first n are marked -/
def kw_c (a : Nat → Int32) : Nat → Nat
  | 0 => 0
  | n + 1 => kw_c a n + (if a n = 0 then 0 else 1)
theorem kw_c_le (a : Nat → Int32) : ∀ n, kw_c a n ≤ n := by
  intro n
  induction n with
  | zero => exact Nat.le_refl 0
  | succ n ih =>
    show kw_c a n + (if a n = 0 then 0 else 1) ≤ n + 1
    split <;> omega
theorem kw_c_all (a : Nat → Int32) : ∀ n, n ≤ kw_c a n → ∀ i, i < n → a i ≠ 0 := by
  intro n
  induction n with
  | zero => intro _ i hi; omega
  | succ n ih =>
    intro h i hi
    have h1 := kw_c_le a n
    have h2 : n + 1 ≤ kw_c a n + (if a n = 0 then 0 else 1) := h
    by_cases e : a n = 0
    · rw [if_pos e] at h2; omega
    · rw [if_neg e] at h2
      by_cases q : i = n
      · rw [q]; exact e
      · exact ih (by omega) i (by omega)
theorem kw_c_up (a : Nat → Int32) (i : Nat) {x : Int32} (hx : x ≠ 0) : ∀ n, kw_c a n ≤ kw_c (upd a i x) n := by
  intro n
  induction n with
  | zero => exact Nat.le_refl 0
  | succ n ih =>
    show kw_c a n + (if a n = 0 then 0 else 1) ≤ kw_c (upd a i x) n + (if upd a i x n = 0 then 0 else 1)
    by_cases q : n = i
    · rw [q, pk_us, if_neg hx]
      rw [q] at ih
      split <;> omega
    · rw [pk_un q]; omega
theorem kw_c_new (a : Nat → Int32) (i : Nat) {x : Int32} (hx : x ≠ 0) (h0 : a i = 0) : ∀ n, i < n → kw_c a n + 1 ≤ kw_c (upd a i x) n := by
  intro n
  induction n with
  | zero => intro h; omega
  | succ n ih =>
    intro h
    show kw_c a n + (if a n = 0 then 0 else 1) + 1 ≤ kw_c (upd a i x) n + (if upd a i x n = 0 then 0 else 1)
    by_cases q : n = i
    · have h1 := kw_c_up a i hx n
      rw [q] at h1
      rw [q, pk_us, if_neg hx, if_pos h0]
      omega
    · have h1 := ih (by omega)
      rw [pk_un q]; omega
end
section
/-! a frontier of labelled ends over a set of ends; nb is the fixed matching elsewhere -/
def kf_S (nb : Nat → Nat) (V : Nat → Prop) (s fe p : Nat → Nat) (O : Nat → Prop) : Prop :=
  (∀ j, O j → V (fe j) ∧ s (fe j) = fe (p j)) ∧ (kr_inv O p ∧ ∀ j, O j → p j ≠ j) ∧ (∀ i j, O i → O j → fe i = fe j → i = j) ∧
  ∀ v, V v → (∀ j, O j → fe j ≠ v) → s v = nb v ∧ V (nb v) ∧ (∀ j, O j → fe j ≠ nb v) ∧ nb (nb v) = v ∧ nb v ≠ v
def kf_C (nb : Nat → Nat) (V : Nat → Prop) (t fe p : Nat → Nat) (O : Nat → Prop) (N : Nat) : Prop :=
  ∀ s, kf_S nb V s fe p O → kr_N V s t N
theorem kf_inv {nb : Nat → Nat} {V : Nat → Prop} {s fe p : Nat → Nat} {O : Nat → Prop} (h : kf_S nb V s fe p O) : kr_inv V s ∧ ∀ v, V v → s v ≠ v := by
  obtain ⟨h1, h2, h3, h4⟩ := h
  refine ⟨fun v hv => ?_, fun v hv => ?_⟩
  · by_cases e : ∃ j, O j ∧ fe j = v
    · obtain ⟨j, hj, rfl⟩ := e
      have a := h1 j hj
      have b := h1 (p j) (h2.1 j hj).1
      rw [a.2]
      exact ⟨b.1, by rw [b.2, (h2.1 j hj).2]⟩
    · have q := h4 v hv (fun j hj z => e ⟨j, hj, z⟩)
      have q2 := h4 _ q.2.1 q.2.2.1
      rw [q.1]
      exact ⟨q.2.1, by rw [q2.1, q.2.2.2.1]⟩
  · by_cases e : ∃ j, O j ∧ fe j = v
    · obtain ⟨j, hj, rfl⟩ := e
      rw [(h1 j hj).2]
      exact fun z => h2.2 j hj (h3 _ _ (h2.1 j hj).1 hj z)
    · have q := h4 v hv (fun j hj z => e ⟨j, hj, z⟩)
      rw [q.1]
      exact q.2.2.2.2
theorem kf_cong {nb : Nat → Nat} {V V' : Nat → Prop} {s fe fe' p p' : Nat → Nat} {O O' : Nat → Prop} (hV : ∀ v, V' v ↔ V v) (hO : ∀ j, O' j ↔ O j)
    (hf : ∀ j, O j → fe' j = fe j) (hp : ∀ j, O j → p' j = p j) (h : kf_S nb V s fe p O) : kf_S nb V' s fe' p' O' := by
  obtain ⟨h1, h2, h3, h4⟩ := h
  have nf : ∀ v, (∀ j, O' j → fe' j ≠ v) ↔ (∀ j, O j → fe j ≠ v) := fun v =>
    ⟨fun q j hj => by rw [← hf j hj]; exact q j ((hO j).mpr hj), fun q j hj => by rw [hf j ((hO j).mp hj)]; exact q j ((hO j).mp hj)⟩
  refine ⟨fun j hj => ?_, ⟨fun j hj => ?_, fun j hj => ?_⟩, fun i j hi hj e => ?_, fun v hv hn => ?_⟩
  · have a := h1 j ((hO j).mp hj)
    have b := (h2.1 j ((hO j).mp hj)).1
    rw [hf j ((hO j).mp hj), hp j ((hO j).mp hj), hf _ b]
    exact ⟨(hV _).mpr a.1, a.2⟩
  · have b := h2.1 j ((hO j).mp hj)
    rw [hp j ((hO j).mp hj), hp _ b.1]
    exact ⟨(hO _).mpr b.1, b.2⟩
  · rw [hp j ((hO j).mp hj)]
    exact h2.2 j ((hO j).mp hj)
  · rw [hf i ((hO i).mp hi), hf j ((hO j).mp hj)] at e
    exact h3 i j ((hO i).mp hi) ((hO j).mp hj) e
  · have q := h4 v ((hV v).mp hv) ((nf v).mp hn)
    exact ⟨q.1, (hV _).mpr q.2.1, (nf _).mpr q.2.2.1, q.2.2.2⟩
theorem kf_Ccong {nb : Nat → Nat} {V V' : Nat → Prop} {t fe fe' p p' : Nat → Nat} {O O' : Nat → Prop} {N : Nat} (hV : ∀ v, V v ↔ V' v) (hO : ∀ j, O j ↔ O' j)
    (hf : ∀ j, O' j → fe j = fe' j) (hp : ∀ j, O' j → p j = p' j) (h : kf_C nb V t fe p O N) : kf_C nb V' t fe' p' O' N := by
  have e : V = V' := funext fun v => propext (hV v)
  subst e
  intro s hs
  exact h s (kf_cong hV hO hf hp hs)
theorem kf_tau {nb : Nat → Nat} {V : Nat → Prop} {s fe p : Nat → Nat} {O : Nat → Prop} (t : Nat → Nat) (tt : ∀ j, t (t j) = j) (h : kf_S nb V s fe p O) :
    kf_S nb V s (fun j => fe (t j)) (fun j => t (p (t j))) (fun j => O (t j)) := by
  obtain ⟨h1, h2, h3, h4⟩ := h
  refine ⟨fun j hj => ?_, ⟨fun j hj => ?_, fun j hj e => ?_⟩, fun i j hi hj e => ?_, fun v hv hn => ?_⟩
  · show V (fe (t j)) ∧ s (fe (t j)) = fe (t (t (p (t j))))
    rw [tt]
    exact h1 _ hj
  · show O (t (t (p (t j)))) ∧ t (p (t (t (p (t j))))) = j
    rw [tt, (h2.1 _ hj).2, tt]
    exact ⟨(h2.1 _ hj).1, rfl⟩
  · have e' : t (p (t j)) = j := e
    refine h2.2 _ hj ?_
    rw [← tt (p (t j)), e']
  · have q := h3 _ _ hi hj e
    rw [← tt i, q, tt]
  · have nf : ∀ j, O j → fe j ≠ v := fun j hj => by
      have z := hn (t j) (by show O (t (t j)); rw [tt]; exact hj)
      have z' : fe (t (t j)) ≠ v := z
      rwa [tt] at z'
    have q := h4 v hv nf
    exact ⟨q.1, q.2.1, fun j hj => q.2.2.1 _ hj, q.2.2.2⟩
theorem kf_Ctau {nb : Nat → Nat} {V : Nat → Prop} {tt' fe p : Nat → Nat} {O : Nat → Prop} {N : Nat} (t : Nat → Nat) (tt : ∀ j, t (t j) = j)
    (h : kf_C nb V tt' (fun j => fe (t j)) (fun j => t (p (t j))) (fun j => O (t j)) N) : kf_C nb V tt' fe p O N :=
  fun s hs => h s (kf_tau t tt hs)
/-- two frontier ends are joined -/
theorem kf_join {nb : Nat → Nat} {V V' : Nat → Prop} {t fe p : Nat → Nat} {O O' : Nat → Prop} {N i j : Nat} (ht : kr_inv V t) (hi : O i) (hj : O j) (hij : i ≠ j) (hab : t (fe i) = fe j)
    (hV : ∀ v, V' v ↔ V v ∧ v ≠ fe i ∧ v ≠ fe j) (hO : ∀ m, O' m ↔ O m ∧ m ≠ i ∧ m ≠ j) (h : kf_C nb V' t fe (kr_sp p i j) O' N) :
    kf_C nb V t fe p O (if p i = j then N + 1 else N) := by
  intro s S
  have iv := kf_inv S
  obtain ⟨h1, h2, h3, h4⟩ := S
  have nab : fe i ≠ fe j := fun e => hij (h3 i j hi hj e)
  have S' : kf_S nb V' (kr_sp s (fe i) (fe j)) fe (kr_sp p i j) O' := by
    refine ⟨fun m hm => ?_, kr_sp_inv h2.1 h2.2 hi hj hij hO, fun a b ha hb e => h3 a b ((hO a).mp ha).1 ((hO b).mp hb).1 e, fun v hv hn => ?_⟩
    · obtain ⟨m0, mi, mj⟩ := (hO m).mp hm
      refine ⟨(hV _).mpr ⟨(h1 m m0).1, fun e => mi (h3 m i m0 hi e), fun e => mj (h3 m j m0 hj e)⟩, ?_⟩
      have pm := (h2.1 m m0).1
      rw [kr_sp, kr_sp, (h1 m m0).2]
      by_cases e1 : p m = i
      · rw [if_pos (by rw [e1]), if_pos e1, (h1 j hj).2]
      · rw [if_neg (fun e => e1 (h3 _ _ pm hi e)), if_neg e1]
        by_cases e2 : p m = j
        · rw [if_pos (by rw [e2]), if_pos e2, (h1 i hi).2]
        · rw [if_neg (fun e => e2 (h3 _ _ pm hj e)), if_neg e2]
    · obtain ⟨v0, vi, vj⟩ := (hV v).mp hv
      have q := h4 v v0 (fun m hm e => by
        by_cases a : m = i
        · rw [a] at e; exact vi e.symm
        · by_cases b : m = j
          · rw [b] at e; exact vj e.symm
          · exact hn m ((hO m).mpr ⟨hm, a, b⟩) e)
      have n1 : nb v ≠ fe i := fun e => q.2.2.1 i hi e.symm
      have n2 : nb v ≠ fe j := fun e => q.2.2.1 j hj e.symm
      refine ⟨?_, (hV _).mpr ⟨q.2.1, n1, n2⟩, fun m hm => q.2.2.1 m ((hO m).mp hm).1, q.2.2.2⟩
      rw [kr_sp, q.1, if_neg n1, if_neg n2]
  obtain ⟨l, T, hl⟩ := h _ S'
  have Z := kr_splice iv.1 iv.2 ht (h1 i hi).1 hab nab hV T
  refine ⟨_, Z, ?_⟩
  have e : s (fe i) = fe j ↔ p i = j := by
    rw [(h1 i hi).2]
    exact ⟨fun e => h3 _ _ (h2.1 i hi).1 hj e, fun e => by rw [e]⟩
  by_cases c : p i = j
  · rw [if_pos c, if_pos (e.mpr c), List.length_cons, hl]
  · rw [if_neg c, if_neg (fun z => c (e.mp z)), hl]
/-- a frontier end runs through to a new one; the label stays -/
theorem kf_move {nb : Nat → Nat} {V V' : Nat → Prop} {t fe fe' p : Nat → Nat} {O : Nat → Prop} {N i b : Nat} (ht : kr_inv V t) (hi : O i) (hb : V b) (hab : t (fe i) = b) (nfb : ∀ j, O j → fe j ≠ b)
    (hV : ∀ v, V' v ↔ V v ∧ v ≠ fe i ∧ v ≠ b) (hf : fe' i = nb b) (hfo : ∀ j, O j → j ≠ i → fe' j = fe j) (h : kf_C nb V' t fe' p O N) : kf_C nb V t fe p O N := by
  intro s S
  have iv := kf_inv S
  obtain ⟨h1, h2, h3, h4⟩ := S
  have nab : fe i ≠ b := nfb i hi
  have qb := h4 b hb nfb
  have qc := h4 _ qb.2.1 qb.2.2.1
  rw [qb.2.2.2.1] at qc
  have S' : kf_S nb V' (kr_sp s (fe i) b) fe' p O := by
    refine ⟨fun m hm => ?_, h2, fun x y hx hy e => ?_, fun v hv hn => ?_⟩
    · have pm := (h2.1 m hm).1
      by_cases em : m = i
      · subst em
        rw [hf, hfo _ pm (h2.2 m hm), kr_sp, qc.1, if_neg (Ne.symm nab), if_pos rfl, (h1 m hm).2]
        exact ⟨(hV _).mpr ⟨qb.2.1, fun e => qb.2.2.1 m hm e.symm, qb.2.2.2.2⟩, rfl⟩
      · rw [hfo m hm em]
        refine ⟨(hV _).mpr ⟨(h1 m hm).1, fun e => em (h3 _ _ hm hi e), nfb m hm⟩, ?_⟩
        rw [kr_sp, (h1 m hm).2]
        by_cases e1 : p m = i
        · rw [if_pos (by rw [e1]), e1, hf, qb.1]
        · rw [if_neg (fun e => e1 (h3 _ _ pm hi e)), if_neg (nfb _ pm), hfo _ pm e1]
    · by_cases ex : x = i
      · by_cases ey : y = i
        · rw [ex, ey]
        · subst ex
          rw [hf, hfo y hy ey] at e
          exact absurd e.symm (qb.2.2.1 y hy)
      · by_cases ey : y = i
        · subst ey
          rw [hf, hfo x hx ex] at e
          exact absurd e (qb.2.2.1 x hx)
        · rw [hfo x hx ex, hfo y hy ey] at e
          exact h3 x y hx hy e
    · obtain ⟨v0, vi, vb⟩ := (hV v).mp hv
      have nv : v ≠ nb b := fun e => hn i hi (by rw [hf, e])
      have q := h4 v v0 (fun m hm e => by
        by_cases a : m = i
        · rw [a] at e; exact vi e.symm
        · exact hn m hm (by rw [hfo m hm a]; exact e))
      have n1 : nb v ≠ fe i := fun e => q.2.2.1 i hi e.symm
      have n2 : nb v ≠ b := fun e => nv (by rw [← e, q.2.2.2.1])
      refine ⟨?_, (hV _).mpr ⟨q.2.1, n1, n2⟩, fun m hm e => ?_, q.2.2.2⟩
      · rw [kr_sp, q.1, if_neg n1, if_neg n2]
      · by_cases a : m = i
        · rw [a, hf] at e
          have z : b = v := by rw [← qb.2.2.2.1, e, q.2.2.2.1]
          exact vb z.symm
        · rw [hfo m hm a] at e
          exact q.2.2.1 m hm e
  obtain ⟨l, T, hl⟩ := h _ S'
  have Z := kr_splice iv.1 iv.2 ht (h1 i hi).1 hab nab hV T
  refine ⟨_, Z, ?_⟩
  rw [if_neg (by rw [(h1 i hi).2]; exact nfb _ (h2.1 i hi).1), hl]
/-- a new arc begins -/
theorem kf_new {nb : Nat → Nat} {V V' : Nat → Prop} {t fe fe' p p' : Nat → Nat} {O O' : Nat → Prop} {N i j a b : Nat} (ht : kr_inv V t) (ni : ¬ O i) (nj : ¬ O j) (hij : i ≠ j) (ha : V a) (hb : V b) (hab : t a = b)
    (nab : a ≠ b) (nnb : nb a ≠ b) (nfa : ∀ m, O m → fe m ≠ a) (nfb : ∀ m, O m → fe m ≠ b)
    (hV : ∀ v, V' v ↔ V v ∧ v ≠ a ∧ v ≠ b) (hO : ∀ m, O' m ↔ O m ∨ m = i ∨ m = j) (hfi : fe' i = nb a) (hfj : fe' j = nb b) (hfo : ∀ m, O m → fe' m = fe m)
    (hpi : p' i = j) (hpj : p' j = i) (hpo : ∀ m, O m → p' m = p m) (h : kf_C nb V' t fe' p' O' N) : kf_C nb V t fe p O N := by
  intro s S
  have iv := kf_inv S
  obtain ⟨h1, h2, h3, h4⟩ := S
  have qa := h4 a ha nfa
  have qb := h4 b hb nfb
  have qa' := h4 _ qa.2.1 qa.2.2.1
  rw [qa.2.2.2.1] at qa'
  have qb' := h4 _ qb.2.1 qb.2.2.1
  rw [qb.2.2.2.1] at qb'
  have nnb' : nb b ≠ a := fun e => nnb (by rw [← e, qb.2.2.2.1])
  have nn : nb a ≠ nb b := fun e => nab (by rw [← qa.2.2.2.1, e, qb.2.2.2.1])
  have S' : kf_S nb V' (kr_sp s a b) fe' p' O' := by
    refine ⟨fun m hm => ?_, ⟨fun m hm => ?_, fun m hm => ?_⟩, fun x y hx hy e => ?_, fun v hv hn => ?_⟩
    · rcases (hO m).mp hm with hm | rfl | rfl
      · rw [hfo m hm, hpo m hm, hfo _ (h2.1 m hm).1]
        refine ⟨(hV _).mpr ⟨(h1 m hm).1, nfa m hm, nfb m hm⟩, ?_⟩
        rw [kr_sp, (h1 m hm).2, if_neg (nfa _ (h2.1 m hm).1), if_neg (nfb _ (h2.1 m hm).1)]
      · rw [hfi, hpi, hfj, kr_sp, qa'.1, if_pos rfl, qb.1]
        exact ⟨(hV _).mpr ⟨qa.2.1, qa.2.2.2.2, nnb⟩, rfl⟩
      · rw [hfj, hpj, hfi, kr_sp, qb'.1, if_neg (Ne.symm nab), if_pos rfl, qa.1]
        exact ⟨(hV _).mpr ⟨qb.2.1, nnb', qb.2.2.2.2⟩, rfl⟩
    · rcases (hO m).mp hm with hm | rfl | rfl
      · rw [hpo m hm, hpo _ (h2.1 m hm).1]
        exact ⟨(hO _).mpr (Or.inl (h2.1 m hm).1), (h2.1 m hm).2⟩
      · rw [hpi, hpj]; exact ⟨(hO _).mpr (Or.inr (Or.inr rfl)), rfl⟩
      · rw [hpj, hpi]; exact ⟨(hO _).mpr (Or.inr (Or.inl rfl)), rfl⟩
    · rcases (hO m).mp hm with hm | rfl | rfl
      · rw [hpo m hm]; exact h2.2 m hm
      · rw [hpi]; exact Ne.symm hij
      · rw [hpj]; exact hij
    · rcases (hO x).mp hx with hx | rfl | rfl
      · rcases (hO y).mp hy with hy | rfl | rfl
        · rw [hfo x hx, hfo y hy] at e; exact h3 x y hx hy e
        · rw [hfo x hx, hfi] at e; exact absurd e (qa.2.2.1 x hx)
        · rw [hfo x hx, hfj] at e; exact absurd e (qb.2.2.1 x hx)
      · rcases (hO y).mp hy with hy | rfl | rfl
        · rw [hfo y hy, hfi] at e; exact absurd e.symm (qa.2.2.1 y hy)
        · rfl
        · rw [hfi, hfj] at e; exact absurd e nn
      · rcases (hO y).mp hy with hy | rfl | rfl
        · rw [hfo y hy, hfj] at e; exact absurd e.symm (qb.2.2.1 y hy)
        · rw [hfi, hfj] at e; exact absurd e.symm nn
        · rfl
    · obtain ⟨v0, va, vb⟩ := (hV v).mp hv
      have na : v ≠ nb a := fun e => hn i ((hO i).mpr (Or.inr (Or.inl rfl))) (by rw [hfi, e])
      have nb' : v ≠ nb b := fun e => hn j ((hO j).mpr (Or.inr (Or.inr rfl))) (by rw [hfj, e])
      have q := h4 v v0 (fun m hm e => hn m ((hO m).mpr (Or.inl hm)) (by rw [hfo m hm]; exact e))
      have n1 : nb v ≠ a := fun e => na (by rw [← e, q.2.2.2.1])
      have n2 : nb v ≠ b := fun e => nb' (by rw [← e, q.2.2.2.1])
      refine ⟨?_, (hV _).mpr ⟨q.2.1, n1, n2⟩, fun m hm e => ?_, q.2.2.2⟩
      · rw [kr_sp, q.1, if_neg n1, if_neg n2]
      · rcases (hO m).mp hm with hm | rfl | rfl
        · rw [hfo m hm] at e; exact q.2.2.1 m hm e
        · rw [hfi] at e
          have z : a = v := by rw [← qa.2.2.2.1, e, q.2.2.2.1]
          exact va z.symm
        · rw [hfj] at e
          have z : b = v := by rw [← qb.2.2.2.1, e, q.2.2.2.1]
          exact vb z.symm
  obtain ⟨l, T, hl⟩ := h _ S'
  have Z := kr_splice iv.1 iv.2 ht ha hab nab hV T
  refine ⟨_, Z, ?_⟩
  rw [if_neg (by rw [qa.1]; exact nnb), hl]
end
section
/-! the grid: n; of each row the left and right column of its segment; of each column the upper and lower row -/
abbrev kg_G : Type := Nat × (Nat → Nat) × (Nat → Nat) × (Nat → Nat) × (Nat → Nat)
def kg_n (g : kg_G) : Nat := g.1
def kg_l (g : kg_G) (r : Nat) : Nat := g.2.1 r
def kg_h (g : kg_G) (r : Nat) : Nat := g.2.2.1 r
def kg_u (g : kg_G) (c : Nat) : Nat := g.2.2.2.1 c
def kg_d (g : kg_G) (c : Nat) : Nat := g.2.2.2.2 c
def kg_ok (g : kg_G) : Prop := 2 ≤ kg_n g ∧ kg_n g ≤ 7 ∧ (∀ r, r < kg_n g → kg_l g r < kg_h g r ∧ kg_h g r < kg_n g) ∧
  (∀ c, c < kg_n g → kg_u g c < kg_d g c ∧ kg_d g c < kg_n g) ∧
  ∀ r c, r < kg_n g → c < kg_n g → ((c = kg_l g r ∨ c = kg_h g r) ↔ (r = kg_u g c ∨ r = kg_d g c))
/-- the side d (0 N, 1 E, 2 S, 3 W) of a cell is drawn -/
def kg_D (g : kg_G) (r c d : Nat) : Prop := r < kg_n g ∧ c < kg_n g ∧
  ((d = 0 ∧ kg_u g c < r ∧ r ≤ kg_d g c) ∨ (d = 1 ∧ kg_l g r ≤ c ∧ c < kg_h g r) ∨ (d = 2 ∧ kg_u g c ≤ r ∧ r < kg_d g c) ∨ (d = 3 ∧ kg_l g r < c ∧ c ≤ kg_h g r))
theorem kg_D0 {g : kg_G} {r c : Nat} : kg_D g r c 0 ↔ r < kg_n g ∧ c < kg_n g ∧ kg_u g c < r ∧ r ≤ kg_d g c := by simp [kg_D]
theorem kg_D1 {g : kg_G} {r c : Nat} : kg_D g r c 1 ↔ r < kg_n g ∧ c < kg_n g ∧ kg_l g r ≤ c ∧ c < kg_h g r := by simp [kg_D]
theorem kg_D2 {g : kg_G} {r c : Nat} : kg_D g r c 2 ↔ r < kg_n g ∧ c < kg_n g ∧ kg_u g c ≤ r ∧ r < kg_d g c := by simp [kg_D]
theorem kg_D3 {g : kg_G} {r c : Nat} : kg_D g r c 3 ↔ r < kg_n g ∧ c < kg_n g ∧ kg_l g r < c ∧ c ≤ kg_h g r := by simp [kg_D]
/-- what holds at a cell within -/
theorem kg_at {g : kg_G} (h : kg_ok g) {r c : Nat} (hr : r < kg_n g) (hc : c < kg_n g) : kg_n g ≤ 7 ∧ kg_l g r < kg_h g r ∧ kg_h g r < kg_n g ∧ kg_u g c < kg_d g c ∧ kg_d g c < kg_n g ∧
    ((c = kg_l g r ∨ c = kg_h g r) ↔ (r = kg_u g c ∨ r = kg_d g c)) :=
  ⟨h.2.1, (h.2.2.1 r hr).1, (h.2.2.1 r hr).2, (h.2.2.2.1 c hc).1, (h.2.2.2.1 c hc).2, h.2.2.2.2 r c hr hc⟩
noncomputable def kg_b (g : kg_G) (r c d : Nat) : Bool := @decide (kg_D g r c d) (Classical.propDecidable _)
theorem kg_bt {g : kg_G} {r c d : Nat} : kg_b g r c d = true ↔ kg_D g r c d := by
  unfold kg_b; exact @decide_eq_true_iff _ (Classical.propDecidable _)
theorem kg_bf {g : kg_G} {r c d : Nat} : kg_b g r c d = false ↔ ¬ kg_D g r c d := by
  rw [← kg_bt, Bool.not_eq_true]
/-- the partner's side out of the four sides drawn -/
def kg_p4 (b0 b1 b2 b3 : Bool) (ch d : Nat) : Nat :=
  if (b0 && b1 && b2 && b3) = true then
    (if ch = 1 then (if d = 0 then 1 else if d = 1 then 0 else if d = 2 then 3 else 2) else if ch = 2 then 3 - d else if d < 2 then d + 2 else d - 2)
  else if d ≠ 0 ∧ b0 = true then 0 else if d ≠ 1 ∧ b1 = true then 1 else if d ≠ 2 ∧ b2 = true then 2 else if d ≠ 3 ∧ b3 = true then 3 else d
def kg_sel (b0 b1 b2 b3 : Bool) (d : Nat) : Bool := if d = 0 then b0 else if d = 1 then b1 else if d = 2 then b2 else b3
theorem kg_p4_ok (b0 b1 b2 b3 : Bool) (par : (b0 ^^ b1 ^^ b2 ^^ b3) = false) (ch d : Nat) (hd : d < 4) (hb : kg_sel b0 b1 b2 b3 d = true) :
    kg_p4 b0 b1 b2 b3 ch d < 4 ∧ kg_sel b0 b1 b2 b3 (kg_p4 b0 b1 b2 b3 ch d) = true ∧ kg_p4 b0 b1 b2 b3 ch (kg_p4 b0 b1 b2 b3 ch d) = d ∧ kg_p4 b0 b1 b2 b3 ch d ≠ d := by
  have hd4 : d = 0 ∨ d = 1 ∨ d = 2 ∨ d = 3 := by omega
  by_cases h1 : ch = 1
  · subst h1
    rcases hd4 with rfl | rfl | rfl | rfl <;> revert par hb <;> cases b0 <;> cases b1 <;> cases b2 <;> cases b3 <;> decide
  · by_cases h2 : ch = 2
    · subst h2
      rcases hd4 with rfl | rfl | rfl | rfl <;> revert par hb <;> cases b0 <;> cases b1 <;> cases b2 <;> cases b3 <;> decide
    · have e : ∀ d, kg_p4 b0 b1 b2 b3 ch d = kg_p4 b0 b1 b2 b3 0 d := fun d => by
        unfold kg_p4
        rw [if_neg h1, if_neg h2]
        rfl
      simp only [e]
      rcases hd4 with rfl | rfl | rfl | rfl <;> revert par hb <;> cases b0 <;> cases b1 <;> cases b2 <;> cases b3 <;> decide
theorem kg_par {g : kg_G} (h : kg_ok g) (r c : Nat) : (kg_b g r c 0 ^^ kg_b g r c 1 ^^ kg_b g r c 2 ^^ kg_b g r c 3) = false := by
  by_cases hr : r < kg_n g
  · by_cases hc : c < kg_n g
    · have a := kg_at h hr hc
      cases e0 : kg_b g r c 0 <;> cases e1 : kg_b g r c 1 <;> cases e2 : kg_b g r c 2 <;> cases e3 : kg_b g r c 3 <;> first | rfl | (
        exfalso
        simp only [kg_bt, kg_bf, kg_D0, kg_D1, kg_D2, kg_D3] at e0 e1 e2 e3
        omega)
    · have z : ∀ d, kg_b g r c d = false := fun d => kg_bf.mpr (fun q => hc q.2.1)
      rw [z, z, z, z]; rfl
  · have z : ∀ d, kg_b g r c d = false := fun d => kg_bf.mpr (fun q => hr q.1)
    rw [z, z, z, z]; rfl
noncomputable def kg_pd (g : kg_G) (ch : Nat → Nat) (r c d : Nat) : Nat := kg_p4 (kg_b g r c 0) (kg_b g r c 1) (kg_b g r c 2) (kg_b g r c 3) (ch (7 * r + c)) d
theorem kg_sel_b {g : kg_G} {r c d : Nat} (hd : d < 4) : kg_sel (kg_b g r c 0) (kg_b g r c 1) (kg_b g r c 2) (kg_b g r c 3) d = kg_b g r c d := by
  have hd4 : d = 0 ∨ d = 1 ∨ d = 2 ∨ d = 3 := by omega
  rcases hd4 with rfl | rfl | rfl | rfl <;> rfl
theorem kg_pd_ok {g : kg_G} (h : kg_ok g) (ch : Nat → Nat) {r c d : Nat} (hd : d < 4) (hD : kg_D g r c d) :
    kg_pd g ch r c d < 4 ∧ kg_D g r c (kg_pd g ch r c d) ∧ kg_pd g ch r c (kg_pd g ch r c d) = d ∧ kg_pd g ch r c d ≠ d := by
  have z := kg_p4_ok _ _ _ _ (kg_par h r c) (ch (7 * r + c)) d hd (by rw [kg_sel_b hd]; exact kg_bt.mpr hD)
  refine ⟨z.1, ?_, z.2.2.1, z.2.2.2⟩
  have y := z.2.1
  rw [kg_sel_b z.1] at y
  exact kg_bt.mp y
/-- ends as numbers -/
def kg_en (r c d : Nat) : Nat := 28 * r + 4 * c + d
theorem kg_e28 {r c d : Nat} (hc : c < 7) (hd : d < 4) : kg_en r c d / 28 = r := by unfold kg_en; omega
theorem kg_e47 {r c d : Nat} (hc : c < 7) (hd : d < 4) : kg_en r c d / 4 % 7 = c := by unfold kg_en; omega
theorem kg_e4 {r c d : Nat} (hd : d < 4) : kg_en r c d % 4 = d := by unfold kg_en; omega
theorem kg_e4d {r c d : Nat} (hd : d < 4) : kg_en r c d / 4 = 7 * r + c := by unfold kg_en; omega
theorem kg_eta (e : Nat) : kg_en (e / 28) (e / 4 % 7) (e % 4) = e := by unfold kg_en; omega
def kg_nb (e : Nat) : Nat := if e % 4 = 0 then e - 26 else if e % 4 = 1 then e + 6 else if e % 4 = 2 then e + 26 else e - 6
noncomputable def kg_pt (g : kg_G) (ch : Nat → Nat) (e : Nat) : Nat := kg_en (e / 28) (e / 4 % 7) (kg_pd g ch (e / 28) (e / 4 % 7) (e % 4))
def kg_V (g : kg_G) (e : Nat) : Prop := kg_D g (e / 28) (e / 4 % 7) (e % 4)
theorem kg_Ven {g : kg_G} {r c d : Nat} (hc : c < 7) (hd : d < 4) : kg_V g (kg_en r c d) ↔ kg_D g r c d := by
  unfold kg_V
  rw [kg_e28 hc hd, kg_e47 hc hd, kg_e4 hd]
theorem kg_Vlt {g : kg_G} (h : kg_ok g) {e : Nat} (hv : kg_V g e) : e < 196 := by
  have h1 : e / 28 < kg_n g := hv.1
  have h2 := h.2.1
  omega
theorem kg_nb0 {r c : Nat} (hr : 1 ≤ r) : kg_nb (kg_en r c 0) = kg_en (r - 1) c 2 := by
  unfold kg_nb; rw [kg_e4 (by omega), if_pos rfl]; unfold kg_en; omega
theorem kg_nb1 {r c : Nat} : kg_nb (kg_en r c 1) = kg_en r (c + 1) 3 := by
  unfold kg_nb; rw [kg_e4 (by omega), if_neg (by omega), if_pos rfl]; unfold kg_en; omega
theorem kg_nb2 {r c : Nat} : kg_nb (kg_en r c 2) = kg_en (r + 1) c 0 := by
  unfold kg_nb; rw [kg_e4 (by omega), if_neg (by omega), if_neg (by omega), if_pos rfl]; unfold kg_en; omega
theorem kg_nb3 {r c : Nat} (hc : 1 ≤ c) : kg_nb (kg_en r c 3) = kg_en r (c - 1) 1 := by
  unfold kg_nb; rw [kg_e4 (by omega), if_neg (by omega), if_neg (by omega), if_neg (by omega)]; unfold kg_en; omega
/-- every drawn end is one of these -/
theorem kg_Vc {g : kg_G} (h : kg_ok g) {P : Nat → Prop} (H : ∀ r c d, r < 7 → c < 7 → d < 4 → kg_D g r c d → P (kg_en r c d)) {e : Nat} (hv : kg_V g e) : P e := by
  have h1 : e / 28 < kg_n g := hv.1
  have h2 := h.2.1
  rw [← kg_eta e]
  exact H _ _ _ (by omega) (by omega) (by omega) hv
theorem kg_D02 {g : kg_G} (h : kg_ok g) {r c : Nat} : kg_D g r c 2 ↔ kg_D g (r + 1) c 0 := by
  rw [kg_D0, kg_D2]
  by_cases hc : c < kg_n g
  · have a := (h.2.2.2.1 c hc); omega
  · omega
theorem kg_D13 {g : kg_G} (h : kg_ok g) {r c : Nat} : kg_D g r c 1 ↔ kg_D g r (c + 1) 3 := by
  rw [kg_D1, kg_D3]
  by_cases hr : r < kg_n g
  · have a := (h.2.2.1 r hr); omega
  · omega
theorem kg_Dlt {g : kg_G} (h : kg_ok g) {r c d : Nat} (hD : kg_D g r c d) : r < 7 ∧ c < 7 := by
  have h2 := h.2.1
  have a := hD.1
  have b := hD.2.1
  omega
theorem kg_nb_inv {g : kg_G} (h : kg_ok g) : kr_inv (kg_V g) kg_nb ∧ ∀ v, kg_V g v → kg_nb v ≠ v := by
  have main : ∀ v, kg_V g v → (kg_V g (kg_nb v) ∧ kg_nb (kg_nb v) = v) ∧ kg_nb v ≠ v := by
    intro v hv
    refine kg_Vc h (P := fun v => (kg_V g (kg_nb v) ∧ kg_nb (kg_nb v) = v) ∧ kg_nb v ≠ v) ?_ hv
    intro r c d hr hc hd hD
    have hd4 : d = 0 ∨ d = 1 ∨ d = 2 ∨ d = 3 := by omega
    rcases hd4 with rfl | rfl | rfl | rfl
    · have a := kg_D0.mp hD
      have h1 : 1 ≤ r := by omega
      obtain ⟨q, rfl⟩ : ∃ q, r = q + 1 := ⟨r - 1, by omega⟩
      rw [kg_nb0 h1, Nat.add_sub_cancel, kg_nb2, kg_Ven hc (by omega), kg_D02 h]
      exact ⟨⟨hD, rfl⟩, by unfold kg_en; omega⟩
    · have z := kg_D13 h |>.mp hD
      have h1 := kg_Dlt h z
      rw [kg_nb1, kg_nb3 (by omega), kg_Ven h1.2 (by omega), Nat.add_sub_cancel]
      exact ⟨⟨z, rfl⟩, by unfold kg_en; omega⟩
    · have z := kg_D02 h |>.mp hD
      rw [kg_nb2, kg_nb0 (by omega), kg_Ven hc (by omega), Nat.add_sub_cancel]
      exact ⟨⟨z, rfl⟩, by unfold kg_en; omega⟩
    · have a := kg_D3.mp hD
      have h1 : 1 ≤ c := by omega
      obtain ⟨q, rfl⟩ : ∃ q, c = q + 1 := ⟨c - 1, by omega⟩
      rw [kg_nb3 h1, Nat.add_sub_cancel, kg_nb1, kg_Ven (by omega) (by omega), kg_D13 h]
      exact ⟨⟨hD, rfl⟩, by unfold kg_en; omega⟩
  exact ⟨fun v hv => (main v hv).1, fun v hv => (main v hv).2⟩
theorem kg_pt_en {g : kg_G} {ch : Nat → Nat} {r c d : Nat} (hc : c < 7) (hd : d < 4) : kg_pt g ch (kg_en r c d) = kg_en r c (kg_pd g ch r c d) := by
  unfold kg_pt
  rw [kg_e28 hc hd, kg_e47 hc hd, kg_e4 hd]
theorem kg_pt_inv {g : kg_G} (h : kg_ok g) (ch : Nat → Nat) : kr_inv (kg_V g) (kg_pt g ch) ∧ ∀ v, kg_V g v → kg_pt g ch v ≠ v := by
  have main : ∀ v, kg_V g v → (kg_V g (kg_pt g ch v) ∧ kg_pt g ch (kg_pt g ch v) = v) ∧ kg_pt g ch v ≠ v := by
    intro v hv
    refine kg_Vc h (P := fun v => (kg_V g (kg_pt g ch v) ∧ kg_pt g ch (kg_pt g ch v) = v) ∧ kg_pt g ch v ≠ v) ?_ hv
    intro r c d hr hc hd hD
    have z := kg_pd_ok h ch hd hD
    rw [kg_pt_en hc hd, kg_pt_en hc z.1, z.2.2.1, kg_Ven hc z.1]
    exact ⟨⟨z.2.1, rfl⟩, fun e => z.2.2.2 (by unfold kg_en at e; omega)⟩
  exact ⟨fun v hv => (main v hv).1, fun v hv => (main v hv).2⟩
/-- what stands in a cell: 0 nothing new, 1 a crossing, 2 an end of an arc, 3 a beginning, 4 from the column to the hand, 5 from the hand to the column -/
def kg_ty (g : kg_G) (r c : Nat) : Nat :=
  if r < kg_n g ∧ c < kg_n g then
    (if c = kg_l g r then (if kg_u g c = r then 3 else 4) else if c = kg_h g r then (if kg_u g c = r then 5 else 2)
     else if kg_l g r < c ∧ c < kg_h g r ∧ kg_u g c < r ∧ r < kg_d g c then 1 else 0)
  else 0
theorem kg_ty_D {g : kg_G} (h : kg_ok g) (r c : Nat) :
    (kg_ty g r c = 1 → kg_D g r c 0 ∧ kg_D g r c 1 ∧ kg_D g r c 2 ∧ kg_D g r c 3) ∧
    (kg_ty g r c = 2 → kg_D g r c 0 ∧ ¬ kg_D g r c 1 ∧ ¬ kg_D g r c 2 ∧ kg_D g r c 3) ∧
    (kg_ty g r c = 3 → ¬ kg_D g r c 0 ∧ kg_D g r c 1 ∧ kg_D g r c 2 ∧ ¬ kg_D g r c 3) ∧
    (kg_ty g r c = 4 → kg_D g r c 0 ∧ kg_D g r c 1 ∧ ¬ kg_D g r c 2 ∧ ¬ kg_D g r c 3) ∧
    (kg_ty g r c = 5 → ¬ kg_D g r c 0 ∧ ¬ kg_D g r c 1 ∧ kg_D g r c 2 ∧ kg_D g r c 3) ∧
    (kg_ty g r c = 0 → (kg_D g r c 0 ↔ kg_D g r c 2) ∧ (kg_D g r c 1 ↔ kg_D g r c 3) ∧ ¬ (kg_D g r c 0 ∧ kg_D g r c 1)) ∧ kg_ty g r c < 6 := by
  simp only [kg_D0, kg_D1, kg_D2, kg_D3]
  by_cases hrc : r < kg_n g ∧ c < kg_n g
  · have a := kg_at h hrc.1 hrc.2
    unfold kg_ty
    rw [if_pos hrc]
    by_cases h1 : c = kg_l g r
    · rw [if_pos h1]
      by_cases h2 : kg_u g c = r
      · rw [if_pos h2]; omega
      · rw [if_neg h2]; omega
    · rw [if_neg h1]
      by_cases h3 : c = kg_h g r
      · rw [if_pos h3]
        by_cases h2 : kg_u g c = r
        · rw [if_pos h2]; omega
        · rw [if_neg h2]; omega
      · rw [if_neg h3]
        by_cases h4 : kg_l g r < c ∧ c < kg_h g r ∧ kg_u g c < r ∧ r < kg_d g c
        · rw [if_pos h4]; omega
        · rw [if_neg h4]; omega
  · unfold kg_ty
    rw [if_neg hrc]
    omega
end
section
/-! pairings of slots as functions, and the sweep's operations on them -/
def kp_ud (p : Nat → Nat) (i v : Nat) : Nat → Nat := fun j => if j = i then v else p j
def kp_link (p : Nat → Nat) (a b : Nat) : Nat → Nat := kp_ud (kp_ud p a b) b a
def kp_ren (p : Nat → Nat) (f t : Nat) : Nat → Nat := kp_ud (kp_link p t (p f)) f f
def kp_exc (p : Nat → Nat) (a b : Nat) : Nat → Nat := if p a = b then p else kp_link (kp_link p a (p b)) b (p a)
def kp_join (p : Nat → Nat) (a b : Nat) : Nat → Nat := if p a = b then kp_ud (kp_ud p a a) b b else kp_link (kp_ud (kp_ud p a a) b b) (p a) (p b)
def kp_t (a b j : Nat) : Nat := if j = a then b else if j = b then a else j
def kp_cj (a b : Nat) (p : Nat → Nat) : Nat → Nat := fun j => kp_t a b (p (kp_t a b j))
theorem kp_t_a {a b : Nat} : kp_t a b a = b := if_pos rfl
theorem kp_t_b {a b : Nat} : kp_t a b b = a := by
  unfold kp_t; split
  · next h => exact h
  · exact if_pos rfl
theorem kp_t_o {a b j : Nat} (ha : j ≠ a) (hb : j ≠ b) : kp_t a b j = j := by rw [kp_t, if_neg ha, if_neg hb]
theorem kp_tt {a b : Nat} (j : Nat) : kp_t a b (kp_t a b j) = j := by
  by_cases ha : j = a
  · rw [ha, kp_t_a, kp_t_b]
  · by_cases hb : j = b
    · rw [hb, kp_t_b, kp_t_a]
    · rw [kp_t_o ha hb, kp_t_o ha hb]
theorem kp_us {p : Nat → Nat} {i v : Nat} : kp_ud p i v i = v := if_pos rfl
theorem kp_un {p : Nat → Nat} {i v j : Nat} (h : j ≠ i) : kp_ud p i v j = p j := if_neg h
theorem kp_exc_eq {p : Nat → Nat} (hp : ∀ j, p (p j) = j) {a b : Nat} (hab : a ≠ b) (ha : p a ≠ a) (hb : p b ≠ b) : kp_exc p a b = kp_cj a b p := by
  have inj : ∀ x y, p x = y → x = p y := fun x y e => by rw [← e, hp]
  funext j
  unfold kp_exc
  by_cases h : p a = b
  · rw [if_pos h]
    unfold kp_cj
    by_cases ja : j = a
    · rw [ja, kp_t_a, ← h, hp, kp_t_a, h]
    · by_cases jb : j = b
      · rw [jb, kp_t_b, h, kp_t_b, ← h, hp]
      · rw [kp_t_o ja jb, kp_t_o (fun e => jb (by rw [inj _ _ e, h])) (fun e => ja (by rw [inj _ _ e, ← h, hp]))]
  · rw [if_neg h]
    have h' : p b ≠ a := fun e => h (inj _ _ e).symm
    unfold kp_cj kp_link
    by_cases j1 : j = p a
    · have ja : j ≠ a := fun e => ha (by rw [← j1, e])
      have jb : j ≠ b := fun e => h (by rw [← j1, e])
      rw [j1, kp_us, ← j1, kp_t_o ja jb, j1, hp, kp_t_a]
    · rw [kp_un j1]
      by_cases jb : j = b
      · rw [jb, kp_us, kp_t_b, kp_t_o ha h]
      · rw [kp_un jb]
        by_cases j2 : j = p b
        · have ja : j ≠ a := fun e => h' (by rw [← j2, e])
          rw [j2, kp_us, ← j2, kp_t_o ja jb, j2, hp, kp_t_b]
        · rw [kp_un j2]
          by_cases ja : j = a
          · rw [ja, kp_us, kp_t_a, kp_t_o h' hb]
          · rw [kp_un ja, kp_t_o ja jb, kp_t_o (fun e => j1 (inj _ _ e)) (fun e => j2 (inj _ _ e))]
theorem kp_ren_eq {p : Nat → Nat} (hp : ∀ j, p (p j) = j) {a b : Nat} (hab : a ≠ b) (ha : p a ≠ a) (hb : p b = b) : kp_ren p a b = kp_cj a b p := by
  have inj : ∀ x y, p x = y → x = p y := fun x y e => by rw [← e, hp]
  have hab' : p a ≠ b := fun e => hab (by rw [inj _ _ e, hb])
  funext j
  unfold kp_ren kp_link kp_cj
  by_cases ja : j = a
  · rw [ja, kp_us, kp_t_a, hb, kp_t_b]
  · rw [kp_un ja]
    by_cases j1 : j = p a
    · have jb : j ≠ b := fun e => hab' (by rw [← j1, e])
      rw [j1, kp_us, ← j1, kp_t_o ja jb, j1, hp, kp_t_a]
    · rw [kp_un j1]
      by_cases jb : j = b
      · rw [jb, kp_us, kp_t_b, kp_t_o ha hab']
      · rw [kp_un jb, kp_t_o ja jb, kp_t_o (fun e => j1 (inj _ _ e)) (fun e => jb (by rw [inj _ _ e, hb]))]
theorem kp_join_eq {p : Nat → Nat} (hp : ∀ j, p (p j) = j) {a b : Nat} (hab : a ≠ b) (ha : p a ≠ a) (hb : p b ≠ b) (m : Nat) :
    kp_join p a b m = if m = a then a else if m = b then b else kr_sp p a b m := by
  have inj : ∀ x y, p x = y → x = p y := fun x y e => by rw [← e, hp]
  unfold kp_join
  by_cases h : p a = b
  · rw [if_pos h]
    by_cases mb : m = b
    · rw [mb, kp_us, if_neg (Ne.symm hab), if_pos rfl]
    · rw [kp_un mb]
      by_cases ma : m = a
      · rw [ma, kp_us, if_pos rfl]
      · rw [kp_un ma, if_neg ma, if_neg mb, kr_sp, if_neg (fun e => mb (by rw [inj _ _ e, h])), if_neg (fun e => ma (by rw [inj _ _ e, ← h, hp]))]
  · rw [if_neg h]
    have h' : p b ≠ a := fun e => h (inj _ _ e).symm
    unfold kp_link
    by_cases m2 : m = p b
    · have ma : m ≠ a := fun e => h' (by rw [← m2, e])
      have mb : m ≠ b := fun e => hb (by rw [← m2, e])
      rw [m2, kp_us, ← m2, if_neg ma, if_neg mb, kr_sp, m2, hp, if_neg (Ne.symm hab), if_pos rfl]
    · rw [kp_un m2]
      by_cases m1 : m = p a
      · have ma : m ≠ a := fun e => ha (by rw [← m1, e])
        have mb : m ≠ b := fun e => h (by rw [← m1, e])
        rw [m1, kp_us, ← m1, if_neg ma, if_neg mb, kr_sp, m1, hp, if_pos rfl]
      · rw [kp_un m1]
        by_cases mb : m = b
        · rw [mb, kp_us, if_neg (Ne.symm hab), if_pos rfl]
        · rw [kp_un mb]
          by_cases ma : m = a
          · rw [ma, kp_us, if_pos rfl]
          · rw [kp_un ma, if_neg ma, if_neg mb, kr_sp, if_neg (fun e => m1 (inj _ _ e)), if_neg (fun e => m2 (inj _ _ e))]
/-- the slots that hold an end just before cell k; slot 7 is the hand -/
def kg_Op (g : kg_G) (k j : Nat) : Prop := (j < 7 ∧ k % 7 ≤ j ∧ kg_D g (k / 7) j 0) ∨ (j < 7 ∧ j < k % 7 ∧ kg_D g (k / 7 + 1) j 0) ∨ (j = 7 ∧ kg_D g (k / 7) (k % 7) 3)
theorem kg_Op8 {g : kg_G} {k j : Nat} (h : kg_Op g k j) : j < 8 := by
  rcases h with h | h | h <;> omega
theorem kg_kd {r c : Nat} (hc : c < 7) : (7 * r + c) / 7 = r := by omega
theorem kg_km {r c : Nat} (hc : c < 7) : (7 * r + c) % 7 = c := by omega
theorem kg_Op_c {g : kg_G} {r c : Nat} (hc : c < 7) : kg_Op g (7 * r + c) c ↔ kg_D g r c 0 := by
  unfold kg_Op
  rw [kg_kd hc, kg_km hc]
  constructor
  · intro h
    rcases h with h | h | h
    · exact h.2.2
    · omega
    · omega
  · intro h
    exact Or.inl ⟨hc, Nat.le_refl _, h⟩
theorem kg_Op_7 {g : kg_G} {r c : Nat} (hc : c < 7) : kg_Op g (7 * r + c) 7 ↔ kg_D g r c 3 := by
  unfold kg_Op
  rw [kg_kd hc, kg_km hc]
  constructor
  · intro h
    rcases h with h | h | h
    · omega
    · omega
    · exact h.2
  · intro h
    exact Or.inr (Or.inr ⟨rfl, h⟩)
theorem kg_k1 {r c : Nat} (hc : c < 7) : (c < 6 ∧ (7 * r + c + 1) / 7 = r ∧ (7 * r + c + 1) % 7 = c + 1) ∨ (c = 6 ∧ (7 * r + c + 1) / 7 = r + 1 ∧ (7 * r + c + 1) % 7 = 0) := by omega
theorem kg_Op_c' {g : kg_G} (ok : kg_ok g) {r c : Nat} (hc : c < 7) : kg_Op g (7 * r + c + 1) c ↔ kg_D g r c 2 := by
  rw [kg_D02 ok]
  unfold kg_Op
  rcases kg_k1 (r := r) hc with ⟨h1, h2, h3⟩ | ⟨h1, h2, h3⟩
  · rw [h2, h3]
    constructor
    · intro h
      rcases h with h | h | h
      · omega
      · exact h.2.2
      · omega
    · intro h
      exact Or.inr (Or.inl ⟨hc, by omega, h⟩)
  · rw [h2, h3]
    constructor
    · intro h
      rcases h with h | h | h
      · exact h.2.2
      · omega
      · omega
    · intro h
      exact Or.inl ⟨hc, by omega, h⟩
theorem kg_Op_7' {g : kg_G} (ok : kg_ok g) {r c : Nat} (hc : c < 7) : kg_Op g (7 * r + c + 1) 7 ↔ kg_D g r c 1 := by
  unfold kg_Op
  rcases kg_k1 (r := r) hc with ⟨h1, h2, h3⟩ | ⟨h1, h2, h3⟩
  · rw [h2, h3, kg_D13 ok]
    constructor
    · intro h
      rcases h with h | h | h
      · omega
      · omega
      · exact h.2
    · intro h
      exact Or.inr (Or.inr ⟨rfl, h⟩)
  · rw [h2, h3]
    constructor
    · intro h
      rcases h with h | h | h
      · omega
      · omega
      · have z := kg_D3.mp h.2; omega
    · intro h
      have z := kg_Dlt ok (kg_D13 ok |>.mp h)
      omega
theorem kg_Op_o {g : kg_G} {r c j : Nat} (hc : c < 7) (jc : j ≠ c) (j7 : j ≠ 7) : kg_Op g (7 * r + c + 1) j ↔ kg_Op g (7 * r + c) j := by
  unfold kg_Op
  rw [kg_kd hc, kg_km hc]
  rcases kg_k1 (r := r) hc with ⟨h1, h2, h3⟩ | ⟨h1, h2, h3⟩
  · rw [h2, h3]
    constructor
    · intro h
      rcases h with h | h | h
      · exact Or.inl ⟨h.1, by omega, h.2.2⟩
      · exact Or.inr (Or.inl ⟨h.1, by omega, h.2.2⟩)
      · exact absurd h.1 j7
    · intro h
      rcases h with h | h | h
      · exact Or.inl ⟨h.1, by omega, h.2.2⟩
      · exact Or.inr (Or.inl ⟨h.1, by omega, h.2.2⟩)
      · exact absurd h.1 j7
  · rw [h2, h3]
    constructor
    · intro h
      rcases h with h | h | h
      · exact Or.inr (Or.inl ⟨h.1, by omega, h.2.2⟩)
      · omega
      · exact absurd h.1 j7
    · intro h
      rcases h with h | h | h
      · omega
      · exact Or.inl ⟨h.1, by omega, h.2.2⟩
      · exact absurd h.1 j7
/-- p is a pairing of the slots that hold an end at k -/
def kp_V (g : kg_G) (k : Nat) (p : Nat → Nat) : Prop := (∀ j, p (p j) = j) ∧ ∀ j, p j = j ↔ ¬ kg_Op g k j
theorem kp_V_inv {g : kg_G} {k : Nat} {p : Nat → Nat} (h : kp_V g k p) : kr_inv (kg_Op g k) p ∧ ∀ j, kg_Op g k j → p j ≠ j := by
  have n : ∀ j, kg_Op g k j → p j ≠ j := fun j hj e => (h.2 j).mp e hj
  refine ⟨fun j hj => ⟨?_, h.1 j⟩, n⟩
  by_cases q : kg_Op g k (p j)
  · exact q
  · have z := (h.2 _).mpr q
    rw [h.1] at z
    exact absurd z.symm (n j hj)
theorem kp_V8 {g : kg_G} {k : Nat} {p : Nat → Nat} (h : kp_V g k p) {j : Nat} (hj : j < 8) : p j < 8 := by
  by_cases q : kg_Op g k j
  · exact kg_Op8 ((kp_V_inv h).1 j q).1
  · rw [(h.2 j).mpr q]; exact hj
theorem kp_cj_V {g : kg_G} {k k' a b : Nat} {p : Nat → Nat} (h : kp_V g k p) (hO : ∀ j, kg_Op g k' j ↔ kg_Op g k (kp_t a b j)) : kp_V g k' (kp_cj a b p) := by
  refine ⟨fun j => ?_, fun j => ?_⟩
  · unfold kp_cj
    rw [kp_tt, h.1, kp_tt]
  · rw [hO, ← h.2]
    unfold kp_cj
    constructor
    · intro e
      rw [← kp_tt (a := a) (b := b) (p (kp_t a b j)), e]
    · intro e
      rw [e, kp_tt]
theorem kp_join_V {g : kg_G} {k k' a b : Nat} {p : Nat → Nat} (h : kp_V g k p) (hab : a ≠ b) (ha : kg_Op g k a) (hb : kg_Op g k b)
    (hO : ∀ j, kg_Op g k' j ↔ kg_Op g k j ∧ j ≠ a ∧ j ≠ b) : kp_V g k' (kp_join p a b) := by
  have iv := kp_V_inv h
  have je := kp_join_eq h.1 hab (iv.2 a ha) (iv.2 b hb)
  have si := kr_sp_inv iv.1 iv.2 ha hb hab hO
  have out : ∀ m, ¬ kg_Op g k' m → kp_join p a b m = m := fun m hm => by
    rw [je]
    by_cases ma : m = a
    · rw [if_pos ma, ma]
    · by_cases mb : m = b
      · rw [if_neg ma, if_pos mb, mb]
      · have q : ¬ kg_Op g k m := fun q => hm ((hO m).mpr ⟨q, ma, mb⟩)
        rw [if_neg ma, if_neg mb, kr_sp, (h.2 m).mpr q, if_neg ma, if_neg mb]
  have inn : ∀ m, kg_Op g k' m → kp_join p a b m = kr_sp p a b m := fun m hm => by
    have z := (hO m).mp hm
    rw [je, if_neg z.2.1, if_neg z.2.2]
  refine ⟨fun m => ?_, fun m => ?_⟩
  · by_cases hm : kg_Op g k' m
    · rw [inn m hm, inn _ (si.1 m hm).1, (si.1 m hm).2]
    · rw [out m hm, out m hm]
  · constructor
    · intro e hm
      rw [inn m hm] at e
      exact si.2 m hm e
    · exact out m
theorem kp_link_V {g : kg_G} {k' a b : Nat} {p : Nat → Nat} (h1 : ∀ j, p (p j) = j) (hab : a ≠ b) (ha : p a = a) (hb : p b = b)
    (hO : ∀ j, kg_Op g k' j ↔ p j ≠ j ∨ j = a ∨ j = b) : kp_V g k' (kp_link p a b) := by
  have inj : ∀ x y, p x = y → x = p y := fun x y e => by rw [← e, h1]
  have la : kp_link p a b a = b := by unfold kp_link; rw [kp_un hab, kp_us]
  have lb : kp_link p a b b = a := by unfold kp_link; rw [kp_us]
  have lo : ∀ j, j ≠ a → j ≠ b → kp_link p a b j = p j := fun j ja jb => by unfold kp_link; rw [kp_un jb, kp_un ja]
  refine ⟨fun j => ?_, fun j => ?_⟩
  · by_cases ja : j = a
    · rw [ja, la, lb]
    · by_cases jb : j = b
      · rw [jb, lb, la]
      · rw [lo j ja jb, lo _ (fun e => ja (by rw [inj _ _ e, ha])) (fun e => jb (by rw [inj _ _ e, hb])), h1]
  · rw [hO]
    by_cases ja : j = a
    · rw [ja, la]
      exact ⟨fun e => absurd e (Ne.symm hab), fun e => absurd (Or.inr (Or.inl rfl)) e⟩
    · by_cases jb : j = b
      · rw [jb, lb]
        exact ⟨fun e => absurd e hab, fun e => absurd (Or.inr (Or.inr rfl)) e⟩
      · rw [lo j ja jb]
        constructor
        · intro e q
          rcases q with q | q | q
          · exact q e
          · exact ja q
          · exact jb q
        · intro q
          exact Decidable.byContradiction fun z => q (Or.inl z)
end
section
/-! one cell of the sweep, in the graph of ends -/
def kg_fe (k j : Nat) : Nat := if j = 7 then kg_en (k / 7) (k % 7) 3 else if k % 7 ≤ j then kg_en (k / 7) j 0 else kg_en (k / 7 + 1) j 0
def kg_Vk (g : kg_G) (k e : Nat) : Prop := kg_V g e ∧ 4 * k ≤ e
theorem kg_fe_c {r c : Nat} (hc : c < 7) : kg_fe (7 * r + c) c = kg_en r c 0 := by
  unfold kg_fe
  rw [kg_kd hc, kg_km hc, if_neg (by omega), if_pos (Nat.le_refl _)]
theorem kg_fe_7 {r c : Nat} (hc : c < 7) : kg_fe (7 * r + c) 7 = kg_en r c 3 := by
  unfold kg_fe
  rw [kg_kd hc, kg_km hc, if_pos rfl]
theorem kg_fe_c' {r c : Nat} (hc : c < 7) : kg_fe (7 * r + c + 1) c = kg_nb (kg_en r c 2) := by
  rw [kg_nb2]
  unfold kg_fe
  rcases kg_k1 (r := r) hc with ⟨h1, h2, h3⟩ | ⟨h1, h2, h3⟩
  · rw [h2, h3, if_neg (by omega), if_neg (by omega)]
  · rw [h2, h3, if_neg (by omega), if_pos (by omega)]
theorem kg_fe_7' {r c : Nat} (hc : c < 7) : kg_fe (7 * r + c + 1) 7 = kg_nb (kg_en r c 1) := by
  rw [kg_nb1]
  unfold kg_fe
  rcases kg_k1 (r := r) hc with ⟨h1, h2, h3⟩ | ⟨h1, h2, h3⟩
  · rw [h2, h3, if_pos rfl]
  · rw [h2, h3, if_pos rfl]
    unfold kg_en; omega
theorem kg_fe_o {r c j : Nat} (hc : c < 7) (jc : j ≠ c) (j7 : j < 7) : kg_fe (7 * r + c + 1) j = kg_fe (7 * r + c) j := by
  have j7' : j ≠ 7 := by omega
  unfold kg_fe
  simp only [kg_kd hc, kg_km hc, if_neg j7']
  rcases kg_k1 (r := r) hc with ⟨h1, h2, h3⟩ | ⟨h1, h2, h3⟩
  · rw [h2, h3]
    by_cases q : c ≤ j
    · rw [if_pos q, if_pos (by omega)]
    · rw [if_neg q, if_neg (by omega)]
  · rw [h2, h3]
    rw [if_pos (by omega), if_neg (by omega)]
theorem kg_fe_mod {k j : Nat} (hj : j < 8) : kg_fe k j % 4 = 0 ∨ kg_fe k j % 4 = 3 := by
  unfold kg_fe
  split
  · exact Or.inr (kg_e4 (by omega))
  · split
    · exact Or.inl (kg_e4 (by omega))
    · exact Or.inl (kg_e4 (by omega))
theorem kr_rm {V V' : Nat → Prop} {t : Nat → Nat} {a b : Nat} (ht : kr_inv V t) (ha : V a) (hab : t a = b) (hV : ∀ v, V' v ↔ V v ∧ v ≠ a ∧ v ≠ b) : kr_inv V' t := by
  intro v hv
  obtain ⟨v0, va, vb⟩ := (hV v).mp hv
  have tb : t b = a := by rw [← hab]; exact (ht a ha).2
  refine ⟨(hV _).mpr ⟨(ht v v0).1, fun e => vb ?_, fun e => va ?_⟩, (ht v v0).2⟩
  · rw [← (ht v v0).2, e, hab]
  · rw [← (ht v v0).2, e, tb]
theorem kg_ptk {g : kg_G} (ok : kg_ok g) (ch : Nat → Nat) (k : Nat) : kr_inv (kg_Vk g k) (kg_pt g ch) := by
  intro v hv
  have z := (kg_pt_inv ok ch).1 v hv.1
  refine ⟨⟨z.1, ?_⟩, z.2⟩
  have h4 := hv.2
  revert h4
  refine kg_Vc ok (P := fun v => 4 * k ≤ v → 4 * k ≤ kg_pt g ch v) ?_ hv.1
  intro r c d hr hc hd hD h4
  rw [kg_pt_en hc hd]
  unfold kg_en at h4 ⊢
  omega
/-- the ends behind cell k -/
theorem kg_Vk1 {g : kg_G} (ok : kg_ok g) {r c : Nat} (hc : c < 7) (v : Nat) :
    kg_Vk g (7 * r + c + 1) v ↔ kg_Vk g (7 * r + c) v ∧ v ≠ kg_en r c 0 ∧ v ≠ kg_en r c 1 ∧ v ≠ kg_en r c 2 ∧ v ≠ kg_en r c 3 := by
  unfold kg_Vk kg_en
  constructor
  · intro h
    refine ⟨⟨h.1, by omega⟩, by omega, by omega, by omega, by omega⟩
  · intro h
    exact ⟨h.1.1, by omega⟩
theorem kg_nV {g : kg_G} {r c d v : Nat} (hc : c < 7) (hd : d < 4) (hn : ¬ kg_D g r c d) {k : Nat} (hv : kg_Vk g k v) : v ≠ kg_en r c d := by
  intro e
  rw [e] at hv
  exact hn ((kg_Ven hc hd).mp hv.1)
theorem kg_iV {g : kg_G} {r c d : Nat} (hc : c < 7) (hd : d < 4) (hD : kg_D g r c d) : kg_Vk g (7 * r + c) (kg_en r c d) :=
  ⟨(kg_Ven hc hd).mpr hD, by unfold kg_en; omega⟩
theorem kg_ne {r c d d' : Nat} (h : d ≠ d') : kg_en r c d ≠ kg_en r c d' := by unfold kg_en; omega
theorem kg_nf {k j r c d : Nat} (hj : j < 8) (hd : d = 1 ∨ d = 2) : kg_fe k j ≠ kg_en r c d := by
  intro e
  have a := kg_fe_mod (k := k) hj
  rw [e, kg_e4 (by omega)] at a
  omega
theorem kg_pt_of {g : kg_G} {ch : Nat → Nat} {r c d d' : Nat} (hc : c < 7) (hd : d < 4) (h : kg_pd g ch r c d = d') : kg_pt g ch (kg_en r c d) = kg_en r c d' := by
  rw [kg_pt_en hc hd, h]
/-- type 2: column and hand are joined -/
theorem kg_st2 {g : kg_G} (ok : kg_ok g) (ch : Nat → Nat) {r c N : Nat} {p : Nat → Nat} (hc : c < 7) (ht : kg_ty g r c = 2) (hp : kp_V g (7 * r + c) p)
    (h : kf_C kg_nb (kg_Vk g (7 * r + c + 1)) (kg_pt g ch) (kg_fe (7 * r + c + 1)) (kp_join p c 7) (kg_Op g (7 * r + c + 1)) N) :
    kf_C kg_nb (kg_Vk g (7 * r + c)) (kg_pt g ch) (kg_fe (7 * r + c)) p (kg_Op g (7 * r + c)) (if p c = 7 then N + 1 else N) := by
  obtain ⟨d0, d1, d2, d3⟩ := (kg_ty_D ok r c).2.1 ht
  have oc := (kg_Op_c (r := r) hc).mpr d0
  have o7 := (kg_Op_7 (r := r) hc).mpr d3
  have c7 : c ≠ 7 := by omega
  have iv := kp_V_inv hp
  have hO : ∀ m, kg_Op g (7 * r + c + 1) m ↔ kg_Op g (7 * r + c) m ∧ m ≠ c ∧ m ≠ 7 := fun m => by
    by_cases mc : m = c
    · rw [mc, kg_Op_c' ok hc]
      exact ⟨fun q => absurd q d2, fun q => absurd rfl q.2.1⟩
    · by_cases m7 : m = 7
      · rw [m7, kg_Op_7' ok hc]
        exact ⟨fun q => absurd q d1, fun q => absurd rfl q.2.2⟩
      · rw [kg_Op_o hc mc m7]
        exact ⟨fun q => ⟨q, mc, m7⟩, fun q => q.1⟩
  have pd : kg_pd g ch r c 0 = 3 := by
    unfold kg_pd
    rw [kg_bt.mpr d0, kg_bf.mpr d1, kg_bf.mpr d2, kg_bt.mpr d3]
    simp [kg_p4]
  refine kf_join (kg_ptk ok ch _) oc o7 c7 (V' := kg_Vk g (7 * r + c + 1)) (O' := kg_Op g (7 * r + c + 1)) ?_ ?_ hO ?_
  · rw [kg_fe_c hc, kg_fe_7 hc]
    exact kg_pt_of hc (by omega) pd
  · intro v
    rw [kg_Vk1 ok hc, kg_fe_c hc, kg_fe_7 hc]
    exact ⟨fun q => ⟨q.1, q.2.1, q.2.2.2.2⟩, fun q => ⟨q.1, q.2.1, kg_nV hc (by omega) d1 q.1, kg_nV hc (by omega) d2 q.1, q.2.2⟩⟩
  · refine kf_Ccong (fun v => Iff.rfl) (fun j => Iff.rfl) (fun j hj => ?_) (fun j hj => ?_) h
    · have z := (hO j).mp hj
      exact kg_fe_o hc z.2.1 (by have := kg_Op8 z.1; omega)
    · have z := (hO j).mp hj
      rw [kp_join_eq hp.1 c7 (iv.2 c oc) (iv.2 7 o7), if_neg z.2.1, if_neg z.2.2]
/-- type 3: a new arc from column and hand -/
theorem kg_st3 {g : kg_G} (ok : kg_ok g) (ch : Nat → Nat) {r c N : Nat} {p : Nat → Nat} (hc : c < 7) (ht : kg_ty g r c = 3)
    (h : kf_C kg_nb (kg_Vk g (7 * r + c + 1)) (kg_pt g ch) (kg_fe (7 * r + c + 1)) (kp_link p c 7) (kg_Op g (7 * r + c + 1)) N) :
    kf_C kg_nb (kg_Vk g (7 * r + c)) (kg_pt g ch) (kg_fe (7 * r + c)) p (kg_Op g (7 * r + c)) N := by
  obtain ⟨d0, d1, d2, d3⟩ := (kg_ty_D ok r c).2.2.1 ht
  have oc : ¬ kg_Op g (7 * r + c) c := fun q => d0 ((kg_Op_c hc).mp q)
  have o7 : ¬ kg_Op g (7 * r + c) 7 := fun q => d3 ((kg_Op_7 hc).mp q)
  have c7 : c ≠ 7 := by omega
  have pd : kg_pd g ch r c 1 = 2 := by
    unfold kg_pd
    rw [kg_bf.mpr d0, kg_bt.mpr d1, kg_bt.mpr d2, kg_bf.mpr d3]
    simp [kg_p4]
  refine kf_new (i := 7) (j := c) (a := kg_en r c 1) (b := kg_en r c 2) (V' := kg_Vk g (7 * r + c + 1)) (O' := kg_Op g (7 * r + c + 1)) (fe' := kg_fe (7 * r + c + 1)) (p' := kp_link p c 7)
    (kg_ptk ok ch _) o7 oc (Ne.symm c7) (kg_iV hc (by omega) d1) (kg_iV hc (by omega) d2) (kg_pt_of hc (by omega) pd) (kg_ne (by omega)) ?_ ?_ ?_ ?_ ?_ (kg_fe_7' hc) (kg_fe_c' hc) ?_ ?_ ?_ ?_ h
  · rw [kg_nb1]; unfold kg_en; omega
  · exact fun m hm => kg_nf (kg_Op8 hm) (Or.inl rfl)
  · exact fun m hm => kg_nf (kg_Op8 hm) (Or.inr rfl)
  · intro v
    rw [kg_Vk1 ok hc]
    exact ⟨fun q => ⟨q.1, q.2.2.1, q.2.2.2.1⟩, fun q => ⟨q.1, kg_nV hc (by omega) d0 q.1, q.2.1, q.2.2, kg_nV hc (by omega) d3 q.1⟩⟩
  · intro m
    by_cases mc : m = c
    · rw [mc, kg_Op_c' ok hc]
      exact ⟨fun _ => Or.inr (Or.inr rfl), fun _ => d2⟩
    · by_cases m7 : m = 7
      · rw [m7, kg_Op_7' ok hc]
        exact ⟨fun _ => Or.inr (Or.inl rfl), fun _ => d1⟩
      · rw [kg_Op_o hc mc m7]
        exact ⟨fun q => Or.inl q, fun q => by
          rcases q with q | q | q
          · exact q
          · exact absurd q m7
          · exact absurd q mc⟩
  · intro m hm
    exact kg_fe_o hc (fun e => oc (e ▸ hm)) (by have := kg_Op8 hm; have : m ≠ 7 := fun e => o7 (e ▸ hm); omega)
  · unfold kp_link; rw [kp_us]
  · unfold kp_link; rw [kp_un c7, kp_us]
  · intro m hm
    have mc : m ≠ c := fun e => oc (e ▸ hm)
    have m7 : m ≠ 7 := fun e => o7 (e ▸ hm)
    unfold kp_link; rw [kp_un m7, kp_un mc]
/-- a strand that runs straight on: label i, from end a to end b -/
theorem kg_stm {g : kg_G} (ok : kg_ok g) (ch : Nat → Nat) {r c N i da db : Nat} {p : Nat → Nat} {V V' : Nat → Prop} {fe : Nat → Nat} {O : Nat → Prop} (ht : kr_inv V (kg_pt g ch)) (hc : c < 7) (hi : O i) (O8 : ∀ j, O j → j < 8)
    (hfe : fe i = kg_en r c da) (hda : da < 4) (hdb : db = 1 ∨ db = 2) (hb : V (kg_en r c db)) (pd : kg_pd g ch r c da = db) (nfb : ∀ j, O j → fe j ≠ kg_en r c db)
    (hV : ∀ v, V' v ↔ V v ∧ v ≠ kg_en r c da ∧ v ≠ kg_en r c db)
    (h : kf_C kg_nb V' (kg_pt g ch) (kp_ud fe i (kg_nb (kg_en r c db))) p O N) : kf_C kg_nb V (kg_pt g ch) fe p O N := by
  refine kf_move (fe' := kp_ud fe i (kg_nb (kg_en r c db))) ht hi hb ?_ nfb (by rw [hfe]; exact hV) kp_us (fun j hj e => kp_un e) h
  rw [hfe]
  exact kg_pt_of hc hda pd
end
section
theorem kg_fe_oo {r c j : Nat} (hc : c < 7) (jc : j ≠ c) (j7 : j ≠ 7) (hj : j < 8) : kg_fe (7 * r + c + 1) j = kg_fe (7 * r + c) j := kg_fe_o hc jc (by omega)
/-- types 0, 4, 5, 1: the same slots hold an end, up to the swap -/
theorem kg_Opt {g : kg_G} (ok : kg_ok g) {r c : Nat} (hc : c < 7) (ht : kg_ty g r c = 1 ∨ kg_ty g r c = 4 ∨ kg_ty g r c = 5) (j : Nat) :
    kg_Op g (7 * r + c + 1) j ↔ kg_Op g (7 * r + c) (kp_t c 7 j) := by
  have T := kg_ty_D ok r c
  have key : (kg_D g r c 2 ↔ kg_D g r c 3) ∧ (kg_D g r c 1 ↔ kg_D g r c 0) := by
    rcases ht with ht | ht | ht
    · have z := T.1 ht
      exact ⟨⟨fun _ => z.2.2.2, fun _ => z.2.2.1⟩, ⟨fun _ => z.1, fun _ => z.2.1⟩⟩
    · have z := T.2.2.2.1 ht
      exact ⟨⟨fun q => absurd q z.2.2.1, fun q => absurd q z.2.2.2⟩, ⟨fun _ => z.1, fun _ => z.2.1⟩⟩
    · have z := T.2.2.2.2.1 ht
      exact ⟨⟨fun _ => z.2.2.2, fun _ => z.2.2.1⟩, ⟨fun q => absurd q z.2.1, fun q => absurd q z.1⟩⟩
  by_cases jc : j = c
  · rw [jc, kp_t_a, kg_Op_c' ok hc, kg_Op_7 hc]; exact key.1
  · by_cases j7 : j = 7
    · rw [j7, kp_t_b, kg_Op_7' ok hc, kg_Op_c hc]; exact key.2
    · rw [kp_t_o jc j7, kg_Op_o hc jc j7]
theorem kg_Op0 {g : kg_G} (ok : kg_ok g) {r c : Nat} (hc : c < 7) (ht : kg_ty g r c = 0) (j : Nat) :
    kg_Op g (7 * r + c + 1) j ↔ kg_Op g (7 * r + c) j := by
  have z := (kg_ty_D ok r c).2.2.2.2.2.1 ht
  by_cases jc : j = c
  · rw [jc, kg_Op_c' ok hc, kg_Op_c hc]; exact z.1.symm
  · by_cases j7 : j = 7
    · rw [j7, kg_Op_7' ok hc, kg_Op_7 hc]; exact z.2.1
    · exact kg_Op_o hc jc j7
theorem kg_st4 {g : kg_G} (ok : kg_ok g) (ch : Nat → Nat) {r c N : Nat} {p : Nat → Nat} (hc : c < 7) (ht : kg_ty g r c = 4)
    (h : kf_C kg_nb (kg_Vk g (7 * r + c + 1)) (kg_pt g ch) (kg_fe (7 * r + c + 1)) (kp_cj c 7 p) (kg_Op g (7 * r + c + 1)) N) :
    kf_C kg_nb (kg_Vk g (7 * r + c)) (kg_pt g ch) (kg_fe (7 * r + c)) p (kg_Op g (7 * r + c)) N := by
  obtain ⟨d0, d1, d2, d3⟩ := (kg_ty_D ok r c).2.2.2.1 ht
  have oc := (kg_Op_c (r := r) hc).mpr d0
  have c7 : c ≠ 7 := by omega
  have o7 : ¬ kg_Op g (7 * r + c) 7 := fun q => d3 ((kg_Op_7 hc).mp q)
  have pd : kg_pd g ch r c 0 = 1 := by
    unfold kg_pd
    rw [kg_bt.mpr d0, kg_bt.mpr d1, kg_bf.mpr d2, kg_bf.mpr d3]
    simp [kg_p4]
  refine kg_stm ok ch (i := c) (da := 0) (db := 1) (V' := kg_Vk g (7 * r + c + 1)) (kg_ptk ok ch _) hc oc (fun j => kg_Op8) (kg_fe_c hc) (by omega) (Or.inl rfl)
    (kg_iV hc (by omega) d1) pd (fun j hj => kg_nf (kg_Op8 hj) (Or.inl rfl)) ?_ ?_
  · intro v
    rw [kg_Vk1 ok hc]
    exact ⟨fun q => ⟨q.1, q.2.1, q.2.2.1⟩, fun q => ⟨q.1, q.2.1, q.2.2, kg_nV hc (by omega) d2 q.1, kg_nV hc (by omega) d3 q.1⟩⟩
  · refine kf_Ctau (kp_t c 7) kp_tt (kf_Ccong (fun v => Iff.rfl) (fun j => kg_Opt ok hc (Or.inr (Or.inl ht)) j) (fun j hj => ?_) (fun j hj => rfl) h)
    show kg_fe (7 * r + c + 1) j = kp_ud (kg_fe (7 * r + c)) c (kg_nb (kg_en r c 1)) (kp_t c 7 j)
    by_cases jc : j = c
    · rw [jc, kp_t_a] at hj; exact absurd hj o7
    · by_cases j7 : j = 7
      · rw [j7, kp_t_b, kp_us, kg_fe_7' hc]
      · rw [kp_t_o jc j7] at hj ⊢
        rw [kp_un jc, kg_fe_oo hc jc j7 (kg_Op8 hj)]
theorem kg_st5 {g : kg_G} (ok : kg_ok g) (ch : Nat → Nat) {r c N : Nat} {p : Nat → Nat} (hc : c < 7) (ht : kg_ty g r c = 5)
    (h : kf_C kg_nb (kg_Vk g (7 * r + c + 1)) (kg_pt g ch) (kg_fe (7 * r + c + 1)) (kp_cj c 7 p) (kg_Op g (7 * r + c + 1)) N) :
    kf_C kg_nb (kg_Vk g (7 * r + c)) (kg_pt g ch) (kg_fe (7 * r + c)) p (kg_Op g (7 * r + c)) N := by
  obtain ⟨d0, d1, d2, d3⟩ := (kg_ty_D ok r c).2.2.2.2.1 ht
  have o7 := (kg_Op_7 (r := r) hc).mpr d3
  have c7 : c ≠ 7 := by omega
  have oc : ¬ kg_Op g (7 * r + c) c := fun q => d0 ((kg_Op_c hc).mp q)
  have pd : kg_pd g ch r c 3 = 2 := by
    unfold kg_pd
    rw [kg_bf.mpr d0, kg_bf.mpr d1, kg_bt.mpr d2, kg_bt.mpr d3]
    simp [kg_p4]
  refine kg_stm ok ch (i := 7) (da := 3) (db := 2) (V' := kg_Vk g (7 * r + c + 1)) (kg_ptk ok ch _) hc o7 (fun j => kg_Op8) (kg_fe_7 hc) (by omega) (Or.inr rfl)
    (kg_iV hc (by omega) d2) pd (fun j hj => kg_nf (kg_Op8 hj) (Or.inr rfl)) ?_ ?_
  · intro v
    rw [kg_Vk1 ok hc]
    exact ⟨fun q => ⟨q.1, q.2.2.2.2, q.2.2.2.1⟩, fun q => ⟨q.1, kg_nV hc (by omega) d0 q.1, kg_nV hc (by omega) d1 q.1, q.2.2, q.2.1⟩⟩
  · refine kf_Ctau (kp_t c 7) kp_tt (kf_Ccong (fun v => Iff.rfl) (fun j => kg_Opt ok hc (Or.inr (Or.inr ht)) j) (fun j hj => ?_) (fun j hj => rfl) h)
    show kg_fe (7 * r + c + 1) j = kp_ud (kg_fe (7 * r + c)) 7 (kg_nb (kg_en r c 2)) (kp_t c 7 j)
    by_cases jc : j = c
    · rw [jc, kp_t_a, kp_us, kg_fe_c' hc]
    · by_cases j7 : j = 7
      · rw [j7, kp_t_b] at hj; exact absurd hj oc
      · rw [kp_t_o jc j7] at hj ⊢
        rw [kp_un j7, kg_fe_oo hc jc j7 (kg_Op8 hj)]
theorem kg_st0 {g : kg_G} (ok : kg_ok g) (ch : Nat → Nat) {r c N : Nat} {p : Nat → Nat} (hc : c < 7) (ht : kg_ty g r c = 0)
    (h : kf_C kg_nb (kg_Vk g (7 * r + c + 1)) (kg_pt g ch) (kg_fe (7 * r + c + 1)) p (kg_Op g (7 * r + c + 1)) N) :
    kf_C kg_nb (kg_Vk g (7 * r + c)) (kg_pt g ch) (kg_fe (7 * r + c)) p (kg_Op g (7 * r + c)) N := by
  obtain ⟨e02, e13, n01⟩ := (kg_ty_D ok r c).2.2.2.2.2.1 ht
  have c7 : c ≠ 7 := by omega
  by_cases d0 : kg_D g r c 0
  · have d2 := e02.mp d0
    have d1 : ¬ kg_D g r c 1 := fun q => n01 ⟨d0, q⟩
    have d3 : ¬ kg_D g r c 3 := fun q => d1 (e13.mpr q)
    have oc := (kg_Op_c (r := r) hc).mpr d0
    have o7 : ¬ kg_Op g (7 * r + c) 7 := fun q => d3 ((kg_Op_7 hc).mp q)
    have pd : kg_pd g ch r c 0 = 2 := by
      unfold kg_pd
      rw [kg_bt.mpr d0, kg_bf.mpr d1, kg_bt.mpr d2, kg_bf.mpr d3]
      simp [kg_p4]
    refine kg_stm ok ch (i := c) (da := 0) (db := 2) (V' := kg_Vk g (7 * r + c + 1)) (kg_ptk ok ch _) hc oc (fun j => kg_Op8) (kg_fe_c hc) (by omega) (Or.inr rfl)
      (kg_iV hc (by omega) d2) pd (fun j hj => kg_nf (kg_Op8 hj) (Or.inr rfl)) ?_ ?_
    · intro v
      rw [kg_Vk1 ok hc]
      exact ⟨fun q => ⟨q.1, q.2.1, q.2.2.2.1⟩, fun q => ⟨q.1, q.2.1, kg_nV hc (by omega) d1 q.1, q.2.2, kg_nV hc (by omega) d3 q.1⟩⟩
    · refine kf_Ccong (fun v => Iff.rfl) (fun j => kg_Op0 ok hc ht j) (fun j hj => ?_) (fun j hj => rfl) h
      by_cases jc : j = c
      · rw [jc, kp_us, kg_fe_c' hc]
      · rw [kp_un jc]
        exact kg_fe_oo hc jc (fun e => o7 (e ▸ hj)) (kg_Op8 hj)
  · have oc : ¬ kg_Op g (7 * r + c) c := fun q => d0 ((kg_Op_c hc).mp q)
    have d2 : ¬ kg_D g r c 2 := fun q => d0 (e02.mpr q)
    by_cases d1 : kg_D g r c 1
    · have d3 := e13.mp d1
      have o7 := (kg_Op_7 (r := r) hc).mpr d3
      have pd : kg_pd g ch r c 3 = 1 := by
        unfold kg_pd
        rw [kg_bf.mpr d0, kg_bt.mpr d1, kg_bf.mpr d2, kg_bt.mpr d3]
        simp [kg_p4]
      refine kg_stm ok ch (i := 7) (da := 3) (db := 1) (V' := kg_Vk g (7 * r + c + 1)) (kg_ptk ok ch _) hc o7 (fun j => kg_Op8) (kg_fe_7 hc) (by omega) (Or.inl rfl)
        (kg_iV hc (by omega) d1) pd (fun j hj => kg_nf (kg_Op8 hj) (Or.inl rfl)) ?_ ?_
      · intro v
        rw [kg_Vk1 ok hc]
        exact ⟨fun q => ⟨q.1, q.2.2.2.2, q.2.2.1⟩, fun q => ⟨q.1, kg_nV hc (by omega) d0 q.1, q.2.2, kg_nV hc (by omega) d2 q.1, q.2.1⟩⟩
      · refine kf_Ccong (fun v => Iff.rfl) (fun j => kg_Op0 ok hc ht j) (fun j hj => ?_) (fun j hj => rfl) h
        by_cases j7 : j = 7
        · rw [j7, kp_us, kg_fe_7' hc]
        · rw [kp_un j7]
          exact kg_fe_oo hc (fun e => oc (e ▸ hj)) j7 (kg_Op8 hj)
    · have d3 : ¬ kg_D g r c 3 := fun q => d1 (e13.mpr q)
      have o7 : ¬ kg_Op g (7 * r + c) 7 := fun q => d3 ((kg_Op_7 hc).mp q)
      refine kf_Ccong (fun v => ?_) (fun j => kg_Op0 ok hc ht j) (fun j hj => ?_) (fun j hj => rfl) h
      · rw [kg_Vk1 ok hc]
        exact ⟨fun q => q.1, fun q => ⟨q, kg_nV hc (by omega) d0 q, kg_nV hc (by omega) d1 q, kg_nV hc (by omega) d2 q, kg_nV hc (by omega) d3 q⟩⟩
      · exact kg_fe_oo hc (fun e => oc (e ▸ hj)) (fun e => o7 (e ▸ hj)) (kg_Op8 hj)
/-- a crossing, smoothing A -/
theorem kg_st1A {g : kg_G} (ok : kg_ok g) (ch : Nat → Nat) {r c N : Nat} {p : Nat → Nat} (hc : c < 7) (ht : kg_ty g r c = 1) (hch : ch (7 * r + c) = 1)
    (h : kf_C kg_nb (kg_Vk g (7 * r + c + 1)) (kg_pt g ch) (kg_fe (7 * r + c + 1)) (kp_cj c 7 p) (kg_Op g (7 * r + c + 1)) N) :
    kf_C kg_nb (kg_Vk g (7 * r + c)) (kg_pt g ch) (kg_fe (7 * r + c)) p (kg_Op g (7 * r + c)) N := by
  obtain ⟨d0, d1, d2, d3⟩ := (kg_ty_D ok r c).1 ht
  have oc := (kg_Op_c (r := r) hc).mpr d0
  have o7 := (kg_Op_7 (r := r) hc).mpr d3
  have c7 : c ≠ 7 := by omega
  have pd0 : kg_pd g ch r c 0 = 1 := by
    unfold kg_pd
    rw [kg_bt.mpr d0, kg_bt.mpr d1, kg_bt.mpr d2, kg_bt.mpr d3, hch]
    rfl
  have pd3 : kg_pd g ch r c 3 = 2 := by
    unfold kg_pd
    rw [kg_bt.mpr d0, kg_bt.mpr d1, kg_bt.mpr d2, kg_bt.mpr d3, hch]
    rfl
  refine kg_stm ok ch (i := c) (da := 0) (db := 1) (V' := fun v => kg_Vk g (7 * r + c) v ∧ v ≠ kg_en r c 0 ∧ v ≠ kg_en r c 1) (kg_ptk ok ch _) hc oc (fun j => kg_Op8) (kg_fe_c hc) (by omega) (Or.inl rfl)
    (kg_iV hc (by omega) d1) pd0 (fun j hj => kg_nf (kg_Op8 hj) (Or.inl rfl)) (fun v => Iff.rfl) ?_
  refine kg_stm ok ch (i := 7) (da := 3) (db := 2) (V' := kg_Vk g (7 * r + c + 1))
    (kr_rm (kg_ptk ok ch _) (kg_iV hc (by omega) d0) (kg_pt_of hc (by omega) pd0) (fun v => Iff.rfl)) hc o7 (fun j => kg_Op8) (by rw [kp_un (Ne.symm c7), kg_fe_7 hc]) (by omega) (Or.inr rfl)
    ⟨kg_iV hc (by omega) d2, kg_ne (by omega), kg_ne (by omega)⟩ pd3 (fun j hj => ?_) ?_ ?_
  · by_cases jc : j = c
    · rw [jc, kp_us, kg_nb1]; unfold kg_en; omega
    · rw [kp_un jc]; exact kg_nf (kg_Op8 hj) (Or.inr rfl)
  · intro v
    rw [kg_Vk1 ok hc]
    exact ⟨fun q => ⟨⟨q.1, q.2.1, q.2.2.1⟩, q.2.2.2.2, q.2.2.2.1⟩, fun q => ⟨q.1.1, q.1.2.1, q.1.2.2, q.2.2, q.2.1⟩⟩
  · refine kf_Ctau (kp_t c 7) kp_tt (kf_Ccong (fun v => Iff.rfl) (fun j => kg_Opt ok hc (Or.inl ht) j) (fun j hj => ?_) (fun j hj => rfl) h)
    show kg_fe (7 * r + c + 1) j = kp_ud (kp_ud (kg_fe (7 * r + c)) c (kg_nb (kg_en r c 1))) 7 (kg_nb (kg_en r c 2)) (kp_t c 7 j)
    by_cases jc : j = c
    · rw [jc, kp_t_a, kp_us, kg_fe_c' hc]
    · by_cases j7 : j = 7
      · rw [j7, kp_t_b, kp_un c7, kp_us, kg_fe_7' hc]
      · rw [kp_t_o jc j7] at hj ⊢
        rw [kp_un j7, kp_un jc, kg_fe_oo hc jc j7 (kg_Op8 hj)]
/-- a crossing, smoothing B -/
theorem kg_st1B {g : kg_G} (ok : kg_ok g) (ch : Nat → Nat) {r c N : Nat} {p : Nat → Nat} (hc : c < 7) (ht : kg_ty g r c = 1) (hch : ch (7 * r + c) = 2) (hp : kp_V g (7 * r + c) p)
    (h : kf_C kg_nb (kg_Vk g (7 * r + c + 1)) (kg_pt g ch) (kg_fe (7 * r + c + 1)) (kp_link (kp_join p c 7) c 7) (kg_Op g (7 * r + c + 1)) N) :
    kf_C kg_nb (kg_Vk g (7 * r + c)) (kg_pt g ch) (kg_fe (7 * r + c)) p (kg_Op g (7 * r + c)) (if p c = 7 then N + 1 else N) := by
  obtain ⟨d0, d1, d2, d3⟩ := (kg_ty_D ok r c).1 ht
  have oc := (kg_Op_c (r := r) hc).mpr d0
  have o7 := (kg_Op_7 (r := r) hc).mpr d3
  have c7 : c ≠ 7 := by omega
  have iv := kp_V_inv hp
  have pd0 : kg_pd g ch r c 0 = 3 := by
    unfold kg_pd
    rw [kg_bt.mpr d0, kg_bt.mpr d1, kg_bt.mpr d2, kg_bt.mpr d3, hch]
    rfl
  have pd1 : kg_pd g ch r c 1 = 2 := by
    unfold kg_pd
    rw [kg_bt.mpr d0, kg_bt.mpr d1, kg_bt.mpr d2, kg_bt.mpr d3, hch]
    rfl
  refine kf_join (kg_ptk ok ch _) oc o7 c7 (V' := fun v => kg_Vk g (7 * r + c) v ∧ v ≠ kg_en r c 0 ∧ v ≠ kg_en r c 3) (O' := fun m => kg_Op g (7 * r + c) m ∧ m ≠ c ∧ m ≠ 7) ?_ ?_ (fun m => Iff.rfl) ?_
  · rw [kg_fe_c hc, kg_fe_7 hc]
    exact kg_pt_of hc (by omega) pd0
  · intro v
    rw [kg_fe_c hc, kg_fe_7 hc]
  · refine kf_new (i := 7) (j := c) (a := kg_en r c 1) (b := kg_en r c 2) (V' := kg_Vk g (7 * r + c + 1)) (O' := kg_Op g (7 * r + c + 1)) (fe' := kg_fe (7 * r + c + 1)) (p' := kp_link (kp_join p c 7) c 7)
      (kr_rm (kg_ptk ok ch _) (kg_iV hc (by omega) d0) (kg_pt_of hc (by omega) pd0) (fun v => Iff.rfl)) (fun q => q.2.2 rfl) (fun q => q.2.1 rfl) (Ne.symm c7)
      ⟨kg_iV hc (by omega) d1, kg_ne (by omega), kg_ne (by omega)⟩ ⟨kg_iV hc (by omega) d2, kg_ne (by omega), kg_ne (by omega)⟩ (kg_pt_of hc (by omega) pd1) (kg_ne (by omega)) ?_ ?_ ?_ ?_ ?_ (kg_fe_7' hc) (kg_fe_c' hc) ?_ ?_ ?_ ?_ h
    · rw [kg_nb1]; unfold kg_en; omega
    · exact fun m hm => kg_nf (kg_Op8 hm.1) (Or.inl rfl)
    · exact fun m hm => kg_nf (kg_Op8 hm.1) (Or.inr rfl)
    · intro v
      rw [kg_Vk1 ok hc]
      exact ⟨fun q => ⟨⟨q.1, q.2.1, q.2.2.2.2⟩, q.2.2.1, q.2.2.2.1⟩, fun q => ⟨q.1.1, q.1.2.1, q.2.1, q.2.2, q.1.2.2⟩⟩
    · intro m
      by_cases mc : m = c
      · rw [mc, kg_Op_c' ok hc]
        exact ⟨fun _ => Or.inr (Or.inr rfl), fun _ => d2⟩
      · by_cases m7 : m = 7
        · rw [m7, kg_Op_7' ok hc]
          exact ⟨fun _ => Or.inr (Or.inl rfl), fun _ => d1⟩
        · rw [kg_Op_o hc mc m7]
          exact ⟨fun q => Or.inl ⟨q, mc, m7⟩, fun q => by
            rcases q with q | q | q
            · exact q.1
            · exact absurd q m7
            · exact absurd q mc⟩
    · intro m hm
      exact kg_fe_oo hc hm.2.1 hm.2.2 (kg_Op8 hm.1)
    · unfold kp_link; rw [kp_us]
    · unfold kp_link; rw [kp_un c7, kp_us]
    · intro m hm
      unfold kp_link
      rw [kp_un hm.2.2, kp_un hm.2.1, kp_join_eq hp.1 c7 (iv.2 c oc) (iv.2 7 o7), if_neg hm.2.1, if_neg hm.2.2]
end
section
/-! validity along the sweep; the number of closings of a path is the number of loops -/
theorem kp_st0 {g : kg_G} (ok : kg_ok g) {r c : Nat} {p : Nat → Nat} (hc : c < 7) (ht : kg_ty g r c = 0) (hp : kp_V g (7 * r + c) p) : kp_V g (7 * r + c + 1) p :=
  ⟨hp.1, fun j => by rw [kg_Op0 ok hc ht]; exact hp.2 j⟩
theorem kp_stj {g : kg_G} (ok : kg_ok g) {r c : Nat} {p : Nat → Nat} (hc : c < 7) (ht : kg_ty g r c = 1 ∨ kg_ty g r c = 4 ∨ kg_ty g r c = 5) (hp : kp_V g (7 * r + c) p) : kp_V g (7 * r + c + 1) (kp_cj c 7 p) :=
  kp_cj_V hp (kg_Opt ok hc ht)
theorem kg_O2 {g : kg_G} (ok : kg_ok g) {r c : Nat} (hc : c < 7) (ht : kg_ty g r c = 2) (m : Nat) : kg_Op g (7 * r + c + 1) m ↔ kg_Op g (7 * r + c) m ∧ m ≠ c ∧ m ≠ 7 := by
  obtain ⟨d0, d1, d2, d3⟩ := (kg_ty_D ok r c).2.1 ht
  by_cases mc : m = c
  · rw [mc, kg_Op_c' ok hc]
    exact ⟨fun q => absurd q d2, fun q => absurd rfl q.2.1⟩
  · by_cases m7 : m = 7
    · rw [m7, kg_Op_7' ok hc]
      exact ⟨fun q => absurd q d1, fun q => absurd rfl q.2.2⟩
    · rw [kg_Op_o hc mc m7]
      exact ⟨fun q => ⟨q, mc, m7⟩, fun q => q.1⟩
theorem kp_st2 {g : kg_G} (ok : kg_ok g) {r c : Nat} {p : Nat → Nat} (hc : c < 7) (ht : kg_ty g r c = 2) (hp : kp_V g (7 * r + c) p) : kp_V g (7 * r + c + 1) (kp_join p c 7) := by
  obtain ⟨d0, d1, d2, d3⟩ := (kg_ty_D ok r c).2.1 ht
  exact kp_join_V hp (by omega) ((kg_Op_c hc).mpr d0) ((kg_Op_7 hc).mpr d3) (kg_O2 ok hc ht)
theorem kp_st3 {g : kg_G} (ok : kg_ok g) {r c : Nat} {p : Nat → Nat} (hc : c < 7) (ht : kg_ty g r c = 3) (hp : kp_V g (7 * r + c) p) : kp_V g (7 * r + c + 1) (kp_link p c 7) := by
  obtain ⟨d0, d1, d2, d3⟩ := (kg_ty_D ok r c).2.2.1 ht
  have oc : ¬ kg_Op g (7 * r + c) c := fun q => d0 ((kg_Op_c hc).mp q)
  have o7 : ¬ kg_Op g (7 * r + c) 7 := fun q => d3 ((kg_Op_7 hc).mp q)
  refine kp_link_V hp.1 (by omega) ((hp.2 c).mpr oc) ((hp.2 7).mpr o7) (fun m => ?_)
  have e : p m ≠ m ↔ kg_Op g (7 * r + c) m := by
    rw [Ne, hp.2 m]; exact Classical.not_not
  rw [e]
  by_cases mc : m = c
  · rw [mc, kg_Op_c' ok hc]
    exact ⟨fun _ => Or.inr (Or.inl rfl), fun _ => d2⟩
  · by_cases m7 : m = 7
    · rw [m7, kg_Op_7' ok hc]
      exact ⟨fun _ => Or.inr (Or.inr rfl), fun _ => d1⟩
    · rw [kg_Op_o hc mc m7]
      exact ⟨fun q => Or.inl q, fun q => by
        rcases q with q | q | q
        · exact q
        · exact absurd q mc
        · exact absurd q m7⟩
theorem kp_join_self {g : kg_G} {k c : Nat} {p : Nat → Nat} (hp : kp_V g k p) (c7 : c ≠ 7) (oc : kg_Op g k c) (o7 : kg_Op g k 7) :
    (∀ j, kp_join p c 7 (kp_join p c 7 j) = j) ∧ kp_join p c 7 c = c ∧ kp_join p c 7 7 = 7 ∧ ∀ j, kp_join p c 7 j ≠ j ↔ kg_Op g k j ∧ j ≠ c ∧ j ≠ 7 := by
  have iv := kp_V_inv hp
  have je := kp_join_eq hp.1 c7 (iv.2 c oc) (iv.2 7 o7)
  have si := kr_sp_inv (V' := fun j => kg_Op g k j ∧ j ≠ c ∧ j ≠ 7) iv.1 iv.2 oc o7 c7 (fun j => Iff.rfl)
  have out : ∀ m, ¬ (kg_Op g k m ∧ m ≠ c ∧ m ≠ 7) → kp_join p c 7 m = m := fun m hm => by
    rw [je]
    by_cases ma : m = c
    · rw [if_pos ma, ma]
    · by_cases mb : m = 7
      · rw [if_neg ma, if_pos mb, mb]
      · have q : ¬ kg_Op g k m := fun q => hm ⟨q, ma, mb⟩
        rw [if_neg ma, if_neg mb, kr_sp, (hp.2 m).mpr q, if_neg ma, if_neg mb]
  have inn : ∀ m, (kg_Op g k m ∧ m ≠ c ∧ m ≠ 7) → kp_join p c 7 m = kr_sp p c 7 m := fun m hm => by
    rw [je, if_neg hm.2.1, if_neg hm.2.2]
  refine ⟨fun m => ?_, out c (fun q => q.2.1 rfl), out 7 (fun q => q.2.2 rfl), fun m => ⟨fun q => Classical.byContradiction fun z => q (out m z), fun q => ?_⟩⟩
  · by_cases hm : kg_Op g k m ∧ m ≠ c ∧ m ≠ 7
    · rw [inn m hm, inn _ (si.1 m hm).1, (si.1 m hm).2]
    · rw [out m hm, out m hm]
  · rw [inn m q]; exact si.2 m q
theorem kp_st1B {g : kg_G} (ok : kg_ok g) {r c : Nat} {p : Nat → Nat} (hc : c < 7) (ht : kg_ty g r c = 1) (hp : kp_V g (7 * r + c) p) : kp_V g (7 * r + c + 1) (kp_link (kp_join p c 7) c 7) := by
  obtain ⟨d0, d1, d2, d3⟩ := (kg_ty_D ok r c).1 ht
  have js := kp_join_self hp (by omega) ((kg_Op_c (r := r) hc).mpr d0) ((kg_Op_7 (r := r) hc).mpr d3)
  refine kp_link_V js.1 (by omega) js.2.1 js.2.2.1 (fun m => ?_)
  rw [js.2.2.2]
  by_cases mc : m = c
  · rw [mc, kg_Op_c' ok hc]
    exact ⟨fun _ => Or.inr (Or.inl rfl), fun _ => d2⟩
  · by_cases m7 : m = 7
    · rw [m7, kg_Op_7' ok hc]
      exact ⟨fun _ => Or.inr (Or.inr rfl), fun _ => d1⟩
    · rw [kg_Op_o hc mc m7]
      exact ⟨fun q => Or.inl ⟨q, mc, m7⟩, fun q => by
        rcases q with q | q | q
        · exact q.1
        · exact absurd q mc
        · exact absurd q m7⟩
/-- exchange and both renamings are the swap of column and hand -/
theorem kp_e1 {g : kg_G} (ok : kg_ok g) {r c : Nat} {p : Nat → Nat} (hc : c < 7) (ht : kg_ty g r c = 1) (hp : kp_V g (7 * r + c) p) : kp_exc p c 7 = kp_cj c 7 p := by
  obtain ⟨d0, d1, d2, d3⟩ := (kg_ty_D ok r c).1 ht
  have iv := kp_V_inv hp
  exact kp_exc_eq hp.1 (by omega) (iv.2 c ((kg_Op_c hc).mpr d0)) (iv.2 7 ((kg_Op_7 hc).mpr d3))
theorem kp_e4 {g : kg_G} (ok : kg_ok g) {r c : Nat} {p : Nat → Nat} (hc : c < 7) (ht : kg_ty g r c = 4) (hp : kp_V g (7 * r + c) p) : kp_ren p c 7 = kp_cj c 7 p := by
  obtain ⟨d0, d1, d2, d3⟩ := (kg_ty_D ok r c).2.2.2.1 ht
  have iv := kp_V_inv hp
  exact kp_ren_eq hp.1 (by omega) (iv.2 c ((kg_Op_c hc).mpr d0)) ((hp.2 7).mpr (fun q => d3 ((kg_Op_7 hc).mp q)))
theorem kp_t_comm (a b j : Nat) : kp_t a b j = kp_t b a j := by
  unfold kp_t
  split
  · next h => split
              · next h' => rw [← h, h']
              · rfl
  · rfl
theorem kp_cj_comm (a b : Nat) (p : Nat → Nat) : kp_cj a b p = kp_cj b a p := by
  funext j; unfold kp_cj; rw [kp_t_comm, kp_t_comm a b j]
theorem kp_e5 {g : kg_G} (ok : kg_ok g) {r c : Nat} {p : Nat → Nat} (hc : c < 7) (ht : kg_ty g r c = 5) (hp : kp_V g (7 * r + c) p) : kp_ren p 7 c = kp_cj c 7 p := by
  obtain ⟨d0, d1, d2, d3⟩ := (kg_ty_D ok r c).2.2.2.2.1 ht
  have iv := kp_V_inv hp
  rw [kp_cj_comm]
  exact kp_ren_eq hp.1 (by omega) (iv.2 7 ((kg_Op_7 hc).mpr d3)) ((hp.2 c).mpr (fun q => d0 ((kg_Op_c hc).mp q)))
/-- how many of the d cells from k on have type t -/
def ks_ct (g : kg_G) (t : Nat) : Nat → Nat → Nat
  | 0, _ => 0
  | d + 1, k => (if kg_ty g (k / 7) (k % 7) = t then 1 else 0) + ks_ct g t d (k + 1)
/-- all closings of the path s -/
def ks_tc (g : kg_G) : Nat → Nat → Nat → (Nat → Nat) → Nat
  | 0, _, _, _ => 0
  | d + 1, k, s, p =>
    if kg_ty g (k / 7) (k % 7) = 1 then
      (if s % 2 = 0 then ks_tc g d (k + 1) (s / 2) (kp_exc p (k % 7) 7)
       else if p (k % 7) = 7 then ks_tc g d (k + 1) (s / 2) (kp_link (kp_join p (k % 7) 7) (k % 7) 7) + 1 else ks_tc g d (k + 1) (s / 2) (kp_link (kp_join p (k % 7) 7) (k % 7) 7))
    else if kg_ty g (k / 7) (k % 7) = 2 then
      (if p (k % 7) = 7 then ks_tc g d (k + 1) s (kp_join p (k % 7) 7) + 1 else ks_tc g d (k + 1) s (kp_join p (k % 7) 7))
    else if kg_ty g (k / 7) (k % 7) = 3 then ks_tc g d (k + 1) s (kp_link p (k % 7) 7)
    else if kg_ty g (k / 7) (k % 7) = 4 then ks_tc g d (k + 1) s (kp_ren p (k % 7) 7)
    else if kg_ty g (k / 7) (k % 7) = 5 then ks_tc g d (k + 1) s (kp_ren p 7 (k % 7))
    else ks_tc g d (k + 1) s p
theorem ks_ctS {g : kg_G} {t k x : Nat} (h : k < x) : ks_ct g t (x - k) k = (if kg_ty g (k / 7) (k % 7) = t then 1 else 0) + ks_ct g t (x - (k + 1)) (k + 1) := by
  obtain ⟨d, hd⟩ : ∃ d, x - k = d + 1 := ⟨x - k - 1, by omega⟩
  rw [hd, show x - (k + 1) = d from by omega]
  rfl
theorem ks_C {g : kg_G} (ok : kg_ok g) (ch : Nat → Nat) : ∀ d k s p, k + d = 49 → kp_V g k p →
    (∀ x, k ≤ x → x < 49 → kg_ty g (x / 7) (x % 7) = 1 → ch x = 1 + s / 2 ^ ks_ct g 1 (x - k) k % 2) →
    kf_C kg_nb (kg_Vk g k) (kg_pt g ch) (kg_fe k) p (kg_Op g k) (ks_tc g d k s p) := by
  intro d
  induction d with
  | zero =>
    intro k s p hk hp hch s' S
    refine ⟨[], ⟨fun u hu => (nomatch hu), List.Pairwise.nil, fun v hv => ?_⟩, rfl⟩
    have z := kg_Vlt ok hv.1
    have z2 := hv.2
    omega
  | succ d ih =>
    intro k s p hk hp hch
    obtain ⟨r, c, hc, rfl⟩ : ∃ r c, c < 7 ∧ k = 7 * r + c := ⟨k / 7, k % 7, by omega, by omega⟩
    unfold ks_tc
    rw [kg_kd hc, kg_km hc]
    have nch : kg_ty g r c ≠ 1 → ∀ x, 7 * r + c + 1 ≤ x → x < 49 → kg_ty g (x / 7) (x % 7) = 1 → ch x = 1 + s / 2 ^ ks_ct g 1 (x - (7 * r + c + 1)) (7 * r + c + 1) % 2 := by
      intro n x hx hx2 hx3
      have z := hch x (by omega) hx2 hx3
      rw [ks_ctS (by omega), kg_kd hc, kg_km hc, if_neg n, Nat.zero_add] at z
      exact z
    by_cases t1 : kg_ty g r c = 1
    · rw [if_pos t1]
      have c0 := hch (7 * r + c) (Nat.le_refl _) (by omega) (by rw [kg_kd hc, kg_km hc]; exact t1)
      rw [Nat.sub_self] at c0
      have c0' : ch (7 * r + c) = 1 + s % 2 := by
        rw [c0]
        show 1 + s / 2 ^ 0 % 2 = _
        rw [Nat.pow_zero, Nat.div_one]
      have nch1 : ∀ x, 7 * r + c + 1 ≤ x → x < 49 → kg_ty g (x / 7) (x % 7) = 1 → ch x = 1 + s / 2 / 2 ^ ks_ct g 1 (x - (7 * r + c + 1)) (7 * r + c + 1) % 2 := by
        intro x hx hx2 hx3
        have z := hch x (by omega) hx2 hx3
        rw [ks_ctS (by omega), kg_kd hc, kg_km hc, if_pos t1, Nat.pow_add, Nat.pow_one, ← Nat.div_div_eq_div_mul] at z
        exact z
      by_cases s0 : s % 2 = 0
      · rw [if_pos s0, kp_e1 ok hc t1 hp]
        exact kg_st1A ok ch hc t1 (by rw [c0', s0]) (ih _ _ _ (by omega) (kp_stj ok hc (Or.inl t1) hp) nch1)
      · rw [if_neg s0]
        exact kg_st1B ok ch hc t1 (by rw [c0']; omega) hp (ih _ _ _ (by omega) (kp_st1B ok hc t1 hp) nch1)
    · rw [if_neg t1]
      by_cases t2 : kg_ty g r c = 2
      · rw [if_pos t2]
        exact kg_st2 ok ch hc t2 hp (ih _ _ _ (by omega) (kp_st2 ok hc t2 hp) (nch t1))
      · rw [if_neg t2]
        by_cases t3 : kg_ty g r c = 3
        · rw [if_pos t3]
          exact kg_st3 ok ch hc t3 (ih _ _ _ (by omega) (kp_st3 ok hc t3 hp) (nch t1))
        · rw [if_neg t3]
          by_cases t4 : kg_ty g r c = 4
          · rw [if_pos t4, kp_e4 ok hc t4 hp]
            exact kg_st4 ok ch hc t4 (ih _ _ _ (by omega) (kp_stj ok hc (Or.inr (Or.inl t4)) hp) (nch t1))
          · rw [if_neg t4]
            by_cases t5 : kg_ty g r c = 5
            · rw [if_pos t5, kp_e5 ok hc t5 hp]
              exact kg_st5 ok ch hc t5 (ih _ _ _ (by omega) (kp_stj ok hc (Or.inr (Or.inr t5)) hp) (nch t1))
            · rw [if_neg t5]
              have t6 := (kg_ty_D ok r c).2.2.2.2.2.2
              have t0 : kg_ty g r c = 0 := by omega
              exact kg_st0 ok ch hc t0 (ih _ _ _ (by omega) (kp_st0 ok hc t0 hp) (nch t1))
theorem kg_Op00 {g : kg_G} (j : Nat) : ¬ kg_Op g 0 j := by
  intro h
  rcases h with h | h | h
  · have z := kg_D0.mp h.2.2; omega
  · omega
  · have z := kg_D3.mp h.2; omega
theorem kp_V0 {g : kg_G} : kp_V g 0 (fun j => j) := ⟨fun _ => rfl, fun j => ⟨fun _ => kg_Op00 j, fun _ => rfl⟩⟩
/-- the number of loops of the drawn strands, crossings joined by ch -/
theorem ks_loops {g : kg_G} (ok : kg_ok g) (ch : Nat → Nat) (s : Nat) (hch : ∀ x, x < 49 → kg_ty g (x / 7) (x % 7) = 1 → ch x = 1 + s / 2 ^ ks_ct g 1 x 0 % 2) :
    kr_N (kg_V g) kg_nb (kg_pt g ch) (ks_tc g 49 0 s (fun j => j)) := by
  have z := ks_C ok ch 49 0 s (fun j => j) rfl kp_V0 (fun x _ hx ht => by rw [Nat.sub_zero]; exact hch x hx ht)
  have e : kg_Vk g 0 = kg_V g := funext fun v => propext ⟨fun q => q.1, fun q => ⟨q, by omega⟩⟩
  rw [e] at z
  refine z kg_nb ⟨fun j hj => absurd hj (kg_Op00 j), ⟨fun j hj => absurd hj (kg_Op00 j), fun j hj => absurd hj (kg_Op00 j)⟩, fun i j hi => absurd hi (kg_Op00 i), fun v hv _ => ?_⟩
  have nv := kg_nb_inv ok
  exact ⟨rfl, (nv.1 v hv).1, fun j hj => absurd hj (kg_Op00 j), (nv.1 v hv).2, nv.2 v hv⟩
end
section
/-! pairings without crossings: the hand stands ahead of column h -/
def kn_o (h j : Nat) : Nat := if j = 7 then 2 * h else 2 * j + 1
def kn_bt (x y z : Nat) : Prop := (y < x ∧ x < z) ∨ (z < x ∧ x < y)
def kn_N (h : Nat) (p : Nat → Nat) : Prop := ∀ a b, a < 8 → b < 8 → a ≠ b → a ≠ p b →
  (kn_bt (kn_o h a) (kn_o h b) (kn_o h (p b)) ↔ kn_bt (kn_o h (p a)) (kn_o h b) (kn_o h (p b)))
theorem kn_o7 (h : Nat) : kn_o h 7 = 2 * h := if_pos rfl
theorem kn_oc (h j : Nat) (hj : j ≠ 7) : kn_o h j = 2 * j + 1 := if_neg hj
theorem kn_inj {h a b : Nat} (hab : a ≠ b) : kn_o h a ≠ kn_o h b := by
  by_cases ha : a = 7
  · by_cases hb : b = 7
    · exact absurd (ha.trans hb.symm) hab
    · rw [ha, kn_o7, kn_oc h b hb]; omega
  · by_cases hb : b = 7
    · rw [hb, kn_o7, kn_oc h a ha]; omega
    · rw [kn_oc h a ha, kn_oc h b hb]; omega
theorem kn_btf (x y : Nat) : ¬ kn_bt x y y := by unfold kn_bt; omega
theorem kn_mono {h x y : Nat} (hh : h < 7) (hx : x < 8) (hy : y < 8) : kn_o (h + 1) (kp_t h 7 x) < kn_o (h + 1) (kp_t h 7 y) ↔ kn_o h x < kn_o h y := by
  have key : ∀ x, x < 8 → (x = h ∧ kn_o (h + 1) (kp_t h 7 x) = 2 * h + 2 ∧ kn_o h x = 2 * h + 1) ∨ (x = 7 ∧ kn_o (h + 1) (kp_t h 7 x) = 2 * h + 1 ∧ kn_o h x = 2 * h) ∨
      (x ≠ h ∧ x ≠ 7 ∧ kn_o (h + 1) (kp_t h 7 x) = 2 * x + 1 ∧ kn_o h x = 2 * x + 1) := by
    intro x hx
    by_cases e : x = h
    · left
      refine ⟨e, ?_, ?_⟩
      · rw [e, kp_t_a, kn_o7]; omega
      · rw [e, kn_oc h h (by omega)]
    · by_cases e7 : x = 7
      · right; left
        refine ⟨e7, ?_, ?_⟩
        · rw [e7, kp_t_b, kn_oc _ _ (by omega)]
        · rw [e7, kn_o7]
      · right; right
        refine ⟨e, e7, ?_, ?_⟩
        · rw [kp_t_o e e7, kn_oc _ _ e7]
        · rw [kn_oc _ _ e7]
  rcases key x hx with a | a | a <;> rcases key y hy with b | b | b <;> omega
theorem kn_bt_mono {h x y z : Nat} (hh : h < 7) (hx : x < 8) (hy : y < 8) (hz : z < 8) :
    kn_bt (kn_o (h + 1) (kp_t h 7 x)) (kn_o (h + 1) (kp_t h 7 y)) (kn_o (h + 1) (kp_t h 7 z)) ↔ kn_bt (kn_o h x) (kn_o h y) (kn_o h z) := by
  unfold kn_bt
  rw [kn_mono hh hy hx, kn_mono hh hx hz, kn_mono hh hz hx, kn_mono hh hx hy]
theorem kp_t8 {h x : Nat} (hh : h < 7) (hx : x < 8) : kp_t h 7 x < 8 := by
  unfold kp_t
  split
  · omega
  · split <;> omega
theorem kn_cj {h : Nat} {p : Nat → Nat} (hh : h < 7) (p8 : ∀ j, j < 8 → p j < 8) (hN : kn_N h p) : kn_N (h + 1) (kp_cj h 7 p) := by
  intro a b ha hb hab hapb
  have ea : a = kp_t h 7 (kp_t h 7 a) := (kp_tt a).symm
  have eb : b = kp_t h 7 (kp_t h 7 b) := (kp_tt b).symm
  have a8 := kp_t8 hh ha
  have b8 := kp_t8 hh hb
  unfold kp_cj at hapb ⊢
  have n1 : kp_t h 7 a ≠ kp_t h 7 b := fun e => hab (by rw [ea, e, ← eb])
  have n2 : kp_t h 7 a ≠ p (kp_t h 7 b) := fun e => hapb (by rw [← e, ← ea])
  have z := hN _ _ a8 b8 n1 n2
  have L := kn_bt_mono hh a8 b8 (p8 _ b8)
  have R := kn_bt_mono hh (p8 _ a8) b8 (p8 _ b8)
  rw [← ea, ← eb] at L
  rw [← eb] at R
  rw [L, R]
  exact z
/-- the order of two slots other than f doesn't change -/
theorem kn_move {h h' f : Nat} {p : Nat → Nat} (hp : ∀ j, p (p j) = j) (hf : p f = f) (key : ∀ x y, x < 8 → y < 8 → x ≠ f → y ≠ f → (kn_o h' x < kn_o h' y ↔ kn_o h x < kn_o h y))
    (p8 : ∀ j, j < 8 → p j < 8) (hN : kn_N h p) : kn_N h' p := by
  have nf : ∀ x, x ≠ f → p x ≠ f := fun x hx e => hx (by rw [← hp x, e, hf])
  intro a b ha hb hab hapb
  by_cases a1 : p a = a
  · rw [a1]
  · by_cases b1 : p b = b
    · rw [b1]
      exact ⟨fun q => absurd q (kn_btf _ _), fun q => absurd q (kn_btf _ _)⟩
    · have af : a ≠ f := fun e => a1 (by rw [e, hf])
      have bf : b ≠ f := fun e => b1 (by rw [e, hf])
      have z := hN a b ha hb hab hapb
      unfold kn_bt at z ⊢
      rw [key _ _ hb ha bf af, key _ _ ha (p8 b hb) af (nf b bf), key _ _ (p8 b hb) ha (nf b bf) af, key _ _ ha hb af bf,
        key _ _ hb (p8 a ha) bf (nf a af), key _ _ (p8 a ha) (p8 b hb) (nf a af) (nf b bf), key _ _ (p8 b hb) (p8 a ha) (nf b bf) (nf a af), key _ _ (p8 a ha) hb (nf a af) bf]
      exact z
theorem kn_hand {h h' : Nat} {p : Nat → Nat} (hp : ∀ j, p (p j) = j) (p8 : ∀ j, j < 8 → p j < 8) (hf : p 7 = 7) (hN : kn_N h p) : kn_N h' p :=
  kn_move hp hf (fun x y _ _ hx hy => by rw [kn_oc _ _ hx, kn_oc _ _ hy, kn_oc _ _ hx, kn_oc _ _ hy]) p8 hN
theorem kn_col {h : Nat} {p : Nat → Nat} (hh : h < 7) (hp : ∀ j, p (p j) = j) (p8 : ∀ j, j < 8 → p j < 8) (hf : p h = h) (hN : kn_N h p) : kn_N (h + 1) p := by
  refine kn_move hp hf (fun x y hx hy nx ny => ?_) p8 hN
  by_cases x7 : x = 7
  · by_cases y7 : y = 7
    · rw [x7, y7]; omega
    · rw [x7, kn_o7, kn_o7, kn_oc _ _ y7, kn_oc _ _ y7]; omega
  · by_cases y7 : y = 7
    · rw [y7, kn_o7, kn_o7, kn_oc _ _ x7, kn_oc _ _ x7]; omega
    · rw [kn_oc _ _ x7, kn_oc _ _ y7, kn_oc _ _ x7, kn_oc _ _ y7]
theorem kn_x1 {A P X Y H : Nat} (a1 : A ≠ 2 * H) (a2 : A ≠ 2 * H + 1) (p1 : P ≠ 2 * H) (p2 : P ≠ 2 * H + 1) (ax : A ≠ X) (ay : A ≠ Y) (px : P ≠ X) (py : P ≠ Y)
    (x1 : X ≠ 2 * H) (x2 : X ≠ 2 * H + 1) (y1 : Y ≠ 2 * H) (y2 : Y ≠ 2 * H + 1)
    (h1 : kn_bt A X (2 * H + 1) ↔ kn_bt P X (2 * H + 1)) (h2 : kn_bt A Y (2 * H) ↔ kn_bt P Y (2 * H)) : kn_bt A X Y ↔ kn_bt P X Y := by
  unfold kn_bt at *
  omega
theorem kn_x2 {B Q H : Nat} (b1 : B ≠ 2 * H) (b2 : B ≠ 2 * H + 1) (q1 : Q ≠ 2 * H) (q2 : Q ≠ 2 * H + 1) : kn_bt (2 * H + 1) B Q ↔ kn_bt (2 * H) B Q := by
  unfold kn_bt
  omega
theorem kn_btc (x y z : Nat) : kn_bt x y z ↔ kn_bt x z y := by unfold kn_bt; omega
theorem kn_join {h : Nat} {p : Nat → Nat} (hh : h < 7) (hp : ∀ j, p (p j) = j) (p8 : ∀ j, j < 8 → p j < 8) (hc : p h ≠ h) (h7 : p 7 ≠ 7) (hN : kn_N h p) : kn_N h (kp_join p h 7) := by
  have inj : ∀ x y, p x = y → x = p y := fun x y e => by rw [← e, hp]
  have c7 : h ≠ 7 := by omega
  have je := kp_join_eq hp c7 hc h7
  have jh : kp_join p h 7 h = h := by rw [je, if_pos rfl]
  have j7 : kp_join p h 7 7 = 7 := by rw [je, if_neg (Ne.symm c7), if_pos rfl]
  have oh := kn_oc h h c7
  have o7 := kn_o7 h
  have n1 : ∀ x, x ≠ 7 → kn_o h x ≠ 2 * h := fun x hx => by rw [← o7]; exact kn_inj hx
  have n2 : ∀ x, x ≠ h → kn_o h x ≠ 2 * h + 1 := fun x hx => by rw [← oh]; exact kn_inj hx
  intro a b ha hb hab hapb
  by_cases ah : a = h
  · rw [ah, jh]
  · by_cases a7 : a = 7
    · rw [a7, j7]
    · by_cases bh : b = h
      · rw [bh, jh]
        exact ⟨fun q => absurd q (kn_btf _ _), fun q => absurd q (kn_btf _ _)⟩
      · by_cases b7 : b = 7
        · rw [b7, j7]
          exact ⟨fun q => absurd q (kn_btf _ _), fun q => absurd q (kn_btf _ _)⟩
        · have ja : kp_join p h 7 a = kr_sp p h 7 a := by rw [je, if_neg ah, if_neg a7]
          have jb : kp_join p h 7 b = kr_sp p h 7 b := by rw [je, if_neg bh, if_neg b7]
          rw [jb] at hapb
          rw [ja, jb]
          by_cases e : p h = 7
          · have sp : ∀ x, x ≠ h → x ≠ 7 → kr_sp p h 7 x = p x := fun x xh x7 => by
              rw [kr_sp, if_neg (fun q => x7 (by rw [inj _ _ q, e])), if_neg (fun q => xh (by rw [inj _ _ q, ← e, hp]))]
            rw [sp b bh b7] at hapb
            rw [sp a ah a7, sp b bh b7]
            exact hN a b ha hb hab hapb
          · have e' : p 7 ≠ h := fun q => e (inj _ _ q).symm
            have spx : kr_sp p h 7 (p h) = p 7 := by rw [kr_sp, hp, if_pos rfl]
            have spy : kr_sp p h 7 (p 7) = p h := by rw [kr_sp, hp, if_neg (Ne.symm c7), if_pos rfl]
            have spo : ∀ x, x ≠ p h → x ≠ p 7 → kr_sp p h 7 x = p x := fun x xh x7 => by
              rw [kr_sp, if_neg (fun q => xh (inj _ _ q)), if_neg (fun q => x7 (inj _ _ q))]
            have xy : p h ≠ p 7 := fun q => c7 (by rw [← hp h, q, hp])
            -- facts for a point off the four
            have off : ∀ a, a < 8 → a ≠ h → a ≠ 7 → a ≠ p h → a ≠ p 7 →
                (kn_bt (kn_o h a) (kn_o h (p h)) (kn_o h (p 7)) ↔ kn_bt (kn_o h (p a)) (kn_o h (p h)) (kn_o h (p 7))) := by
              intro a ha ah a7 ax ay
              have pah : p a ≠ h := fun q => ax (inj _ _ q)
              have pa7 : p a ≠ 7 := fun q => ay (inj _ _ q)
              have pax : p a ≠ p h := fun q => ah (by rw [← hp a, q, hp])
              have pay : p a ≠ p 7 := fun q => a7 (by rw [← hp a, q, hp])
              have z1 := hN a (p h) ha (p8 _ (by omega)) ax (by rw [hp]; exact ah)
              have z2 := hN a (p 7) ha (p8 _ (by omega)) ay (by rw [hp]; exact a7)
              rw [hp, oh] at z1
              rw [hp, o7] at z2
              exact kn_x1 (n1 a a7) (n2 a ah) (n1 _ pa7) (n2 _ pah) (kn_inj ax) (kn_inj ay) (kn_inj pax) (kn_inj pay) (n1 _ e) (n2 _ hc) (n1 _ h7) (n2 _ e') z1 z2
            by_cases bx : b = p h
            · rw [bx, spx] at hapb ⊢
              have ax : a ≠ p h := fun q => hab (by rw [q, bx])
              rw [spo a ax hapb]
              exact off a ha ah a7 ax hapb
            · by_cases bY : b = p 7
              · rw [bY, spy] at hapb ⊢
                have ay : a ≠ p 7 := fun q => hab (by rw [q, bY])
                rw [spo a hapb ay, kn_btc, kn_btc (kn_o h (p a))]
                exact off a ha ah a7 hapb ay
              · rw [spo b bx bY] at hapb ⊢
                have pbh : p b ≠ h := fun q => bx (inj _ _ q)
                have pb7 : p b ≠ 7 := fun q => bY (inj _ _ q)
                have adj := kn_x2 (H := h) (n1 b b7) (n2 b bh) (n1 _ pb7) (n2 _ pbh)
                by_cases ax : a = p h
                · have z1 := hN (p h) b (p8 _ (by omega)) hb (by rw [← ax]; exact hab) (by rw [← ax]; exact hapb)
                  have z2 := hN (p 7) b (p8 _ (by omega)) hb (Ne.symm bY) (fun q => b7 (by rw [← hp b, ← q, hp]))
                  rw [hp, oh] at z1
                  rw [hp, o7] at z2
                  rw [ax, spx]
                  exact z1.trans (adj.trans z2.symm)
                · by_cases ay : a = p 7
                  · have z1 := hN (p h) b (p8 _ (by omega)) hb (Ne.symm bx) (fun q => bh (by rw [← hp b, ← q, hp]))
                    have z2 := hN (p 7) b (p8 _ (by omega)) hb (by rw [← ay]; exact hab) (by rw [← ay]; exact hapb)
                    rw [hp, oh] at z1
                    rw [hp, o7] at z2
                    rw [ay, spy]
                    exact z2.trans (adj.symm.trans z1.symm)
                  · rw [spo a ax ay]
                    exact hN a b ha hb hab hapb
theorem kn_x3 {B Q H : Nat} (b1 : B ≠ 2 * H + 1) (b2 : B ≠ 2 * H + 2) (q1 : Q ≠ 2 * H + 1) (q2 : Q ≠ 2 * H + 2) : kn_bt (2 * H + 1) B Q ↔ kn_bt (2 * H + 2) B Q := by
  unfold kn_bt
  omega
theorem kn_x4 (A H : Nat) : ¬ kn_bt A (2 * H + 1) (2 * H + 2) ∧ ¬ kn_bt A (2 * H + 2) (2 * H + 1) := by
  unfold kn_bt
  omega
theorem kn_link {h : Nat} {p : Nat → Nat} (hh : h < 7) (hp : ∀ j, p (p j) = j) (p8 : ∀ j, j < 8 → p j < 8) (hc : p h = h) (h7 : p 7 = 7) (hN : kn_N h p) : kn_N (h + 1) (kp_link p h 7) := by
  have inj : ∀ x y, p x = y → x = p y := fun x y e => by rw [← e, hp]
  have c7 : h ≠ 7 := by omega
  have hN' : kn_N (h + 1) p := kn_hand hp p8 h7 hN
  have la : kp_link p h 7 h = 7 := by unfold kp_link; rw [kp_un c7, kp_us]
  have lb : kp_link p h 7 7 = h := by unfold kp_link; rw [kp_us]
  have lo : ∀ j, j ≠ h → j ≠ 7 → kp_link p h 7 j = p j := fun j ja jb => by unfold kp_link; rw [kp_un jb, kp_un ja]
  have oh := kn_oc (h + 1) h c7
  have o7 : kn_o (h + 1) 7 = 2 * h + 2 := kn_o7 (h + 1)
  have n1 : ∀ x, x ≠ 7 → kn_o (h + 1) x ≠ 2 * h + 2 := fun x hx => by rw [← o7]; exact kn_inj hx
  have n2 : ∀ x, x ≠ h → kn_o (h + 1) x ≠ 2 * h + 1 := fun x hx => by rw [← oh]; exact kn_inj hx
  intro a b ha hb hab hapb
  by_cases bh : b = h
  · rw [bh, la, oh, o7]
    exact ⟨fun q => absurd q (kn_x4 _ _).1, fun q => absurd q (kn_x4 _ _).1⟩
  · by_cases b7 : b = 7
    · rw [b7, lb, oh, o7]
      exact ⟨fun q => absurd q (kn_x4 _ _).2, fun q => absurd q (kn_x4 _ _).2⟩
    · rw [lo b bh b7] at hapb ⊢
      have pbh : p b ≠ h := fun q => bh (by rw [inj _ _ q, hc])
      have pb7 : p b ≠ 7 := fun q => b7 (by rw [inj _ _ q, h7])
      have adj := kn_x3 (H := h) (n2 b bh) (n1 b b7) (n2 _ pbh) (n1 _ pb7)
      by_cases ah : a = h
      · rw [ah, la, oh, o7]; exact adj
      · by_cases a7 : a = 7
        · rw [a7, lb, oh, o7]; exact adj.symm
        · rw [lo a ah a7]
          exact hN' a b ha hb hab hapb
end
section
/-! at most 14 pairings without crossings on the same slots -/
theorem kn_ph {α : Type} [DecidableEq α] : ∀ (m : Nat) (l : List α) (f : Nat → α), (∀ i, i < m → f i ∈ l) → (∀ i j, i < j → j < m → f i ≠ f j) → m ≤ l.length := by
  intro m
  induction m with
  | zero => intro l f _ _; exact Nat.zero_le _
  | succ m ih =>
    intro l f h1 h2
    have hm := h1 m (by omega)
    have z := ih (l.erase (f m)) f (fun i hi => (List.mem_erase_of_ne (h2 i m hi (by omega))).mpr (h1 i (by omega))) (fun i j hi hj => h2 i j hi (by omega))
    rw [List.length_erase_of_mem hm] at z
    have p := List.length_pos_of_mem hm
    omega
def kn_cd (q : Nat → Nat) : Nat → Nat → List Bool
  | 0, _ => []
  | d + 1, i => decide (i < q i) :: kn_cd q d (i + 1)
def kn_g (S : Nat → Bool) : Nat → Nat → Nat → List (List Bool)
  | 0, _, h => if h = 0 then [[]] else []
  | d + 1, i, h => if S i = true then (kn_g S d (i + 1) (h + 1)).map (fun l => true :: l) ++ (if h = 0 then [] else (kn_g S d (i + 1) (h - 1)).map (fun l => false :: l))
    else (kn_g S d (i + 1) h).map (fun l => false :: l)
def kn_hc (q : Nat → Nat) (x : Nat) : Nat → Nat
  | 0 => 0
  | a + 1 => kn_hc q x a + (if x ≤ q a then 1 else 0)
theorem kn_hc_s {q : Nat → Nat} (hq : ∀ a, a < 8 → q a < 8 ∧ q (q a) = a) {x : Nat} (hx : x < 8) : ∀ m, m ≤ 8 → kn_hc q x m = kn_hc q (x + 1) m + (if q x < m then 1 else 0) := by
  intro m
  induction m with
  | zero => intro _; rw [if_neg (Nat.not_lt_zero _)]; rfl
  | succ m ih =>
    intro hm
    have z := ih (by omega)
    have a := hq m (by omega)
    have b := hq x hx
    have e : q m = x ↔ q x = m := ⟨fun e => by rw [← e]; exact a.2, fun e => by rw [← e]; exact b.2⟩
    show kn_hc q x m + (if x ≤ q m then 1 else 0) = kn_hc q (x + 1) m + (if x + 1 ≤ q m then 1 else 0) + (if q x < m + 1 then 1 else 0)
    rw [z]
    generalize q m = u at e ⊢
    generalize q x = w at e ⊢
    split <;> split <;> split <;> split <;> omega
theorem kn_hc_0 {q : Nat → Nat} {x : Nat} : ∀ m, (∀ a, a < m → q a < x) → kn_hc q x m = 0 := by
  intro m
  induction m with
  | zero => intro _; rfl
  | succ m ih =>
    intro h
    show kn_hc q x m + (if x ≤ q m then 1 else 0) = 0
    rw [ih (fun a ha => h a (by omega)), if_neg (by have := h m (by omega); omega)]
theorem kn_cd_in {q : Nat → Nat} (hq : ∀ a, a < 8 → q a < 8 ∧ q (q a) = a) {S : Nat → Bool} (hS : ∀ i, i < 8 → (S i = true ↔ q i ≠ i)) :
    ∀ d i, i + d = 8 → kn_cd q d i ∈ kn_g S d i (kn_hc q i i) := by
  intro d
  induction d with
  | zero =>
    intro i hi
    have e : i = 8 := by omega
    subst e
    rw [kn_hc_0 8 (fun a ha => (hq a ha).1)]
    exact List.mem_singleton.mpr rfl
  | succ d ih =>
    intro i hi
    have z := ih (i + 1) (by omega)
    have s1 := kn_hc_s hq (x := i) (by omega) i (by omega)
    have s2 : kn_hc q (i + 1) (i + 1) = kn_hc q (i + 1) i + (if i + 1 ≤ q i then 1 else 0) := rfl
    rw [s2] at z
    have hSi := hS i (by omega)
    show decide (i < q i) :: kn_cd q d (i + 1) ∈ kn_g S (d + 1) i (kn_hc q i i)
    unfold kn_g
    by_cases h1 : i < q i
    · rw [if_neg (by omega)] at s1
      rw [if_pos (by omega)] at z
      rw [if_pos (hSi.mpr (by omega)), decide_eq_true h1, s1]
      exact List.mem_append_left _ (List.mem_map_of_mem z)
    · rw [if_neg (by omega), Nat.add_zero] at z
      rw [decide_eq_false h1]
      by_cases h2 : q i < i
      · rw [if_pos h2] at s1
        rw [if_pos (hSi.mpr (by omega)), s1, if_neg (by omega), Nat.add_sub_cancel]
        exact List.mem_append_right _ (List.mem_map_of_mem z)
      · rw [if_neg h2] at s1
        rw [if_neg (fun e => hSi.mp e (by omega)), s1]
        exact List.mem_map_of_mem z
theorem kn_gc {S S' : Nat → Bool} : ∀ d i h, (∀ j, i ≤ j → j < i + d → S j = S' j) → kn_g S d i h = kn_g S' d i h := by
  intro d
  induction d with
  | zero => intro i h _; rfl
  | succ d ih =>
    intro i h hS
    unfold kn_g
    rw [hS i (Nat.le_refl _) (by omega), ih (i + 1) (h + 1) (fun j a b => hS j (by omega) (by omega)), ih (i + 1) (h - 1) (fun j a b => hS j (by omega) (by omega)), ih (i + 1) h (fun j a b => hS j (by omega) (by omega))]
def kn_sb (s : Nat) (i : Nat) : Bool := s / 2 ^ i % 2 == 1
theorem kn_tab : ∀ s, s < 256 → (kn_g (kn_sb s) 8 0 0).length ≤ 14 := by
  intro s hs
  exact co_dec (N := 256) (P := fun s => (kn_g (kn_sb s) 8 0 0).length ≤ 14) (by decide +kernel) hs
def kn_sn (S : Nat → Bool) : Nat → Nat
  | 0 => 0
  | i + 1 => kn_sn S i + (if S i = true then 2 ^ i else 0)
theorem kn_snl (S : Nat → Bool) : ∀ m, kn_sn S m < 2 ^ m := by
  intro m
  induction m with
  | zero => exact Nat.one_pos
  | succ m ih =>
    show kn_sn S m + (if S m = true then 2 ^ m else 0) < 2 ^ (m + 1)
    rw [Nat.pow_succ]
    split <;> omega
theorem kn_sbs (S : Nat → Bool) : ∀ m i, i < m → kn_sb (kn_sn S m) i = S i := by
  intro m
  induction m with
  | zero => intro i hi; omega
  | succ m ih =>
    intro i hi
    have l := kn_snl S m
    show kn_sb (kn_sn S m + (if S m = true then 2 ^ m else 0)) i = S i
    by_cases e : i = m
    · rw [e]
      unfold kn_sb
      cases h : S m
      · rw [if_neg (by decide), Nat.add_zero, Nat.div_eq_of_lt l]; rfl
      · rw [if_pos rfl, Nat.add_div_right _ (Nat.two_pow_pos m), Nat.div_eq_of_lt l]; rfl
    · rw [← ih i (by omega)]
      unfold kn_sb
      split
      · have e2 : 2 ^ m = 2 ^ i * (2 * 2 ^ (m - i - 1)) := by
          rw [← Nat.mul_assoc, Nat.mul_comm (2 ^ i) 2, Nat.mul_assoc, ← Nat.pow_add, Nat.mul_comm, ← Nat.pow_succ]
          congr 1; omega
        rw [e2, Nat.add_mul_div_left _ _ (Nat.two_pow_pos i), Nat.add_mul_mod_self_left]
      · rw [Nat.add_zero]
theorem kn_gl (S : Nat → Bool) : (kn_g S 8 0 0).length ≤ 14 := by
  have z := kn_tab (kn_sn S 8) (kn_snl S 8)
  rw [kn_gc (S := kn_sb (kn_sn S 8)) (S' := S) 8 0 0 (fun j _ hj => kn_sbs S 8 j (by omega))] at z
  exact z
/-- no crossing and the same beginnings: the same pairing -/
theorem kn_un {q1 q2 : Nat → Nat} (h1 : ∀ a, a < 8 → q1 a < 8 ∧ q1 (q1 a) = a) (h2 : ∀ a, a < 8 → q2 a < 8 ∧ q2 (q2 a) = a)
    (N1 : ∀ a b, a < 8 → b < 8 → a ≠ b → a ≠ q1 b → (kn_bt a b (q1 b) ↔ kn_bt (q1 a) b (q1 b)))
    (N2 : ∀ a b, a < 8 → b < 8 → a ≠ b → a ≠ q2 b → (kn_bt a b (q2 b) ↔ kn_bt (q2 a) b (q2 b)))
    (hf : ∀ i, i < 8 → (q1 i = i ↔ q2 i = i)) (ho : ∀ i, i < 8 → (i < q1 i ↔ i < q2 i)) : ∀ i, i < 8 → q1 i = q2 i := by
  have cl : ∀ b, b < 8 → q1 b < b → q1 b = q2 b := by
    intro b
    induction b using Nat.strongRecOn with
    | ind b ih =>
      intro hb hc
      have f := hf b hb
      have o := ho b hb
      have c2 : q2 b < b := by omega
      have a1 := h1 b hb
      have a2 := h2 b hb
      rcases Nat.lt_trichotomy (q1 b) (q2 b) with l | l | l
      · exfalso
        have o1 := ho (q2 b) a2.1
        rw [a2.2] at o1
        have o2 := o1.mpr c2
        have z := (N1 (q2 b) b a2.1 hb (by omega) (by omega)).mp (by unfold kn_bt; omega)
        have w := h1 (q2 b) a2.1
        have lt : q1 (q2 b) < b := by unfold kn_bt at z; omega
        have y := ih (q1 (q2 b)) lt w.1 (by rw [w.2]; exact o2)
        rw [w.2] at y
        have e := (h2 _ w.1).2
        rw [← y, a2.2] at e
        omega
      · exact l
      · exfalso
        have o1 := ho (q1 b) a1.1
        rw [a1.2] at o1
        have o2 := o1.mp hc
        have z := (N2 (q1 b) b a1.1 hb (by omega) (by omega)).mp (by unfold kn_bt; omega)
        have w := h2 (q1 b) a1.1
        have lt : q2 (q1 b) < b := by unfold kn_bt at z; omega
        have f' := hf _ w.1
        have o' := ho _ w.1
        rw [w.2] at f' o'
        have y := ih (q2 (q1 b)) lt w.1 (by omega)
        rw [w.2] at y
        have e := (h1 _ w.1).2
        rw [y, a1.2] at e
        omega
  intro i hi
  have f := hf i hi
  have o := ho i hi
  rcases Nat.lt_trichotomy (q1 i) i with l | l | l
  · exact cl i hi l
  · rw [l, f.mp l]
  · have w := h1 i hi
    have z := cl (q1 i) w.1 (by rw [w.2]; exact l)
    rw [w.2] at z
    have e := (h2 _ w.1).2
    rw [← z] at e
    exact e.symm
/-- places in the order of the frontier -/
def kn_sl (h i : Nat) : Nat := if i < h then i else if i = h then 7 else i - 1
def kn_ps (h j : Nat) : Nat := if j = 7 then h else if j < h then j else j + 1
theorem kn_sl8 {h i : Nat} (hh : h < 7) (hi : i < 8) : kn_sl h i < 8 := by
  unfold kn_sl; split
  · omega
  · split <;> omega
theorem kn_ps8 {h j : Nat} (hh : h < 7) (hj : j < 8) : kn_ps h j < 8 := by
  unfold kn_ps; split
  · omega
  · split <;> omega
theorem kn_ps_sl {h i : Nat} (hh : h < 7) (hi : i < 8) : kn_ps h (kn_sl h i) = i := by
  unfold kn_sl; split
  · next a => rw [kn_ps, if_neg (by omega), if_pos a]
  · split
    · next a b => rw [kn_ps, if_pos rfl, b]
    · next a b => rw [kn_ps, if_neg (by omega), if_neg (by omega)]; omega
theorem kn_sl_ps {h j : Nat} (hh : h < 7) (hj : j < 8) : kn_sl h (kn_ps h j) = j := by
  unfold kn_ps; split
  · next a => rw [kn_sl, if_neg (by omega), if_pos rfl, a]
  · split
    · next a b => rw [kn_sl, if_pos b]
    · next a b => rw [kn_sl, if_neg (by omega), if_neg (by omega)]; omega
theorem kn_ps_lt {h x y : Nat} : kn_o h x < kn_o h y ↔ kn_ps h x < kn_ps h y := by
  unfold kn_o kn_ps
  split <;> split <;> (try split) <;> (try split) <;> omega
def kn_q (h : Nat) (p : Nat → Nat) (i : Nat) : Nat := kn_ps h (p (kn_sl h i))
theorem kn_q_ok {h : Nat} {p : Nat → Nat} (hh : h < 7) (hp : ∀ j, p (p j) = j) (p8 : ∀ j, j < 8 → p j < 8) : ∀ a, a < 8 → kn_q h p a < 8 ∧ kn_q h p (kn_q h p a) = a := by
  intro a ha
  have s := kn_sl8 hh ha
  refine ⟨kn_ps8 hh (p8 _ s), ?_⟩
  unfold kn_q
  rw [kn_sl_ps hh (p8 _ s), hp, kn_ps_sl hh ha]
theorem kn_q_N {h : Nat} {p : Nat → Nat} (hh : h < 7) (p8 : ∀ j, j < 8 → p j < 8) (hN : kn_N h p) :
    ∀ a b, a < 8 → b < 8 → a ≠ b → a ≠ kn_q h p b → (kn_bt a b (kn_q h p b) ↔ kn_bt (kn_q h p a) b (kn_q h p b)) := by
  intro a b ha hb hab hq
  have n1 : kn_sl h a ≠ kn_sl h b := fun e => hab (by rw [← kn_ps_sl hh ha, e, kn_ps_sl hh hb])
  have n2 : kn_sl h a ≠ p (kn_sl h b) := fun e => hq (by unfold kn_q; rw [← e, kn_ps_sl hh ha])
  have z := hN _ _ (kn_sl8 hh ha) (kn_sl8 hh hb) n1 n2
  have tr : ∀ x y z, kn_bt (kn_o h x) (kn_o h y) (kn_o h z) ↔ kn_bt (kn_ps h x) (kn_ps h y) (kn_ps h z) := fun x y z => by
    unfold kn_bt; rw [kn_ps_lt, kn_ps_lt, kn_ps_lt, kn_ps_lt]
  rw [tr, tr, kn_ps_sl hh ha, kn_ps_sl hh hb] at z
  exact z
/-- valid and without crossings at cell k -/
def kn_V (g : kg_G) (k : Nat) (p : Nat → Nat) : Prop := kp_V g k p ∧ kn_N (k % 7) p
theorem kn_14 {g : kg_G} {k m : Nat} {P : Nat → Nat → Nat} (hP : ∀ i, i < m → kn_V g k (P i)) (hd : ∀ i j, i < j → j < m → P i ≠ P j) : m ≤ 14 := by
  have hh : k % 7 < 7 := Nat.mod_lt _ (by omega)
  cases m with
  | zero => omega
  | succ m =>
    have p8 : ∀ i, i < m + 1 → ∀ j, j < 8 → P i j < 8 := fun i hi j hj => kp_V8 (hP i hi).1 hj
    have S : ∃ S : Nat → Bool, ∀ x, (S x = true ↔ kg_Op g k (kn_sl (k % 7) x)) :=
      ⟨fun x => @decide (kg_Op g k (kn_sl (k % 7) x)) (Classical.propDecidable _), fun x => @decide_eq_true_iff _ (Classical.propDecidable _)⟩
    obtain ⟨S, hS⟩ := S
    have fx : ∀ i, i < m + 1 → ∀ x, x < 8 → (kn_q (k % 7) (P i) x = x ↔ ¬ kg_Op g k (kn_sl (k % 7) x)) := fun i hi x hx => by
      rw [← (hP i hi).1.2]
      unfold kn_q
      constructor
      · intro e
        have z := kn_sl_ps hh (p8 i hi _ (kn_sl8 hh hx))
        rw [e] at z
        exact z.symm
      · intro e
        rw [e, kn_ps_sl hh hx]
    refine Nat.le_trans (kn_ph (m + 1) (kn_g S 8 0 0) (fun i => kn_cd (kn_q (k % 7) (P i)) 8 0) (fun i hi => ?_) (fun i j hij hj e => ?_)) (kn_gl S)
    · refine kn_cd_in (kn_q_ok hh (hP i hi).1.1 (p8 i hi)) (fun x hx => ?_) 8 0 rfl
      rw [hS, Ne, fx i hi x hx, Classical.not_not]
    · have hi : i < m + 1 := by omega
      have e8 : ∀ x, x < 8 → (x < kn_q (k % 7) (P i) x ↔ x < kn_q (k % 7) (P j) x) := by
        have e' : kn_cd (kn_q (k % 7) (P i)) 8 0 = kn_cd (kn_q (k % 7) (P j)) 8 0 := e
        simp only [kn_cd, List.cons.injEq, decide_eq_decide, and_true, Nat.zero_add] at e'
        intro x hx
        obtain ⟨a0, a1, a2, a3, a4, a5, a6, a7⟩ := e'
        have x8 : x = 0 ∨ x = 1 ∨ x = 2 ∨ x = 3 ∨ x = 4 ∨ x = 5 ∨ x = 6 ∨ x = 7 := by omega
        rcases x8 with rfl | rfl | rfl | rfl | rfl | rfl | rfl | rfl
        · exact a0
        · exact a1
        · exact a2
        · exact a3
        · exact a4
        · exact a5
        · exact a6
        · exact a7
      have q := kn_un (kn_q_ok hh (hP i hi).1.1 (p8 i hi)) (kn_q_ok hh (hP j hj).1.1 (p8 j hj)) (kn_q_N hh (p8 i hi) (hP i hi).2) (kn_q_N hh (p8 j hj) (hP j hj).2)
        (fun x hx => by rw [fx i hi x hx, fx j hj x hx]) e8
      refine hd i j hij hj (funext fun y => ?_)
      by_cases hy : y < 8
      · have z := q (kn_ps (k % 7) y) (kn_ps8 hh hy)
        unfold kn_q at z
        rw [kn_sl_ps hh hy] at z
        rw [← kn_sl_ps hh (p8 i hi y hy), z, kn_sl_ps hh (p8 j hj y hy)]
      · have no : ¬ kg_Op g k y := fun q => hy (kg_Op8 q)
        rw [((hP i hi).1.2 y).mpr no, ((hP j hj).1.2 y).mpr no]
end
section
/-! the cells keep pairings valid and without crossings -/
theorem kn_nx {g : kg_G} (ok : kg_ok g) {r c : Nat} {p : Nat → Nat} (hc : c < 7) (hp : kp_V g (7 * r + c + 1) p) (h : kn_N (c + 1) p) : kn_V g (7 * r + c + 1) p := by
  refine ⟨hp, ?_⟩
  rcases kg_k1 (r := r) hc with ⟨h1, h2, h3⟩ | ⟨h1, h2, h3⟩
  · rw [h3]; exact h
  · rw [h3]
    refine kn_hand hp.1 (fun j hj => kp_V8 hp hj) ((hp.2 7).mpr (fun q => ?_)) h
    have z := kg_Dlt ok (kg_D13 ok |>.mp ((kg_Op_7' ok hc).mp q))
    omega
theorem kn_at {g : kg_G} {r c : Nat} {p : Nat → Nat} (hc : c < 7) (h : kn_V g (7 * r + c) p) : kn_N c p := by
  have z := h.2
  rwa [kg_km hc] at z
theorem kn_s0 {g : kg_G} (ok : kg_ok g) {r c : Nat} {p : Nat → Nat} (hc : c < 7) (ht : kg_ty g r c = 0) (h : kn_V g (7 * r + c) p) : kn_V g (7 * r + c + 1) p := by
  obtain ⟨e02, e13, n01⟩ := (kg_ty_D ok r c).2.2.2.2.2.1 ht
  refine kn_nx ok hc (kp_st0 ok hc ht h.1) ?_
  by_cases d0 : kg_D g r c 0
  · refine kn_hand h.1.1 (fun j hj => kp_V8 h.1 hj) ((h.1.2 7).mpr (fun q => ?_)) (kn_at hc h)
    exact n01 ⟨d0, e13.mpr ((kg_Op_7 hc).mp q)⟩
  · exact kn_col hc h.1.1 (fun j hj => kp_V8 h.1 hj) ((h.1.2 c).mpr (fun q => d0 ((kg_Op_c hc).mp q))) (kn_at hc h)
theorem kn_sj {g : kg_G} (ok : kg_ok g) {r c : Nat} {p : Nat → Nat} (hc : c < 7) (ht : kg_ty g r c = 1 ∨ kg_ty g r c = 4 ∨ kg_ty g r c = 5) (h : kn_V g (7 * r + c) p) : kn_V g (7 * r + c + 1) (kp_cj c 7 p) :=
  kn_nx ok hc (kp_stj ok hc ht h.1) (kn_cj hc (fun j hj => kp_V8 h.1 hj) (kn_at hc h))
theorem kn_s1 {g : kg_G} (ok : kg_ok g) {r c : Nat} {p : Nat → Nat} (hc : c < 7) (ht : kg_ty g r c = 1) (h : kn_V g (7 * r + c) p) : kn_V g (7 * r + c + 1) (kp_exc p c 7) := by
  rw [kp_e1 ok hc ht h.1]; exact kn_sj ok hc (Or.inl ht) h
theorem kn_s4 {g : kg_G} (ok : kg_ok g) {r c : Nat} {p : Nat → Nat} (hc : c < 7) (ht : kg_ty g r c = 4) (h : kn_V g (7 * r + c) p) : kn_V g (7 * r + c + 1) (kp_ren p c 7) := by
  rw [kp_e4 ok hc ht h.1]; exact kn_sj ok hc (Or.inr (Or.inl ht)) h
theorem kn_s5 {g : kg_G} (ok : kg_ok g) {r c : Nat} {p : Nat → Nat} (hc : c < 7) (ht : kg_ty g r c = 5) (h : kn_V g (7 * r + c) p) : kn_V g (7 * r + c + 1) (kp_ren p 7 c) := by
  rw [kp_e5 ok hc ht h.1]; exact kn_sj ok hc (Or.inr (Or.inr ht)) h
theorem kn_s2 {g : kg_G} (ok : kg_ok g) {r c : Nat} {p : Nat → Nat} (hc : c < 7) (ht : kg_ty g r c = 2) (h : kn_V g (7 * r + c) p) : kn_V g (7 * r + c + 1) (kp_join p c 7) := by
  obtain ⟨d0, d1, d2, d3⟩ := (kg_ty_D ok r c).2.1 ht
  have oc := (kg_Op_c (r := r) hc).mpr d0
  have o7 := (kg_Op_7 (r := r) hc).mpr d3
  have iv := kp_V_inv h.1
  have st := kp_st2 ok hc ht h.1
  have js := kp_join_self h.1 (by omega) oc o7
  exact kn_nx ok hc st (kn_hand st.1 (fun j hj => kp_V8 st hj) js.2.2.1 (kn_join hc h.1.1 (fun j hj => kp_V8 h.1 hj) (iv.2 c oc) (iv.2 7 o7) (kn_at hc h)))
theorem kn_s3 {g : kg_G} (ok : kg_ok g) {r c : Nat} {p : Nat → Nat} (hc : c < 7) (ht : kg_ty g r c = 3) (h : kn_V g (7 * r + c) p) : kn_V g (7 * r + c + 1) (kp_link p c 7) := by
  obtain ⟨d0, d1, d2, d3⟩ := (kg_ty_D ok r c).2.2.1 ht
  exact kn_nx ok hc (kp_st3 ok hc ht h.1) (kn_link hc h.1.1 (fun j hj => kp_V8 h.1 hj) ((h.1.2 c).mpr (fun q => d0 ((kg_Op_c hc).mp q))) ((h.1.2 7).mpr (fun q => d3 ((kg_Op_7 hc).mp q))) (kn_at hc h))
theorem kn_s1B {g : kg_G} (ok : kg_ok g) {r c : Nat} {p : Nat → Nat} (hc : c < 7) (ht : kg_ty g r c = 1) (h : kn_V g (7 * r + c) p) : kn_V g (7 * r + c + 1) (kp_link (kp_join p c 7) c 7) := by
  obtain ⟨d0, d1, d2, d3⟩ := (kg_ty_D ok r c).1 ht
  have oc := (kg_Op_c (r := r) hc).mpr d0
  have o7 := (kg_Op_7 (r := r) hc).mpr d3
  have iv := kp_V_inv h.1
  have js := kp_join_self h.1 (by omega) oc o7
  have j8 : ∀ j, j < 8 → kp_join p c 7 j < 8 := fun j hj => by
    by_cases e : kp_join p c 7 j = j
    · rw [e]; exact hj
    · have z := (js.2.2.2 (kp_join p c 7 j)).mp (fun q => e (by rw [js.1] at q; exact q.symm))
      exact kg_Op8 z.1
  exact kn_nx ok hc (kp_st1B ok hc ht h.1) (kn_link hc js.1 j8 js.2.1 js.2.2.1 (kn_join hc h.1.1 (fun j hj => kp_V8 h.1 hj) (iv.2 c oc) (iv.2 7 o7) (kn_at hc h)))
theorem kn_V00 {g : kg_G} : kn_V g 0 (fun j => j) :=
  ⟨kp_V0, fun a b _ _ _ _ => Iff.rfl⟩
/-- at cells whose slots are all empty there is but one pairing -/
theorem kn_one {g : kg_G} {k : Nat} (h : ∀ j, ¬ kg_Op g k j) {p : Nat → Nat} (hp : kn_V g k p) : p = fun j => j :=
  funext fun j => (hp.1.2 j).mpr (h j)
theorem kg_Oend {g : kg_G} {k : Nat} (hk : 7 * kg_n g ≤ k) (j : Nat) : ¬ kg_Op g k j := by
  intro h
  rcases h with h | h | h
  · have z := (kg_D0.mp h.2.2).1; omega
  · have z := (kg_D0.mp h.2.2).1; omega
  · have z := (kg_D3.mp h.2).1; omega
end
section
/-! polynomials on the window of 129 places, and the sweep as a linear map -/
theorem bx_add (f f' : Nat → Int32) : ∀ n, bx_sum (fun i => f i + f' i) n = bx_sum f n + bx_sum f' n := by
  intro n
  induction n with
  | zero => rfl
  | succ n ih =>
    show bx_sum (fun i => f i + f' i) n + (f n + f' n) = bx_sum f n + f n + (bx_sum f' n + f' n)
    rw [ih]
    grind
theorem bx_cong {f f' : Nat → Int32} : ∀ n, (∀ i, i < n → f i = f' i) → bx_sum f n = bx_sum f' n := by
  intro n
  induction n with
  | zero => intro _; rfl
  | succ n ih =>
    intro h
    show bx_sum f n + f n = bx_sum f' n + f' n
    rw [ih (fun i hi => h i (by omega)), h n (by omega)]
theorem bx_two (f : Nat → Int32) : ∀ m, bx_sum f (2 * m) = bx_sum (fun s => f (2 * s) + f (2 * s + 1)) m := by
  intro m
  induction m with
  | zero => rfl
  | succ m ih =>
    show bx_sum f (2 * m) + f (2 * m) + f (2 * m + 1) = bx_sum (fun s => f (2 * s) + f (2 * s + 1)) m + (f (2 * m) + f (2 * m + 1))
    rw [ih]
    grind
theorem bx_upd {f f' : Nat → Int32} {t : Nat} {x : Int32} (h : ∀ i, i ≠ t → f' i = f i) (ht : f' t = f t + x) : ∀ n, t < n → bx_sum f' n = bx_sum f n + x := by
  intro n
  induction n with
  | zero => intro z; omega
  | succ n ih =>
    intro hn
    show bx_sum f' n + f' n = bx_sum f n + f n + x
    by_cases e : t = n
    · subst e
      rw [bx_cong t (fun i hi => h i (by omega)), ht]
      grind
    · rw [ih (by omega), h n (by omega)]
      grind
def kq_sh (w : Int) (q : Nat → Int32) (j : Nat) : Int32 := if j < 129 ∧ 0 ≤ (j : Int) - w ∧ (j : Int) - w < 129 then q ((j : Int) - w).toNat else 0
def kq_lp (w : Int) (q : Nat → Int32) (j : Nat) : Int32 := (-1) * kq_sh (w + 2) q j + (-1) * kq_sh (w - 2) q j
/-- additive -/
def kq_L (F : (Nat → Int32) → Nat → Int32) : Prop := ∀ q q' q'' : Nat → Int32, (∀ i, q'' i = q i + q' i) → ∀ j, F q'' j = F q j + F q' j
theorem kq_shL (w : Int) : kq_L (kq_sh w) := by
  intro q q' q'' h j
  unfold kq_sh
  split
  · exact h _
  · rfl
theorem kq_lpL (w : Int) : kq_L (kq_lp w) := by
  intro q q' q'' h j
  unfold kq_lp
  rw [kq_shL (w + 2) q q' q'' h j, kq_shL (w - 2) q q' q'' h j]
  grind
theorem kq_L0 {F : (Nat → Int32) → Nat → Int32} (h : kq_L F) {q : Nat → Int32} (hq : ∀ i, q i = 0) (j : Nat) : F q j = 0 := by
  have z := h q q q (fun i => by rw [hq]; rfl) j
  grind
def ks_F (g : kg_G) : Nat → Nat → (Nat → Nat) → (Nat → Int32) → Nat → Int32
  | 0, _, _, q, j => q j
  | d + 1, k, p, q, j =>
    if kg_ty g (k / 7) (k % 7) = 1 then
      ks_F g d (k + 1) (kp_exc p (k % 7) 7) (kq_sh 1 q) j +
        ks_F g d (k + 1) (kp_link (kp_join p (k % 7) 7) (k % 7) 7) (if p (k % 7) = 7 then kq_lp (-1) q else kq_sh (-1) q) j
    else if kg_ty g (k / 7) (k % 7) = 2 then
      ks_F g d (k + 1) (kp_join p (k % 7) 7) (if p (k % 7) = 7 ∧ k / 7 + 1 < kg_n g then kq_lp 0 q else q) j
    else if kg_ty g (k / 7) (k % 7) = 3 then ks_F g d (k + 1) (kp_link p (k % 7) 7) q j
    else if kg_ty g (k / 7) (k % 7) = 4 then ks_F g d (k + 1) (kp_ren p (k % 7) 7) q j
    else if kg_ty g (k / 7) (k % 7) = 5 then ks_F g d (k + 1) (kp_ren p 7 (k % 7)) q j
    else ks_F g d (k + 1) p q j
theorem ks_FL (g : kg_G) : ∀ d k p, kq_L (ks_F g d k p) := by
  intro d
  induction d with
  | zero => intro k p q q' q'' h j; exact h j
  | succ d ih =>
    intro k p q q' q'' h j
    unfold ks_F
    split
    · have a := ih (k + 1) (kp_exc p (k % 7) 7) (kq_sh 1 q) (kq_sh 1 q') (kq_sh 1 q'') (kq_shL 1 q q' q'' h) j
      rw [a]
      split
      · rw [ih (k + 1) (kp_link (kp_join p (k % 7) 7) (k % 7) 7) (kq_lp (-1) q) (kq_lp (-1) q') (kq_lp (-1) q'') (kq_lpL (-1) q q' q'' h) j]
        grind
      · rw [ih (k + 1) (kp_link (kp_join p (k % 7) 7) (k % 7) 7) (kq_sh (-1) q) (kq_sh (-1) q') (kq_sh (-1) q'') (kq_shL (-1) q q' q'' h) j]
        grind
    · split
      · split
        · exact ih (k + 1) _ _ _ _ (kq_lpL 0 q q' q'' h) j
        · exact ih (k + 1) _ _ _ _ h j
      · split
        · exact ih (k + 1) _ _ _ _ h j
        · split
          · exact ih (k + 1) _ _ _ _ h j
          · split
            · exact ih (k + 1) _ _ _ _ h j
            · exact ih (k + 1) _ _ _ _ h j
/-- one path: the bits of s choose -/
def ks_P (g : kg_G) : Nat → Nat → Nat → (Nat → Nat) → (Nat → Int32) → Nat → Int32
  | 0, _, _, _, q, j => q j
  | d + 1, k, s, p, q, j =>
    if kg_ty g (k / 7) (k % 7) = 1 then
      (if s % 2 = 0 then ks_P g d (k + 1) (s / 2) (kp_exc p (k % 7) 7) (kq_sh 1 q) j
       else ks_P g d (k + 1) (s / 2) (kp_link (kp_join p (k % 7) 7) (k % 7) 7) (if p (k % 7) = 7 then kq_lp (-1) q else kq_sh (-1) q) j)
    else if kg_ty g (k / 7) (k % 7) = 2 then
      ks_P g d (k + 1) s (kp_join p (k % 7) 7) (if p (k % 7) = 7 ∧ k / 7 + 1 < kg_n g then kq_lp 0 q else q) j
    else if kg_ty g (k / 7) (k % 7) = 3 then ks_P g d (k + 1) s (kp_link p (k % 7) 7) q j
    else if kg_ty g (k / 7) (k % 7) = 4 then ks_P g d (k + 1) s (kp_ren p (k % 7) 7) q j
    else if kg_ty g (k / 7) (k % 7) = 5 then ks_P g d (k + 1) s (kp_ren p 7 (k % 7)) q j
    else ks_P g d (k + 1) s p q j
theorem ks_FP (g : kg_G) : ∀ d k p q j, ks_F g d k p q j = bx_sum (fun s => ks_P g d k s p q j) (2 ^ ks_ct g 1 d k) := by
  intro d
  induction d with
  | zero =>
    intro k p q j
    show q j = 0 + q j
    grind
  | succ d ih =>
    intro k p q j
    unfold ks_F ks_ct
    by_cases t1 : kg_ty g (k / 7) (k % 7) = 1
    · rw [if_pos t1, if_pos t1, Nat.add_comm 1, Nat.pow_succ, Nat.mul_comm, bx_two, ih, ih, ← bx_add]
      refine bx_cong _ (fun s _ => ?_)
      have e1 : ks_P g (d + 1) k (2 * s) p q j = ks_P g d (k + 1) s (kp_exc p (k % 7) 7) (kq_sh 1 q) j := by
        show (if kg_ty g (k / 7) (k % 7) = 1 then _ else _) = _
        rw [if_pos t1, if_pos (by omega), Nat.mul_div_cancel_left s (by omega)]
      have e2 : ks_P g (d + 1) k (2 * s + 1) p q j = ks_P g d (k + 1) s (kp_link (kp_join p (k % 7) 7) (k % 7) 7) (if p (k % 7) = 7 then kq_lp (-1) q else kq_sh (-1) q) j := by
        show (if kg_ty g (k / 7) (k % 7) = 1 then _ else _) = _
        rw [if_pos t1, if_neg (by omega), show (2 * s + 1) / 2 = s from by omega]
      rw [e1, e2]
    · rw [if_neg t1, if_neg t1, Nat.zero_add]
      have e : ∀ s, ks_P g (d + 1) k s p q j = if kg_ty g (k / 7) (k % 7) = 2 then
          ks_P g d (k + 1) s (kp_join p (k % 7) 7) (if p (k % 7) = 7 ∧ k / 7 + 1 < kg_n g then kq_lp 0 q else q) j
        else if kg_ty g (k / 7) (k % 7) = 3 then ks_P g d (k + 1) s (kp_link p (k % 7) 7) q j
        else if kg_ty g (k / 7) (k % 7) = 4 then ks_P g d (k + 1) s (kp_ren p (k % 7) 7) q j
        else if kg_ty g (k / 7) (k % 7) = 5 then ks_P g d (k + 1) s (kp_ren p 7 (k % 7)) q j
        else ks_P g d (k + 1) s p q j := fun s => by
          show (if kg_ty g (k / 7) (k % 7) = 1 then _ else _) = _
          rw [if_neg t1]
      simp only [e]
      split
      · exact ih _ _ _ _
      · split
        · exact ih _ _ _ _
        · split
          · exact ih _ _ _ _
          · split
            · exact ih _ _ _ _
            · exact ih _ _ _ _
end
section
/-! Laurent polynomials without a window, and the value of one path -/
def kl_W (Q : Int → Int32) (j : Nat) : Int32 := if j < 129 then Q ((j : Int) - 64) else 0
def kl_s (a : Int) (Q : Int → Int32) (e : Int) : Int32 := Q (e - a)
def kl_d (Q : Int → Int32) (e : Int) : Int32 := (-1) * Q (e - 2) + (-1) * Q (e + 2)
def kl_dN : Nat → (Int → Int32) → Int → Int32
  | 0, Q => Q
  | m + 1, Q => kl_d (kl_dN m Q)
def kl_B (B : Int) (Q : Int → Int32) : Prop := ∀ e : Int, (e < -B ∨ B < e) → Q e = 0
theorem kl_Bmono {B C : Int} {Q : Int → Int32} (h : B ≤ C) (hQ : kl_B B Q) : kl_B C Q := fun e he => hQ e (by omega)
theorem kl_Bs {B : Int} {Q : Int → Int32} (a b : Int) (hQ : kl_B B Q) (h1 : a ≤ b) (h2 : -b ≤ a) : kl_B (B + b) (kl_s a Q) := fun e he => hQ _ (by omega)
theorem kl_Bd {B : Int} {Q : Int → Int32} (hQ : kl_B B Q) : kl_B (B + 2) (kl_d Q) := fun e he => by
  unfold kl_d
  rw [hQ (e - 2) (by omega), hQ (e + 2) (by omega)]
  rfl
theorem kl_sh {Q : Int → Int32} (w : Int) (hQ : kl_B 64 Q) : kq_sh w (kl_W Q) = kl_W (kl_s w Q) := by
  funext j
  unfold kq_sh
  by_cases hj : j < 129
  · have r : kl_W (kl_s w Q) j = Q ((j : Int) - 64 - w) := if_pos hj
    rw [r]
    by_cases h : 0 ≤ (j : Int) - w ∧ (j : Int) - w < 129
    · rw [if_pos ⟨hj, h⟩]
      have l : kl_W Q ((j : Int) - w).toNat = Q ((((j : Int) - w).toNat : Int) - 64) := if_pos (by omega)
      rw [l]
      congr 1
      omega
    · rw [if_neg (fun z => h z.2), hQ _ (by omega)]
  · have r : kl_W (kl_s w Q) j = 0 := if_neg hj
    rw [r, if_neg (fun z => hj z.1)]
theorem kl_lp {Q : Int → Int32} (w : Int) (hQ : kl_B 64 Q) : kq_lp w (kl_W Q) = kl_W (kl_d (kl_s w Q)) := by
  funext j
  unfold kq_lp
  rw [kl_sh (w + 2) hQ, kl_sh (w - 2) hQ]
  unfold kl_W kl_d kl_s
  split
  · have e1 : (j : Int) - 64 - (w + 2) = (j : Int) - 64 - 2 - w := by omega
    have e2 : (j : Int) - 64 - (w - 2) = (j : Int) - 64 + 2 - w := by omega
    rw [e1, e2]
  · rfl
theorem kl_ds (a : Int) (Q : Int → Int32) : kl_s a (kl_d Q) = kl_d (kl_s a Q) := by
  funext e
  unfold kl_s kl_d
  rw [show e - a - 2 = e - 2 - a from by omega, show e - a + 2 = e + 2 - a from by omega]
theorem kl_ss (a b : Int) (Q : Int → Int32) : kl_s a (kl_s b Q) = kl_s (a + b) Q := by
  funext e
  unfold kl_s
  rw [show e - a - b = e - (a + b) from by omega]
theorem kl_dNd : ∀ m Q, kl_dN m (kl_d Q) = kl_d (kl_dN m Q) := by
  intro m
  induction m with
  | zero => intro Q; rfl
  | succ m ih => intro Q; show kl_d (kl_dN m (kl_d Q)) = kl_d (kl_d (kl_dN m Q)); rw [ih]
/-- the path's exponent, its counted closings -/
def ks_ex (g : kg_G) : Nat → Nat → Nat → Int
  | 0, _, _ => 0
  | d + 1, k, s => if kg_ty g (k / 7) (k % 7) = 1 then (if s % 2 = 0 then ks_ex g d (k + 1) (s / 2) + 1 else ks_ex g d (k + 1) (s / 2) + (-1)) else ks_ex g d (k + 1) s
def ks_cl (g : kg_G) : Nat → Nat → Nat → (Nat → Nat) → Nat
  | 0, _, _, _ => 0
  | d + 1, k, s, p =>
    if kg_ty g (k / 7) (k % 7) = 1 then
      (if s % 2 = 0 then ks_cl g d (k + 1) (s / 2) (kp_exc p (k % 7) 7)
       else if p (k % 7) = 7 then ks_cl g d (k + 1) (s / 2) (kp_link (kp_join p (k % 7) 7) (k % 7) 7) + 1 else ks_cl g d (k + 1) (s / 2) (kp_link (kp_join p (k % 7) 7) (k % 7) 7))
    else if kg_ty g (k / 7) (k % 7) = 2 then
      (if p (k % 7) = 7 ∧ k / 7 + 1 < kg_n g then ks_cl g d (k + 1) s (kp_join p (k % 7) 7) + 1 else ks_cl g d (k + 1) s (kp_join p (k % 7) 7))
    else if kg_ty g (k / 7) (k % 7) = 3 then ks_cl g d (k + 1) s (kp_link p (k % 7) 7)
    else if kg_ty g (k / 7) (k % 7) = 4 then ks_cl g d (k + 1) s (kp_ren p (k % 7) 7)
    else if kg_ty g (k / 7) (k % 7) = 5 then ks_cl g d (k + 1) s (kp_ren p 7 (k % 7))
    else ks_cl g d (k + 1) s p
theorem ks_PW (g : kg_G) : ∀ d k s p (B : Nat) Q, kl_B B Q → B + 3 * ks_ct g 1 d k + 2 * ks_ct g 2 d k ≤ 64 →
    ks_P g d k s p (kl_W Q) = kl_W (kl_dN (ks_cl g d k s p) (kl_s (ks_ex g d k s) Q)) := by
  intro d
  induction d with
  | zero =>
    intro k s p B Q hQ hB
    funext j
    show kl_W Q j = kl_W (kl_s 0 Q) j
    congr 1
    funext e
    show Q e = Q (e - 0)
    rw [Int.sub_zero]
  | succ d ih =>
    intro k s p B Q hQ hB
    have Q64 : kl_B 64 Q := kl_Bmono (by omega) hQ
    have c1 : ks_ct g 1 (d + 1) k = (if kg_ty g (k / 7) (k % 7) = 1 then 1 else 0) + ks_ct g 1 d (k + 1) := rfl
    have c2 : ks_ct g 2 (d + 1) k = (if kg_ty g (k / 7) (k % 7) = 2 then 1 else 0) + ks_ct g 2 d (k + 1) := rfl
    funext j
    unfold ks_P ks_cl ks_ex
    by_cases t1 : kg_ty g (k / 7) (k % 7) = 1
    · rw [if_pos t1, if_pos t1, if_pos t1]
      rw [if_pos t1] at c1
      rw [if_neg (by omega)] at c2
      by_cases s0 : s % 2 = 0
      · rw [if_pos s0, if_pos s0, if_pos s0, kl_sh 1 Q64, ih (k + 1) (s / 2) _ (B + 1) _ (kl_Bs 1 1 hQ (by omega) (by omega)) (by omega), kl_ss]
      · rw [if_neg s0, if_neg s0, if_neg s0]
        by_cases pc : p (k % 7) = 7
        · rw [if_pos pc, if_pos pc, kl_lp (-1) Q64, ih (k + 1) (s / 2) _ (B + 3) _ (kl_Bmono (by omega) (kl_Bd (kl_Bs (-1) 1 hQ (by omega) (by omega)))) (by omega), kl_ds, kl_ss, kl_dNd]
          rfl
        · rw [if_neg pc, if_neg pc, kl_sh (-1) Q64, ih (k + 1) (s / 2) _ (B + 1) _ (kl_Bs (-1) 1 hQ (by omega) (by omega)) (by omega), kl_ss]
    · rw [if_neg t1, if_neg t1, if_neg t1]
      rw [if_neg t1] at c1
      by_cases t2 : kg_ty g (k / 7) (k % 7) = 2
      · rw [if_pos t2, if_pos t2]
        rw [if_pos t2] at c2
        by_cases pc : p (k % 7) = 7 ∧ k / 7 + 1 < kg_n g
        · rw [if_pos pc, if_pos pc, kl_lp 0 Q64, ih (k + 1) s _ (B + 2) _ (kl_Bmono (by omega) (kl_Bd (kl_Bs 0 0 hQ (by omega) (by omega)))) (by omega), kl_ds, kl_ss, kl_dNd, Int.add_zero]
          rfl
        · rw [if_neg pc, if_neg pc, ih (k + 1) s _ B _ hQ (by omega)]
      · rw [if_neg t2, if_neg t2]
        rw [if_neg t2] at c2
        by_cases t3 : kg_ty g (k / 7) (k % 7) = 3
        · rw [if_pos t3, if_pos t3, ih (k + 1) s _ B _ hQ (by omega)]
        · rw [if_neg t3, if_neg t3]
          by_cases t4 : kg_ty g (k / 7) (k % 7) = 4
          · rw [if_pos t4, if_pos t4, ih (k + 1) s _ B _ hQ (by omega)]
          · rw [if_neg t4, if_neg t4]
            by_cases t5 : kg_ty g (k / 7) (k % 7) = 5
            · rw [if_pos t5, if_pos t5, ih (k + 1) s _ B _ hQ (by omega)]
            · rw [if_neg t5, if_neg t5, ih (k + 1) s _ B _ hQ (by omega)]
theorem ks_cl_le (g : kg_G) : ∀ d k s p, ks_cl g d k s p ≤ ks_ct g 1 d k + ks_ct g 2 d k := by
  intro d
  induction d with
  | zero => intro k s p; exact Nat.le_refl 0
  | succ d ih =>
    intro k s p
    have c1 : ks_ct g 1 (d + 1) k = (if kg_ty g (k / 7) (k % 7) = 1 then 1 else 0) + ks_ct g 1 d (k + 1) := rfl
    have c2 : ks_ct g 2 (d + 1) k = (if kg_ty g (k / 7) (k % 7) = 2 then 1 else 0) + ks_ct g 2 d (k + 1) := rfl
    rw [c1, c2]
    unfold ks_cl
    by_cases t1 : kg_ty g (k / 7) (k % 7) = 1
    · rw [if_pos t1, if_pos t1]
      split
      · have z := ih (k + 1) (s / 2) (kp_exc p (k % 7) 7); omega
      · have z := ih (k + 1) (s / 2) (kp_link (kp_join p (k % 7) 7) (k % 7) 7)
        split <;> omega
    · rw [if_neg t1, if_neg t1]
      by_cases t2 : kg_ty g (k / 7) (k % 7) = 2
      · rw [if_pos t2, if_pos t2]
        have z := ih (k + 1) s (kp_join p (k % 7) 7)
        split <;> omega
      · rw [if_neg t2, if_neg t2]
        split
        · have z := ih (k + 1) s (kp_link p (k % 7) 7); omega
        · split
          · have z := ih (k + 1) s (kp_ren p (k % 7) 7); omega
          · split
            · have z := ih (k + 1) s (kp_ren p 7 (k % 7)); omega
            · have z := ih (k + 1) s p; omega
theorem ks_ex_b (g : kg_G) : ∀ d k s, ks_ex g d k s ≤ (ks_ct g 1 d k : Int) ∧ -(ks_ct g 1 d k : Int) ≤ ks_ex g d k s := by
  intro d
  induction d with
  | zero => intro k s; exact ⟨Int.le_refl _, Int.le_refl _⟩
  | succ d ih =>
    intro k s
    have c1 : ks_ct g 1 (d + 1) k = (if kg_ty g (k / 7) (k % 7) = 1 then 1 else 0) + ks_ct g 1 d (k + 1) := rfl
    rw [c1]
    unfold ks_ex
    by_cases t1 : kg_ty g (k / 7) (k % 7) = 1
    · rw [if_pos t1, if_pos t1]
      have z := ih (k + 1) (s / 2)
      split <;> omega
    · rw [if_neg t1, if_neg t1]
      have z := ih (k + 1) s
      omega
theorem ks_ct_add (g : kg_G) (t : Nat) : ∀ a b k, ks_ct g t (a + b) k = ks_ct g t a k + ks_ct g t b (k + a) := by
  intro a
  induction a with
  | zero => intro b k; rw [Nat.zero_add]; show _ = 0 + _; rw [Nat.zero_add]; rfl
  | succ a ih =>
    intro b k
    rw [Nat.add_right_comm]
    show (if kg_ty g (k / 7) (k % 7) = t then 1 else 0) + ks_ct g t (a + b) (k + 1) = (if kg_ty g (k / 7) (k % 7) = t then 1 else 0) + ks_ct g t a (k + 1) + ks_ct g t b (k + (a + 1))
    rw [ih, show k + 1 + a = k + (a + 1) from by omega, Nat.add_assoc]
theorem kg_ty2 {g : kg_G} {r c : Nat} (h : kg_ty g r c = 2) : r < kg_n g ∧ c < kg_n g ∧ c = kg_h g r ∧ c ≠ kg_l g r ∧ kg_u g c ≠ r := by
  unfold kg_ty at h
  split at h
  · next a =>
    split at h
    · split at h <;> omega
    · split at h
      · next b d =>
        split at h
        · omega
        · next e => exact ⟨a.1, a.2, d, b, e⟩
      · split at h <;> omega
  · omega
theorem ks_row2 (g : kg_G) (r : Nat) : ks_ct g 2 7 (7 * r) ≤ 1 := by
  have b : ∀ c, c < 7 → (if kg_ty g ((7 * r + c) / 7) ((7 * r + c) % 7) = 2 then 1 else 0) ≤ (if c = kg_h g r then 1 else 0) := by
    intro c hc
    rw [kg_kd hc, kg_km hc]
    by_cases t : kg_ty g r c = 2
    · rw [if_pos t, if_pos (kg_ty2 t).2.2.1]; exact Nat.le_refl _
    · rw [if_neg t]; exact Nat.zero_le _
  have b0 := b 0 (by omega)
  have b1 := b 1 (by omega)
  have b2 := b 2 (by omega)
  have b3 := b 3 (by omega)
  have b4 := b 4 (by omega)
  have b5 := b 5 (by omega)
  have b6 := b 6 (by omega)
  have e : ks_ct g 2 7 (7 * r) = (if kg_ty g ((7 * r + 0) / 7) ((7 * r + 0) % 7) = 2 then 1 else 0) + ((if kg_ty g ((7 * r + 1) / 7) ((7 * r + 1) % 7) = 2 then 1 else 0) + ((if kg_ty g ((7 * r + 2) / 7) ((7 * r + 2) % 7) = 2 then 1 else 0) + ((if kg_ty g ((7 * r + 3) / 7) ((7 * r + 3) % 7) = 2 then 1 else 0) + ((if kg_ty g ((7 * r + 4) / 7) ((7 * r + 4) % 7) = 2 then 1 else 0) + ((if kg_ty g ((7 * r + 5) / 7) ((7 * r + 5) % 7) = 2 then 1 else 0) + ((if kg_ty g ((7 * r + 6) / 7) ((7 * r + 6) % 7) = 2 then 1 else 0) + 0)))))) := rfl
  have s : (if 0 = kg_h g r then 1 else 0) + (if 1 = kg_h g r then 1 else 0) + (if 2 = kg_h g r then 1 else 0) + (if 3 = kg_h g r then 1 else 0) + (if 4 = kg_h g r then 1 else 0) + (if 5 = kg_h g r then 1 else 0) + (if 6 = kg_h g r then 1 else 0) ≤ 1 := by
    generalize kg_h g r = h
    by_cases h7 : h < 7
    · have x8 : h = 0 ∨ h = 1 ∨ h = 2 ∨ h = 3 ∨ h = 4 ∨ h = 5 ∨ h = 6 := by omega
      rcases x8 with rfl | rfl | rfl | rfl | rfl | rfl | rfl <;> decide
    · rw [if_neg (by omega), if_neg (by omega), if_neg (by omega), if_neg (by omega), if_neg (by omega), if_neg (by omega), if_neg (by omega)]
      decide
  omega
theorem ks_nw (g : kg_G) : ks_ct g 2 49 0 ≤ 7 := by
  have a0 := ks_row2 g 0
  have a1 := ks_row2 g 1
  have a2 := ks_row2 g 2
  have a3 := ks_row2 g 3
  have a4 := ks_row2 g 4
  have a5 := ks_row2 g 5
  have a6 := ks_row2 g 6
  have e : ks_ct g 2 49 0 = ks_ct g 2 7 (7 * 0) + (ks_ct g 2 7 (7 * 1) + (ks_ct g 2 7 (7 * 2) + (ks_ct g 2 7 (7 * 3) + (ks_ct g 2 7 (7 * 4) + (ks_ct g 2 7 (7 * 5) + ks_ct g 2 7 (7 * 6)))))) := by
    rw [show 49 = 7 + 42 from rfl, ks_ct_add, show 42 = 7 + 35 from rfl, ks_ct_add, show 35 = 7 + 28 from rfl, ks_ct_add, show 28 = 7 + 21 from rfl, ks_ct_add, show 21 = 7 + 14 from rfl, ks_ct_add, show 14 = 7 + 7 from rfl, ks_ct_add]
  omega
end
section
/-! the last row closes one loop that isn't counted; the whole sum -/
theorem kg_ty1 {g : kg_G} {r c : Nat} (h : kg_ty g r c = 1) : r < kg_n g ∧ c < kg_n g ∧ kg_l g r < c ∧ c < kg_h g r ∧ kg_u g c < r ∧ r < kg_d g c := by
  unfold kg_ty at h
  split at h
  · next a =>
    split at h
    · split at h <;> omega
    · split at h
      · split at h <;> omega
      · split at h
        · next b => exact ⟨a.1, a.2, b⟩
        · omega
  · omega
theorem kg_ty3 {g : kg_G} {r c : Nat} (h : kg_ty g r c = 3) : r < kg_n g ∧ c < kg_n g ∧ c = kg_l g r ∧ kg_u g c = r := by
  unfold kg_ty at h
  split at h
  · next a =>
    split at h
    · next b =>
      split at h
      · next d => exact ⟨a.1, a.2, b, d⟩
      · omega
    · split at h
      · split at h <;> omega
      · split at h <;> omega
  · omega
theorem kg_ty4 {g : kg_G} {r c : Nat} (h : kg_ty g r c = 4) : r < kg_n g ∧ c < kg_n g ∧ c = kg_l g r ∧ kg_u g c ≠ r := by
  unfold kg_ty at h
  split at h
  · next a =>
    split at h
    · next b =>
      split at h
      · omega
      · next d => exact ⟨a.1, a.2, b, d⟩
    · split at h
      · split at h <;> omega
      · split at h <;> omega
  · omega
theorem kg_ty5 {g : kg_G} {r c : Nat} (h : kg_ty g r c = 5) : r < kg_n g ∧ c < kg_n g ∧ c = kg_h g r ∧ kg_u g c = r := by
  unfold kg_ty at h
  split at h
  · next a =>
    split at h
    · split at h <;> omega
    · split at h
      · next b d =>
        split at h
        · next e => exact ⟨a.1, a.2, d, e⟩
        · omega
      · split at h <;> omega
  · omega
theorem kg_ty0h {g : kg_G} (ok : kg_ok g) {r : Nat} (hr : r < kg_n g) : kg_ty g r (kg_h g r) ≠ 0 := by
  have a := ok.2.2.1 r hr
  unfold kg_ty
  rw [if_pos ⟨hr, a.2⟩, if_neg (by omega), if_pos rfl]
  split <;> omega
theorem ks_last {g : kg_G} (ok : kg_ok g) : ∀ d k s p, k + d = 49 → kp_V g k p →
    (k ≤ 7 * (kg_n g - 1) + kg_h g (kg_n g - 1) → ks_tc g d k s p = ks_cl g d k s p + 1) ∧
    (7 * (kg_n g - 1) + kg_h g (kg_n g - 1) < k → ks_tc g d k s p = ks_cl g d k s p) := by
  have n2 := ok.1
  have n7 := ok.2.1
  have hl := ok.2.2.1 (kg_n g - 1) (by omega)
  intro d
  induction d with
  | zero => intro k s p hk hp; exact ⟨fun q => by omega, fun _ => rfl⟩
  | succ d ih =>
    intro k s p hk hp
    obtain ⟨r, c, hc, rfl⟩ : ∃ r c, c < 7 ∧ k = 7 * r + c := ⟨k / 7, k % 7, by omega, by omega⟩
    unfold ks_tc ks_cl
    rw [kg_kd hc, kg_km hc]
    by_cases t1 : kg_ty g r c = 1
    · have z := kg_ty1 t1
      have zz := (ok.2.2.2.1 c z.2.1).2
      rw [if_pos t1, if_pos t1]
      refine ⟨fun _ => ?_, fun q => by omega⟩
      by_cases s0 : s % 2 = 0
      · rw [if_pos s0, if_pos s0]
        exact (ih _ _ _ (by omega) (by rw [kp_e1 ok hc t1 hp]; exact kp_stj ok hc (Or.inl t1) hp)).1 (by omega)
      · rw [if_neg s0, if_neg s0]
        have w := (ih (7 * r + c + 1) (s / 2) _ (by omega) (kp_st1B ok hc t1 hp)).1 (by omega)
        split <;> omega
    · rw [if_neg t1, if_neg t1]
      by_cases t2 : kg_ty g r c = 2
      · have z := kg_ty2 t2
        have st := ih (7 * r + c + 1) s _ (by omega) (kp_st2 ok hc t2 hp)
        rw [if_pos t2, if_pos t2]
        by_cases rn : r + 1 < kg_n g
        · refine ⟨fun _ => ?_, fun q => by omega⟩
          have w := st.1 (by omega)
          by_cases pc : p c = 7
          · rw [if_pos pc, if_pos ⟨pc, rn⟩]; omega
          · rw [if_neg pc, if_neg (fun q => pc q.1)]; exact w
        · have er : kg_n g - 1 = r := by omega
          have pc : p c = 7 := by
            obtain ⟨d0, d1, d2, d3⟩ := (kg_ty_D ok r c).2.1 t2
            have oc := (kg_Op_c (r := r) hc).mpr d0
            have iv := kp_V_inv hp
            have op := (iv.1 c oc).1
            have ne := iv.2 c oc
            rcases op with q | q | q
            · exfalso
              rw [kg_kd hc, kg_km hc] at q
              have dd := kg_D0.mp q.2.2
              have mk := ok.2.2.2.2 r (p c) dd.1 dd.2.1
              have ud := ok.2.2.2.1 (p c) dd.2.1
              have lh := ok.2.2.1 r dd.1
              omega
            · exfalso
              rw [kg_kd hc] at q
              have dd := kg_D0.mp q.2.2
              omega
            · exact q.1
          have w := st.2 (by rw [er]; omega)
          rw [if_pos pc, if_neg (fun q => rn q.2)]
          rw [er]
          exact ⟨fun _ => by omega, fun q => by omega⟩
      · rw [if_neg t2, if_neg t2]
        by_cases t3 : kg_ty g r c = 3
        · have z := kg_ty3 t3
          have zz := ok.2.2.2.1 c z.2.1
          rw [if_pos t3, if_pos t3]
          exact ⟨fun _ => (ih (7 * r + c + 1) s _ (by omega) (kp_st3 ok hc t3 hp)).1 (by omega), fun q => by omega⟩
        · rw [if_neg t3, if_neg t3]
          by_cases t4 : kg_ty g r c = 4
          · have z := kg_ty4 t4
            have lh := ok.2.2.1 r z.1
            rw [if_pos t4, if_pos t4]
            have bd : 7 * r + c + 1 ≤ 7 * (kg_n g - 1) + kg_h g (kg_n g - 1) := by
              by_cases rn : r + 1 < kg_n g
              · omega
              · have er : kg_n g - 1 = r := by omega
                rw [er]; omega
            exact ⟨fun _ => (ih (7 * r + c + 1) s _ (by omega) (by rw [kp_e4 ok hc t4 hp]; exact kp_stj ok hc (Or.inr (Or.inl t4)) hp)).1 bd, fun q => by omega⟩
          · rw [if_neg t4, if_neg t4]
            by_cases t5 : kg_ty g r c = 5
            · have z := kg_ty5 t5
              have zz := ok.2.2.2.1 c z.2.1
              rw [if_pos t5, if_pos t5]
              exact ⟨fun _ => (ih (7 * r + c + 1) s _ (by omega) (by rw [kp_e5 ok hc t5 hp]; exact kp_stj ok hc (Or.inr (Or.inr t5)) hp)).1 (by omega), fun q => by omega⟩
            · rw [if_neg t5, if_neg t5]
              have t6 := (kg_ty_D ok r c).2.2.2.2.2.2
              have t0 : kg_ty g r c = 0 := by omega
              have w := ih (7 * r + c + 1) s p (by omega) (kp_st0 ok hc t0 hp)
              refine ⟨fun q => w.1 ?_, fun q => w.2 (by omega)⟩
              by_cases e : 7 * r + c = 7 * (kg_n g - 1) + kg_h g (kg_n g - 1)
              · have er : r = kg_n g - 1 := by omega
                have ec : c = kg_h g r := by rw [er]; rw [er] at e; omega
                rw [ec] at t0
                exact absurd t0 (kg_ty0h ok (by omega))
              · omega
def kl_1 (e : Int) : Int32 := if e = 0 then 1 else 0
theorem kl_B1 : kl_B 0 kl_1 := fun e he => if_neg (by omega)
theorem kl_BdN {B : Int} {Q : Int → Int32} (hQ : kl_B B Q) : ∀ m : Nat, kl_B (B + 2 * m) (kl_dN m Q) := by
  intro m
  induction m with
  | zero => exact kl_Bmono (by omega) hQ
  | succ m ih => exact kl_Bmono (by omega) (kl_Bd ih)
/-- what the whole sweep gives -/
theorem ks_total {g : kg_G} (ok : kg_ok g) (h10 : ks_ct g 1 49 0 ≤ 10) (j : Nat) :
    ks_F g 49 0 (fun j => j) (kl_W kl_1) j = bx_sum (fun s => kl_W (kl_dN (ks_tc g 49 0 s (fun j => j) - 1) (kl_s (ks_ex g 49 0 s) kl_1)) j) (2 ^ ks_ct g 1 49 0) := by
  have nw := ks_nw g
  rw [ks_FP]
  refine bx_cong _ (fun s _ => ?_)
  rw [ks_PW g 49 0 s (fun j => j) 0 kl_1 kl_B1 (by omega)]
  have z := (ks_last ok 49 0 s (fun j => j) rfl kp_V0).1 (by omega)
  rw [z, Nat.add_sub_cancel]
theorem ks_tcb {g : kg_G} (ok : kg_ok g) (h10 : ks_ct g 1 49 0 ≤ 10) (s : Nat) : 1 ≤ ks_tc g 49 0 s (fun j => j) ∧ ks_tc g 49 0 s (fun j => j) ≤ 18 := by
  have nw := ks_nw g
  have z := (ks_last ok 49 0 s (fun j => j) rfl kp_V0).1 (by omega)
  have c := ks_cl_le g 49 0 s (fun j => j)
  omega
end
section
/-! the marks as permutations; cycles of rows and loops of straight strands -/
def kx_ok (n : Nat) (rx ro cx co : Nat → Nat) : Prop := 2 ≤ n ∧ n ≤ 7 ∧ ∀ r, r < n → rx r < n ∧ ro r < n ∧ cx r < n ∧ co r < n ∧ cx (rx r) = r ∧ rx (cx r) = r ∧ co (ro r) = r ∧ ro (co r) = r ∧ rx r ≠ ro r
def kx_lo (a b : Nat) : Nat := if b ≤ a then b else a
def kx_hi (a b : Nat) : Nat := if b ≤ a then a else b
theorem kx_lh (a b : Nat) : (b ≤ a ∧ kx_lo a b = b ∧ kx_hi a b = a) ∨ (a < b ∧ kx_lo a b = a ∧ kx_hi a b = b) := by
  unfold kx_lo kx_hi
  by_cases h : b ≤ a
  · rw [if_pos h, if_pos h]; exact Or.inl ⟨h, rfl, rfl⟩
  · rw [if_neg h, if_neg h]; exact Or.inr ⟨by omega, rfl, rfl⟩
def kx_g (n : Nat) (rx ro cx co : Nat → Nat) : kg_G := (n, fun r => kx_lo (rx r) (ro r), fun r => kx_hi (rx r) (ro r), fun c => kx_lo (cx c) (co c), fun c => kx_hi (cx c) (co c))
theorem kx_mark {n : Nat} {rx ro cx co : Nat → Nat} (h : kx_ok n rx ro cx co) {r c : Nat} (hr : r < n) (hc : c < n) : (c = rx r ↔ r = cx c) ∧ (c = ro r ↔ r = co c) := by
  have a := h.2.2 r hr
  have b := h.2.2 c hc
  refine ⟨⟨fun e => ?_, fun e => ?_⟩, ⟨fun e => ?_, fun e => ?_⟩⟩
  · rw [e]; exact a.2.2.2.2.1.symm
  · rw [e]; exact b.2.2.2.2.2.1.symm
  · rw [e]; exact a.2.2.2.2.2.2.1.symm
  · rw [e]; exact b.2.2.2.2.2.2.2.1.symm
theorem kx_gok {n : Nat} {rx ro cx co : Nat → Nat} (h : kx_ok n rx ro cx co) : kg_ok (kx_g n rx ro cx co) := by
  refine ⟨h.1, h.2.1, fun r hr => ?_, fun c hc => ?_, fun r c hr hc => ?_⟩
  · have a := h.2.2 r hr
    show kx_lo (rx r) (ro r) < kx_hi (rx r) (ro r) ∧ kx_hi (rx r) (ro r) < n
    rcases kx_lh (rx r) (ro r) with z | z <;> omega
  · have a := h.2.2 c hc
    have ne : cx c ≠ co c := fun e => (h.2.2 (cx c) a.2.2.1).2.2.2.2.2.2.2.2 (by rw [a.2.2.2.2.2.1, e, a.2.2.2.2.2.2.2.1])
    show kx_lo (cx c) (co c) < kx_hi (cx c) (co c) ∧ kx_hi (cx c) (co c) < n
    rcases kx_lh (cx c) (co c) with z | z <;> omega
  · have m := kx_mark h hr hc
    show (c = kx_lo (rx r) (ro r) ∨ c = kx_hi (rx r) (ro r)) ↔ (r = kx_lo (cx c) (co c) ∨ r = kx_hi (cx c) (co c))
    have e1 : (c = kx_lo (rx r) (ro r) ∨ c = kx_hi (rx r) (ro r)) ↔ (c = rx r ∨ c = ro r) := by
      rcases kx_lh (rx r) (ro r) with z | z <;> rw [z.2.1, z.2.2]
      exact Or.comm
    have e2 : (r = kx_lo (cx c) (co c) ∨ r = kx_hi (cx c) (co c)) ↔ (r = cx c ∨ r = co c) := by
      rcases kx_lh (cx c) (co c) with z | z <;> rw [z.2.1, z.2.2]
      exact Or.comm
    rw [e1, e2, m.1, m.2]
/-- a map and its inverse: the relation is symmetric -/
theorem kr_symm2 {V : Nat → Prop} {s t : Nat → Nat} {v w : Nat} (hs : ∀ v, V v → V (s v) ∧ V (t v) ∧ t (s v) = v ∧ s (t v) = v) (hv : V v) (h : kr_R V s t v w) : V w ∧ kr_R V s t w v := by
  refine h (fun x => V x ∧ kr_R V s t x v) (fun x hx hxx => ?_) ⟨hv, kr_refl⟩
  have a := hs x hx
  refine ⟨⟨a.1, fun S c q => hxx.2 S c ?_⟩, ⟨a.2.1, fun S c q => hxx.2 S c ?_⟩⟩
  · have z := (c _ a.1 q).2
    rwa [a.2.2.1] at z
  · have z := (c _ a.2.1 q).1
    rwa [a.2.2.2] at z
/-- straight strands: the cells along a segment -/
theorem kg_pd_str {g : kg_G} {ch : Nat → Nat} {r c : Nat} (h0 : ch (7 * r + c) = 0) : (kg_D g r c 1 → kg_D g r c 3 → (kg_D g r c 0 ↔ kg_D g r c 2) → ¬ (kg_D g r c 0 ∧ ¬ kg_D g r c 2) → kg_pd g ch r c 1 = 3) ∧
    (kg_D g r c 0 → kg_D g r c 2 → (kg_D g r c 1 ↔ kg_D g r c 3) → kg_pd g ch r c 2 = 0) := by
  unfold kg_pd
  rw [h0]
  refine ⟨fun d1 d3 e _ => ?_, fun d0 d2 e => ?_⟩
  · rw [kg_bt.mpr d1, kg_bt.mpr d3]
    by_cases d0 : kg_D g r c 0
    · rw [kg_bt.mpr d0, kg_bt.mpr (e.mp d0)]; rfl
    · rw [kg_bf.mpr d0, kg_bf.mpr (fun q => d0 (e.mpr q))]; simp [kg_p4]
  · rw [kg_bt.mpr d0, kg_bt.mpr d2]
    by_cases d1 : kg_D g r c 1
    · rw [kg_bt.mpr d1, kg_bt.mpr (e.mp d1)]; rfl
    · rw [kg_bf.mpr d1, kg_bf.mpr (fun q => d1 (e.mpr q))]; simp [kg_p4]
/-- all ends of a row's segment hang together -/
theorem kg_hor {g : kg_G} (ok : kg_ok g) {ch : Nat → Nat} (h0 : ∀ x, x < 49 → ch x = 0) {r : Nat} (hr : r < kg_n g) : ∀ m, kg_l g r + m < kg_h g r →
    kr_R (kg_V g) kg_nb (kg_pt g ch) (kg_en r (kg_l g r + m) 1) (kg_en r (kg_l g r) 1) := by
  have lh := ok.2.2.1 r hr
  have n7 := ok.2.1
  intro m
  induction m with
  | zero => intro _; exact kr_refl
  | succ m ih =>
    intro hm
    have hc : kg_l g r + (m + 1) < kg_n g := by omega
    have a := kg_at ok hr hc
    have d1 : kg_D g r (kg_l g r + (m + 1)) 1 := kg_D1.mpr ⟨hr, hc, by omega, by omega⟩
    have d3 : kg_D g r (kg_l g r + (m + 1)) 3 := kg_D3.mpr ⟨hr, hc, by omega, by omega⟩
    have e : kg_D g r (kg_l g r + (m + 1)) 0 ↔ kg_D g r (kg_l g r + (m + 1)) 2 := by rw [kg_D0, kg_D2]; omega
    have pd := (kg_pd_str (g := g) (ch := ch) (h0 (7 * r + (kg_l g r + (m + 1))) (by omega))).1 d1 d3 e (fun q => q.2 (e.mp q.1))
    have V1 : kg_V g (kg_en r (kg_l g r + (m + 1)) 1) := (kg_Ven (by omega) (by omega)).mpr d1
    have V3 : kg_V g (kg_en r (kg_l g r + (m + 1)) 3) := (kg_Ven (by omega) (by omega)).mpr d3
    have s1 := kr_t (V := kg_V g) (s := kg_nb) (t := kg_pt g ch) V1
    rw [kg_pt_of (by omega) (by omega) pd] at s1
    have s2 := kr_s (V := kg_V g) (s := kg_nb) (t := kg_pt g ch) V3
    rw [kg_nb3 (by omega)] at s2
    exact kr_trans s1 (kr_trans s2 (ih (by omega)))
theorem kg_ver {g : kg_G} (ok : kg_ok g) {ch : Nat → Nat} (h0 : ∀ x, x < 49 → ch x = 0) {c : Nat} (hc : c < kg_n g) : ∀ m, kg_u g c + m < kg_d g c →
    kr_R (kg_V g) kg_nb (kg_pt g ch) (kg_en (kg_u g c + m) c 2) (kg_en (kg_u g c) c 2) := by
  have ud := ok.2.2.2.1 c hc
  have n7 := ok.2.1
  intro m
  induction m with
  | zero => intro _; exact kr_refl
  | succ m ih =>
    intro hm
    have hr : kg_u g c + (m + 1) < kg_n g := by omega
    have a := kg_at ok hr hc
    have d2 : kg_D g (kg_u g c + (m + 1)) c 2 := kg_D2.mpr ⟨hr, hc, by omega, by omega⟩
    have d0 : kg_D g (kg_u g c + (m + 1)) c 0 := kg_D0.mpr ⟨hr, hc, by omega, by omega⟩
    have e : kg_D g (kg_u g c + (m + 1)) c 1 ↔ kg_D g (kg_u g c + (m + 1)) c 3 := by rw [kg_D1, kg_D3]; omega
    have pd := (kg_pd_str (g := g) (ch := ch) (h0 (7 * (kg_u g c + (m + 1)) + c) (by omega))).2 d0 d2 e
    have V2 : kg_V g (kg_en (kg_u g c + (m + 1)) c 2) := (kg_Ven (by omega) (by omega)).mpr d2
    have V0 : kg_V g (kg_en (kg_u g c + (m + 1)) c 0) := (kg_Ven (by omega) (by omega)).mpr d0
    have s1 := kr_t (V := kg_V g) (s := kg_nb) (t := kg_pt g ch) V2
    rw [kg_pt_of (by omega) (by omega) pd] at s1
    have s2 := kr_s (V := kg_V g) (s := kg_nb) (t := kg_pt g ch) V0
    rw [kg_nb0 (by omega), show kg_u g c + (m + 1) - 1 = kg_u g c + m from by omega] at s2
    exact kr_trans s1 (kr_trans s2 (ih (by omega)))
/-- every end hangs with its row's or its column's first end -/
theorem kg_horD {g : kg_G} (ok : kg_ok g) {ch : Nat → Nat} (h0 : ∀ x, x < 49 → ch x = 0) {r c d : Nat} (hd : d = 1 ∨ d = 3) (hD : kg_D g r c d) :
    kr_R (kg_V g) kg_nb (kg_pt g ch) (kg_en r c d) (kg_en r (kg_l g r) 1) := by
  have n7 := ok.2.1
  have lt := kg_Dlt ok hD
  rcases hd with rfl | rfl
  · have a := kg_D1.mp hD
    have z := kg_hor ok h0 a.1 (c - kg_l g r) (by omega)
    rwa [show kg_l g r + (c - kg_l g r) = c from by omega] at z
  · have a := kg_D3.mp hD
    have z := kg_hor ok h0 a.1 (c - 1 - kg_l g r) (by omega)
    rw [show kg_l g r + (c - 1 - kg_l g r) = c - 1 from by omega] at z
    have s2 := kr_s (V := kg_V g) (s := kg_nb) (t := kg_pt g ch) ((kg_Ven lt.2 (by omega)).mpr hD)
    rw [kg_nb3 (by omega)] at s2
    exact kr_trans s2 z
theorem kg_verD {g : kg_G} (ok : kg_ok g) {ch : Nat → Nat} (h0 : ∀ x, x < 49 → ch x = 0) {r c d : Nat} (hd : d = 0 ∨ d = 2) (hD : kg_D g r c d) :
    kr_R (kg_V g) kg_nb (kg_pt g ch) (kg_en r c d) (kg_en (kg_u g c) c 2) := by
  have n7 := ok.2.1
  have lt := kg_Dlt ok hD
  rcases hd with rfl | rfl
  · have a := kg_D0.mp hD
    have z := kg_ver ok h0 a.2.1 (r - 1 - kg_u g c) (by omega)
    rw [show kg_u g c + (r - 1 - kg_u g c) = r - 1 from by omega] at z
    have s2 := kr_s (V := kg_V g) (s := kg_nb) (t := kg_pt g ch) ((kg_Ven lt.2 (by omega)).mpr hD)
    rw [kg_nb0 (by omega)] at s2
    exact kr_trans s2 z
  · have a := kg_D2.mp hD
    have z := kg_ver ok h0 a.2.1 (r - kg_u g c) (by omega)
    rwa [show kg_u g c + (r - kg_u g c) = r from by omega] at z
/-- at a mark the row's first end and the column's hang together -/
theorem kg_corner {g : kg_G} (ok : kg_ok g) {ch : Nat → Nat} (h0 : ∀ x, x < 49 → ch x = 0) {r c : Nat} (hr : r < kg_n g) (hc : c < kg_n g) (hm : c = kg_l g r ∨ c = kg_h g r) :
    kr_R (kg_V g) kg_nb (kg_pt g ch) (kg_en r (kg_l g r) 1) (kg_en (kg_u g c) c 2) := by
  have a := kg_at ok hr hc
  have n7 := ok.2.1
  have pi := kg_pt_inv ok ch
  have ni := kg_nb_inv ok
  have H : ∃ d, (d = 1 ∨ d = 3) ∧ kg_D g r c d ∧ ∀ d', (d' = 1 ∨ d' = 3) → kg_D g r c d' → d' = d := by
    rcases hm with e | e
    · refine ⟨1, Or.inl rfl, kg_D1.mpr (by omega), fun d' hd' hD => ?_⟩
      rcases hd' with rfl | rfl
      · rfl
      · have z := kg_D3.mp hD; omega
    · refine ⟨3, Or.inr rfl, kg_D3.mpr (by omega), fun d' hd' hD => ?_⟩
      rcases hd' with rfl | rfl
      · have z := kg_D1.mp hD; omega
      · rfl
  obtain ⟨d, hd, hD, un⟩ := H
  have d4 : d < 4 := by omega
  have pk := kg_pd_ok ok ch d4 hD
  have vd : kg_pd g ch r c d = 0 ∨ kg_pd g ch r c d = 2 := by
    have q : ¬ (kg_pd g ch r c d = 1 ∨ kg_pd g ch r c d = 3) := fun q => pk.2.2.2 (un _ q pk.2.1)
    omega
  have Vd : kg_V g (kg_en r c d) := (kg_Ven (by omega) d4).mpr hD
  have s1 := kr_t (V := kg_V g) (s := kg_nb) (t := kg_pt g ch) Vd
  rw [kg_pt_en (by omega) d4] at s1
  exact kr_trans (kr_symm ni.1 pi.1 Vd (kg_horD ok h0 hd hD)) (kr_trans s1 (kg_verD ok h0 vd pk.2.1))
end
section
theorem kg_p4_str (b0 b1 : Bool) (d : Nat) (hd : d < 4) (hb : kg_sel b0 b1 b0 b1 d = true) : (kg_p4 b0 b1 b0 b1 0 d + d) % 2 = 0 := by
  have hd4 : d = 0 ∨ d = 1 ∨ d = 2 ∨ d = 3 := by omega
  rcases hd4 with rfl | rfl | rfl | rfl <;> revert hb <;> cases b0 <;> cases b1 <;> decide
theorem kg_pd_par {g : kg_G} (ok : kg_ok g) {ch : Nat → Nat} {r c d : Nat} (h0 : ch (7 * r + c) = 0) (hd : d < 4) (hD : kg_D g r c d) (n1 : c ≠ kg_l g r) (n2 : c ≠ kg_h g r) : (kg_pd g ch r c d + d) % 2 = 0 := by
  have a := kg_at ok hD.1 hD.2.1
  have e0 : kg_b g r c 2 = kg_b g r c 0 := by
    by_cases q : kg_D g r c 0
    · rw [kg_bt.mpr q, kg_bt.mpr]; rw [kg_D0] at q; rw [kg_D2]; omega
    · rw [kg_bf.mpr q, kg_bf.mpr]; rw [kg_D0] at q; rw [kg_D2]; have := hD.1; have := hD.2.1; omega
  have e1 : kg_b g r c 3 = kg_b g r c 1 := by
    by_cases q : kg_D g r c 1
    · rw [kg_bt.mpr q, kg_bt.mpr]; rw [kg_D1] at q; rw [kg_D3]; omega
    · rw [kg_bf.mpr q, kg_bf.mpr]; rw [kg_D1] at q; rw [kg_D3]; have := hD.1; have := hD.2.1; omega
  have z := kg_sel_b (g := g) (r := r) (c := c) hd
  rw [e0, e1, kg_bt.mpr hD] at z
  unfold kg_pd
  rw [e0, e1, h0]
  exact kg_p4_str _ _ d hd z
section
variable {n : Nat} {rx ro cx co : Nat → Nat}
theorem kx_ff (h : kx_ok n rx ro cx co) : ∀ v, v < n → cx (ro v) < n ∧ co (rx v) < n ∧ co (rx (cx (ro v))) = v ∧ cx (ro (co (rx v))) = v := by
  intro v hv
  have a := h.2.2 v hv
  have b := h.2.2 _ a.2.1
  have c := h.2.2 _ a.1
  refine ⟨b.2.2.1, c.2.2.2.1, ?_, ?_⟩
  · rw [b.2.2.2.2.2.1, a.2.2.2.2.2.2.1]
  · rw [c.2.2.2.2.2.2.2.1, a.2.2.2.2.1]
theorem kx_lhm (r : Nat) : (rx r = kg_l (kx_g n rx ro cx co) r ∨ rx r = kg_h (kx_g n rx ro cx co) r) ∧ (ro r = kg_l (kx_g n rx ro cx co) r ∨ ro r = kg_h (kx_g n rx ro cx co) r) := by
  show (rx r = kx_lo (rx r) (ro r) ∨ rx r = kx_hi (rx r) (ro r)) ∧ (ro r = kx_lo (rx r) (ro r) ∨ ro r = kx_hi (rx r) (ro r))
  rcases kx_lh (rx r) (ro r) with z | z <;> rw [z.2.1, z.2.2]
  · exact ⟨Or.inr rfl, Or.inl rfl⟩
  · exact ⟨Or.inl rfl, Or.inr rfl⟩
theorem kx_lhm' {r c : Nat} (hc : c = kg_l (kx_g n rx ro cx co) r ∨ c = kg_h (kx_g n rx ro cx co) r) : c = rx r ∨ c = ro r := by
  have hc' : c = kx_lo (rx r) (ro r) ∨ c = kx_hi (rx r) (ro r) := hc
  rcases kx_lh (rx r) (ro r) with z | z <;> rw [z.2.1, z.2.2] at hc'
  · exact hc'.symm
  · exact hc'
theorem kx_link (h : kx_ok n rx ro cx co) {ch : Nat → Nat} (h0 : ∀ x, x < 49 → ch x = 0) {x : Nat} (hx : x < n) :
    kr_R (kg_V (kx_g n rx ro cx co)) kg_nb (kg_pt (kx_g n rx ro cx co) ch) (kg_en x (kg_l (kx_g n rx ro cx co) x) 1) (kg_en (cx (ro x)) (kg_l (kx_g n rx ro cx co) (cx (ro x))) 1) := by
  have ok := kx_gok h
  have a := h.2.2 x hx
  have b := h.2.2 _ a.2.1
  have c1 := kg_corner ok h0 (r := x) (c := ro x) hx a.2.1 (kx_lhm x).2
  have m2 := (kx_lhm (n := n) (rx := rx) (ro := ro) (cx := cx) (co := co) (cx (ro x))).1
  rw [b.2.2.2.2.2.1] at m2
  have c2 := kg_corner ok h0 (r := cx (ro x)) (c := ro x) b.2.2.1 a.2.1 m2
  have V : kg_V (kx_g n rx ro cx co) (kg_en (cx (ro x)) (kg_l (kx_g n rx ro cx co) (cx (ro x))) 1) := by
    have lh := ok.2.2.1 (cx (ro x)) b.2.2.1
    have n7 := ok.2.1
    exact (kg_Ven (by omega) (by omega)).mpr (kg_D1.mpr ⟨b.2.2.1, by omega, Nat.le_refl _, lh.1⟩)
  exact kr_trans c1 (kr_symm (kg_nb_inv ok).1 (kg_pt_inv ok ch).1 V c2)
/-- the row of an end: a row's own, or the row of its column's X -/
def kx_rho (cx : Nat → Nat) (e : Nat) : Nat := if e % 2 = 1 then e / 28 else cx (e / 4 % 7)
theorem kx_rho_en {r c d : Nat} (hc : c < 7) (hd : d < 4) : kx_rho cx (kg_en r c d) = if d % 2 = 1 then r else cx c := by
  unfold kx_rho
  rw [kg_e28 hc hd, kg_e47 hc hd, show kg_en r c d % 2 = d % 2 from by unfold kg_en; omega]
theorem kx_comp (h : kx_ok n rx ro cx co) {ch : Nat → Nat} (h0 : ∀ x, x < 49 → ch x = 0) {l : List Nat}
    (hl : kr_T (fun r => r < n) (kr_R (fun r => r < n) (fun r => cx (ro r)) (fun r => co (rx r))) l) :
    kr_N (kg_V (kx_g n rx ro cx co)) kg_nb (kg_pt (kx_g n rx ro cx co) ch) l.length := by
  have ok := kx_gok h
  have n7 := ok.2.1
  have ni := kg_nb_inv ok
  have pi := kg_pt_inv ok ch
  have ff := kx_ff h
  have Vh : ∀ r, r < n → kg_V (kx_g n rx ro cx co) (kg_en r (kg_l (kx_g n rx ro cx co) r) 1) := fun r hr => by
    have lh := ok.2.2.1 r hr
    exact (kg_Ven (by omega) (by omega)).mpr (kg_D1.mpr ⟨hr, by omega, Nat.le_refl _, lh.1⟩)
  refine ⟨l.map (fun r => kg_en r (kg_l (kx_g n rx ro cx co) r) 1), kr_map (Q := kr_R (kg_V (kx_g n rx ro cx co)) kg_nb (kg_pt (kx_g n rx ro cx co) ch)) (fun r => kg_en r (kg_l (kx_g n rx ro cx co) r) 1) Vh (fun a b ha hb => ⟨fun q => ?_, fun q => ?_⟩) (fun w hw => ?_) (fun a b c => kr_trans) hl, List.length_map _⟩
  · have z := q (fun x => x < n ∧ kr_R (kg_V (kx_g n rx ro cx co)) kg_nb (kg_pt (kx_g n rx ro cx co) ch) (kg_en a (kg_l (kx_g n rx ro cx co) a) 1) (kg_en x (kg_l (kx_g n rx ro cx co) x) 1))
      (fun x hx hxx => ⟨⟨(ff x hx).1, kr_trans hxx.2 (kx_link h h0 hx)⟩, ⟨(ff x hx).2.1, kr_trans hxx.2 ?_⟩⟩) ⟨ha, kr_refl⟩
    · exact z.2
    · have y := kx_link h h0 (ff x hx).2.1
      rw [(ff x hx).2.2.2] at y
      exact kr_symm ni.1 pi.1 (Vh _ (ff x hx).2.1) y
  · have z := q (fun e => kr_R (fun r => r < n) (fun r => cx (ro r)) (fun r => co (rx r)) a (kx_rho cx e)) (fun v hv hS => ?_) ?_
    · rw [kx_rho_en (by have lh := ok.2.2.1 b hb; omega) (by omega)] at z
      exact z
    · revert hS
      refine kg_Vc ok (P := fun v => kr_R (fun r => r < n) (fun r => cx (ro r)) (fun r => co (rx r)) a (kx_rho cx v) → kr_R (fun r => r < n) (fun r => cx (ro r)) (fun r => co (rx r)) a (kx_rho cx (kg_nb v)) ∧ kr_R (fun r => r < n) (fun r => cx (ro r)) (fun r => co (rx r)) a (kx_rho cx (kg_pt (kx_g n rx ro cx co) ch v))) ?_ hv
      intro r c d hr hc hd hD hS
      rw [kx_rho_en hc hd] at hS
      constructor
      · have hd4 : d = 0 ∨ d = 1 ∨ d = 2 ∨ d = 3 := by omega
        rcases hd4 with rfl | rfl | rfl | rfl
        · have y := kg_D0.mp hD
          rw [kg_nb0 (by omega), kx_rho_en hc (by omega)]; exact hS
        · have y := kg_Dlt ok (kg_D13 ok |>.mp hD)
          rw [kg_nb1, kx_rho_en y.2 (by omega)]; exact hS
        · rw [kg_nb2, kx_rho_en hc (by omega)]; exact hS
        · have y := kg_D3.mp hD
          rw [kg_nb3 (by omega), kx_rho_en (by omega) (by omega)]; exact hS
      · have pk := kg_pd_ok ok ch hd hD
        rw [kg_pt_en hc hd, kx_rho_en hc pk.1]
        by_cases hm : c = kg_l (kx_g n rx ro cx co) r ∨ c = kg_h (kx_g n rx ro cx co) r
        · have hr' : r < n := hD.1
          have hc' : c < n := hD.2.1
          have mk := kx_mark h hr' hc'
          rcases kx_lhm' hm with e | e
          · rw [← mk.1.mp e] at hS ⊢
            rw [ite_self] at hS ⊢
            exact hS
          · have S2 : kr_R (fun r => r < n) (fun r => cx (ro r)) (fun r => co (rx r)) a r ∧ kr_R (fun r => r < n) (fun r => cx (ro r)) (fun r => co (rx r)) a (cx c) := by
              by_cases o : d % 2 = 1
              · rw [if_pos o] at hS
                refine ⟨hS, ?_⟩
                rw [e]
                exact kr_trans hS (kr_s (V := fun r => r < n) (s := fun r => cx (ro r)) (t := fun r => co (rx r)) hr')
              · rw [if_neg o] at hS
                refine ⟨?_, hS⟩
                rw [e] at hS
                have y := kr_t (V := fun r => r < n) (s := fun r => cx (ro r)) (t := fun r => co (rx r)) (v := cx (ro r)) (ff r hr').1
                have y' : kr_R (fun r => r < n) (fun r => cx (ro r)) (fun r => co (rx r)) (cx (ro r)) (co (rx (cx (ro r)))) := y
                rw [(ff r hr').2.2.1] at y'
                exact kr_trans hS y'
            split
            · exact S2.1
            · exact S2.2
        · have pp := kg_pd_par ok (h0 _ (by omega)) hd hD (fun e => hm (Or.inl e)) (fun e => hm (Or.inr e))
          by_cases o : d % 2 = 1
          · rw [if_pos o] at hS
            rw [if_pos (by omega)]; exact hS
          · rw [if_neg o] at hS
            rw [if_neg (by omega)]; exact hS
    · show kr_R (fun r => r < n) (fun r => cx (ro r)) (fun r => co (rx r)) a (kx_rho cx (kg_en a (kg_l (kx_g n rx ro cx co) a) 1))
      rw [kx_rho_en (by have lh := ok.2.2.1 a ha; omega) (by omega)]
      exact kr_refl
  · refine kg_Vc ok (P := fun w => ∃ v, v < n ∧ kr_R (kg_V (kx_g n rx ro cx co)) kg_nb (kg_pt (kx_g n rx ro cx co) ch) w (kg_en v (kg_l (kx_g n rx ro cx co) v) 1)) ?_ hw
    intro r c d hr hc hd hD
    have hr' : r < n := hD.1
    have hc' : c < n := hD.2.1
    by_cases o : d % 2 = 1
    · exact ⟨r, hr', kg_horD ok h0 (by omega) hD⟩
    · have b := h.2.2 c hc'
      have m2 := (kx_lhm (n := n) (rx := rx) (ro := ro) (cx := cx) (co := co) (cx c)).1
      rw [b.2.2.2.2.2.1] at m2
      exact ⟨cx c, b.2.2.1, kr_trans (kg_verD ok h0 (by omega) hD) (kr_symm ni.1 pi.1 (Vh _ b.2.2.1) (kg_corner ok h0 b.2.2.1 hc' m2))⟩
end
/-- iteration, and the orbit of a row -/
def kx_it (f : Nat → Nat) : Nat → Nat → Nat
  | 0, r => r
  | i + 1, r => f (kx_it f i r)
theorem kx_it_add (f : Nat → Nat) (r : Nat) : ∀ a b, kx_it f (a + b) r = kx_it f a (kx_it f b r) := by
  intro a
  induction a with
  | zero => intro b; rw [Nat.zero_add]; rfl
  | succ a ih => intro b; rw [Nat.add_right_comm]; show f (kx_it f (a + b) r) = f (kx_it f a (kx_it f b r)); rw [ih]
theorem kx_orb {n : Nat} {f f' : Nat → Nat} (hf : ∀ v, v < n → f v < n ∧ f' v < n ∧ f' (f v) = v ∧ f (f' v) = v) {r : Nat} (hr : r < n) :
    ∀ v, (∃ i, i < n ∧ v = kx_it f i r) ↔ kr_R (fun r => r < n) f f' r v := by
  have lt : ∀ i, kx_it f i r < n := by
    intro i
    induction i with
    | zero => exact hr
    | succ i ih => exact (hf _ ih).1
  have canc : ∀ i m, kx_it f (i + m) r = kx_it f i r → kx_it f m r = r := by
    intro i
    induction i with
    | zero => intro m e; rw [Nat.zero_add] at e; exact e
    | succ i ih =>
      intro m e
      rw [Nat.add_right_comm] at e
      have e' : f (kx_it f (i + m) r) = f (kx_it f i r) := e
      refine ih m ?_
      rw [← (hf _ (lt (i + m))).2.2.1, e', (hf _ (lt i)).2.2.1]
  have cyc : ∃ m, 1 ≤ m ∧ m ≤ n ∧ kx_it f m r = r := by
    refine Classical.byContradiction fun q => ?_
    have z := kn_ph (n + 1) (List.range n) (fun i => kx_it f i r) (fun i _ => List.mem_range.mpr (lt i)) (fun i j hij hj e => ?_)
    · rw [List.length_range] at z; omega
    · refine q ⟨j - i, by omega, by omega, canc i (j - i) ?_⟩
      rw [show i + (j - i) = j from by omega]
      exact e.symm
  obtain ⟨m, m1, mn, hm⟩ := cyc
  intro v
  constructor
  · intro q
    obtain ⟨i, _, rfl⟩ := q
    induction i with
    | zero => exact kr_refl
    | succ i ih =>
      exact kr_trans (ih (by omega)) (kr_s (V := fun r => r < n) (s := f) (t := f') (lt i))
  · intro q
    refine q (fun v => ∃ i, i < n ∧ v = kx_it f i r) (fun x hx hS => ?_) ⟨0, by omega, rfl⟩
    obtain ⟨i, hi, rfl⟩ := hS
    constructor
    · by_cases e : i + 1 < n
      · exact ⟨i + 1, e, rfl⟩
      · refine ⟨n - m, by omega, ?_⟩
        have z : kx_it f n r = kx_it f (n - m) r := by
          have y := kx_it_add f r (n - m) m
          rw [show n - m + m = n from by omega, hm] at y
          exact y
        rw [← z, show n = i + 1 from by omega]
        rfl
    · cases i with
      | zero =>
        refine ⟨m - 1, by omega, ?_⟩
        show f' r = _
        obtain ⟨k, rfl⟩ : ∃ k, m = k + 1 := ⟨m - 1, by omega⟩
        have y : f (kx_it f k r) = r := hm
        rw [Nat.add_sub_cancel, ← (hf _ (lt k)).2.2.1, y]
      | succ i =>
        exact ⟨i, by omega, (hf _ (lt i)).2.2.1⟩
theorem kw_Os2 {V : Nat → Prop} {s t : Nat → Nat} {x : Nat} {S S' : Nat → Prop} {l : List Nat} (hs : ∀ v, V v → V (s v) ∧ V (t v) ∧ t (s v) = v ∧ s (t v) = v) (O : kw_O V s t x S l) (hx : V x) (hn : ¬ S x)
    (h : ∀ v, S' v ↔ S v ∨ kr_R V s t x v) : kw_O V s t (x + 1) S' (x :: l) := by
  refine ⟨fun u hu => ?_, List.pairwise_cons.mpr ⟨fun u hu hr => ?_, O.2.1⟩, fun v => ?_, fun v hv hV => ?_⟩
  · rcases List.mem_cons.mp hu with rfl | hu
    · exact hx
    · exact O.1 u hu
  · exact hn ((O.2.2.1 x).mpr ⟨hx, u, hu, hr⟩)
  · rw [h, O.2.2.1]
    constructor
    · intro q
      rcases q with ⟨hv, u, hu, hr⟩ | q
      · exact ⟨hv, u, List.mem_cons_of_mem _ hu, hr⟩
      · exact ⟨(kr_symm2 hs hx q).1, x, List.mem_cons_self, (kr_symm2 hs hx q).2⟩
    · intro q
      obtain ⟨hv, u, hu, hr⟩ := q
      rcases List.mem_cons.mp hu with rfl | hu
      · exact Or.inr (kr_symm2 hs hv hr).2
      · exact Or.inl ⟨hv, u, hu, hr⟩
  · rw [h]
    by_cases e : v = x
    · rw [e]; exact Or.inr kr_refl
    · exact Or.inl (O.2.2.2 v (by omega) hV)
end
section
/-! the component's small methods -/
section
variable {f_reach f_width f_capacity f_slots f_hand f_n f_phase f_bank f_stateCount f_spareCount : Int32} {a_rowX a_rowO a_colX a_colO a_nextX a_nextO a_rowTo a_colTo a_partner a_keys a_poly a_plain a_normal : Nat → Int32}
theorem xw_reset {post : SX → Prop} {v : Int32} (h : ∀ b1 b2 : Nat → Int32, (∀ i, i < 7 → b1 i = -1 ∧ b2 i = -1) → post (f_reach, f_width, f_capacity, f_slots, f_hand, v, 0, f_bank, f_stateCount, f_spareCount, b1, b2, a_colX, a_colO, a_nextX, a_nextO, a_rowTo, a_colTo, a_partner, a_keys, a_poly, a_plain, a_normal)) : wpX_reset post (f_reach, f_width, f_capacity, f_slots, f_hand, f_n, f_phase, f_bank, f_stateCount, f_spareCount, a_rowX, a_rowO, a_colX, a_colO, a_nextX, a_nextO, a_rowTo, a_colTo, a_partner, a_keys, a_poly, a_plain, a_normal) v := by
  have key : ∀ d i (b1 b2 : Nat → Int32), i + d = 7 → (∀ j, j < i → b1 j = -1 ∧ b2 j = -1) → wX_reset_12 post f_reach f_width f_capacity f_slots f_hand v 0 f_bank f_stateCount f_spareCount (d + 1) (nI i) b1 b2 a_colX a_colO a_nextX a_nextO a_rowTo a_colTo a_partner a_keys a_poly a_plain a_normal := by
    intro d
    induction d with
    | zero =>
      intro i b1 b2 hi hb
      exact pk_le 7 i (fun _ => h b1 b2 (fun j hj => hb j (by omega))) (fun q => by omega)
    | succ d ih =>
      intro i b1 b2 hi hb
      refine pk_le 7 i (fun q => by omega) (fun q => ⟨pk_in i 7 (by omega), nm_e ⟨pk_in i 7 (by omega), nm_e (nm_r (nI_1 i) ?_)⟩⟩)
      refine ih (i + 1) _ _ (by omega) (fun j hj => ?_)
      rw [pk_cl i]
      by_cases e : j = i
      · rw [e, pk_us, pk_us]; exact ⟨rfl, rfl⟩
      · rw [pk_un e, pk_un e]; exact hb j (by omega)
  exact ⟨8, key 7 0 a_rowX a_rowO rfl (fun j hj => by omega)⟩
theorem xw_out {post : Int32 → Prop} {m r : Nat} (hn : f_n = nI m) (hm : m ≤ 7) (hr : r < 2 ^ 31) (h1 : r < m → post 0) (h2 : m ≤ r → post 1) : wpX_outside post (f_reach, f_width, f_capacity, f_slots, f_hand, f_n, f_phase, f_bank, f_stateCount, f_spareCount, a_rowX, a_rowO, a_colX, a_colO, a_nextX, a_nextO, a_rowTo, a_colTo, a_partner, a_keys, a_poly, a_plain, a_normal) (nI r) :=
  br_f (nI_pos hr) (pk_lt r m h1 h2 rfl hn)
theorem xw_outn {post : Int32 → Prop} {v : Int32} (hv : v < 0) (h : post 1) : wpX_outside post (f_reach, f_width, f_capacity, f_slots, f_hand, f_n, f_phase, f_bank, f_stateCount, f_spareCount, a_rowX, a_rowO, a_colX, a_colO, a_nextX, a_nextO, a_rowTo, a_colTo, a_partner, a_keys, a_poly, a_plain, a_normal) v := br_t hv h
/-- outside: 0 within, else 1 -/
theorem xw_outv {post : Int32 → Prop} {m : Nat} (hn : f_n = nI m) (hm : m ≤ 7) (v : Int32) (h1 : ∀ r, r < m → v = nI r → post 0) (h2 : (v < 0 ∨ f_n ≤ v) → post 1) : wpX_outside post (f_reach, f_width, f_capacity, f_slots, f_hand, f_n, f_phase, f_bank, f_stateCount, f_spareCount, a_rowX, a_rowO, a_colX, a_colO, a_nextX, a_nextO, a_rowTo, a_colTo, a_partner, a_keys, a_poly, a_plain, a_normal) v := by
  by_cases hv : v < 0
  · exact br_t hv (h2 (Or.inl hv))
  · obtain ⟨r, hr, rfl⟩ := nI_of hv
    exact br_f hv (pk_lt r m (fun q => h1 r q rfl) (fun q => h2 (Or.inr (by rw [hn]; exact nI_le q hr))) rfl hn)
theorem xw_wrap {post : Int32 → Prop} {m r : Nat} (hn : f_n = nI m) (hm : m ≤ 7) (hr : r < 100) (h : post (nI (if r < m then r else r - m))) : wpX_wrap post (f_reach, f_width, f_capacity, f_slots, f_hand, f_n, f_phase, f_bank, f_stateCount, f_spareCount, a_rowX, a_rowO, a_colX, a_colO, a_nextX, a_nextO, a_rowTo, a_colTo, a_partner, a_keys, a_poly, a_plain, a_normal) (nI r) := by
  refine pk_lt r m (fun q => ?_) (fun q => ?_) rfl hn
  · rw [if_pos q] at h; exact h
  · rw [if_neg (by omega)] at h
    rw [hn, pk_sub q]; exact h
theorem xw_first0 {post : Int32 → Prop} {r x o : Nat} (hr : r < 7) (hx : a_rowX r = nI x) (ho : a_rowO r = nI o) (x7 : x < 7) (o7 : o < 7) (h : post (nI (kx_lo x o))) : wpX_first post (f_reach, f_width, f_capacity, f_slots, f_hand, f_n, f_phase, f_bank, f_stateCount, f_spareCount, a_rowX, a_rowO, a_colX, a_colO, a_nextX, a_nextO, a_rowTo, a_colTo, a_partner, a_keys, a_poly, a_plain, a_normal) 0 (nI r) := by
  refine br_t rfl ⟨pk_in r 7 hr, br_t rfl ⟨pk_in r 7 hr, ?_⟩⟩
  rw [pk_cl r, hx, ho]
  refine pk_le o x (fun q => ?_) (fun q => ?_)
  · rw [kx_lo, if_pos q] at h; exact h
  · rw [kx_lo, if_neg (by omega)] at h; exact h
theorem xw_first1 {post : Int32 → Prop} {r x o : Nat} (hr : r < 7) (hx : a_colX r = nI x) (ho : a_colO r = nI o) (x7 : x < 7) (o7 : o < 7) (h : post (nI (kx_lo x o))) : wpX_first post (f_reach, f_width, f_capacity, f_slots, f_hand, f_n, f_phase, f_bank, f_stateCount, f_spareCount, a_rowX, a_rowO, a_colX, a_colO, a_nextX, a_nextO, a_rowTo, a_colTo, a_partner, a_keys, a_poly, a_plain, a_normal) 1 (nI r) := by
  refine br_f (by decide) ⟨pk_in r 7 hr, br_f (by decide) ⟨pk_in r 7 hr, ?_⟩⟩
  rw [pk_cl r, hx, ho]
  refine pk_le o x (fun q => ?_) (fun q => ?_)
  · rw [kx_lo, if_pos q] at h; exact h
  · rw [kx_lo, if_neg (by omega)] at h; exact h
theorem xw_last0 {post : Int32 → Prop} {r x o : Nat} (hr : r < 7) (hx : a_rowX r = nI x) (ho : a_rowO r = nI o) (x7 : x < 7) (o7 : o < 7) (h : post (nI (kx_hi x o))) : wpX_last post (f_reach, f_width, f_capacity, f_slots, f_hand, f_n, f_phase, f_bank, f_stateCount, f_spareCount, a_rowX, a_rowO, a_colX, a_colO, a_nextX, a_nextO, a_rowTo, a_colTo, a_partner, a_keys, a_poly, a_plain, a_normal) 0 (nI r) := by
  refine br_t rfl ⟨pk_in r 7 hr, br_t rfl ⟨pk_in r 7 hr, ?_⟩⟩
  rw [pk_cl r, hx, ho]
  refine pk_le x o (fun q => ?_) (fun q => ?_)
  · have e : kx_hi x o = o := by rcases kx_lh x o with z | z <;> omega
    rw [e] at h; exact h
  · have e : kx_hi x o = x := by rcases kx_lh x o with z | z <;> omega
    rw [e] at h; exact h
theorem xw_last1 {post : Int32 → Prop} {r x o : Nat} (hr : r < 7) (hx : a_colX r = nI x) (ho : a_colO r = nI o) (x7 : x < 7) (o7 : o < 7) (h : post (nI (kx_hi x o))) : wpX_last post (f_reach, f_width, f_capacity, f_slots, f_hand, f_n, f_phase, f_bank, f_stateCount, f_spareCount, a_rowX, a_rowO, a_colX, a_colO, a_nextX, a_nextO, a_rowTo, a_colTo, a_partner, a_keys, a_poly, a_plain, a_normal) 1 (nI r) := by
  refine br_f (by decide) ⟨pk_in r 7 hr, br_f (by decide) ⟨pk_in r 7 hr, ?_⟩⟩
  rw [pk_cl r, hx, ho]
  refine pk_le x o (fun q => ?_) (fun q => ?_)
  · have e : kx_hi x o = o := by rcases kx_lh x o with z | z <;> omega
    rw [e] at h; exact h
  · have e : kx_hi x o = x := by rcases kx_lh x o with z | z <;> omega
    rw [e] at h; exact h
end
end
section
/-! signs of crossings, their number and their sum, in the component -/
def kx_cr (rx ro cx co : Nat → Nat) (r c : Nat) : Prop := kx_lo (rx r) (ro r) < c ∧ c < kx_hi (rx r) (ro r) ∧ kx_lo (cx c) (co c) < r ∧ r < kx_hi (cx c) (co c)
noncomputable def kx_sg (rx ro cx co : Nat → Nat) (r c : Nat) : Int32 := @ite _ (kx_cr rx ro cx co r c) (Classical.propDecidable _) (@ite _ (co c < cx c ↔ rx r < ro r) (Classical.propDecidable _) 1 (-1)) 0
theorem kx_sg0 {rx ro cx co : Nat → Nat} {r c : Nat} (h : ¬ kx_cr rx ro cx co r c) : kx_sg rx ro cx co r c = 0 := if_neg h
theorem kx_sgp {rx ro cx co : Nat → Nat} {r c : Nat} (h : kx_cr rx ro cx co r c) (h2 : co c < cx c ↔ rx r < ro r) : kx_sg rx ro cx co r c = 1 := by
  unfold kx_sg; rw [if_pos h, if_pos h2]
theorem kx_sgm {rx ro cx co : Nat → Nat} {r c : Nat} (h : kx_cr rx ro cx co r c) (h2 : ¬ (co c < cx c ↔ rx r < ro r)) : kx_sg rx ro cx co r c = -1 := by
  unfold kx_sg; rw [if_pos h, if_neg h2]
theorem kx_sgz {rx ro cx co : Nat → Nat} {r c : Nat} : kx_sg rx ro cx co r c = 0 ↔ ¬ kx_cr rx ro cx co r c := by
  constructor
  · intro e h
    by_cases h2 : co c < cx c ↔ rx r < ro r
    · rw [kx_sgp h h2] at e; exact absurd e (by decide)
    · rw [kx_sgm h h2] at e; exact absurd e (by decide)
  · exact kx_sg0
theorem kx_crt {n : Nat} {rx ro cx co : Nat → Nat} (h : kx_ok n rx ro cx co) {r c : Nat} (hr : r < n) (hc : c < n) : kx_cr rx ro cx co r c ↔ kg_ty (kx_g n rx ro cx co) r c = 1 := by
  constructor
  · intro q
    unfold kg_ty
    have q' : kx_lo (rx r) (ro r) < c ∧ c < kx_hi (rx r) (ro r) ∧ kx_lo (cx c) (co c) < r ∧ r < kx_hi (cx c) (co c) := q
    rw [if_pos ⟨hr, hc⟩]
    have e1 : c ≠ kg_l (kx_g n rx ro cx co) r := by show c ≠ kx_lo (rx r) (ro r); omega
    have e2 : c ≠ kg_h (kx_g n rx ro cx co) r := by show c ≠ kx_hi (rx r) (ro r); omega
    rw [if_neg e1, if_neg e2]
    exact if_pos q'
  · intro q
    exact (kg_ty1 q).2.2
/-- the component's arrays hold the grid -/
def kx_A (n : Nat) (rx ro cx co : Nat → Nat) (A B C D : Nat → Int32) : Prop := kx_ok n rx ro cx co ∧ ∀ r, r < n → A r = nI (rx r) ∧ B r = nI (ro r) ∧ C r = nI (cx r) ∧ D r = nI (co r)
theorem kx_at {n : Nat} {rx ro cx co : Nat → Nat} {A B C D : Nat → Int32} (h : kx_A n rx ro cx co A B C D) {r : Nat} (hr : r < n) :
    n ≤ 7 ∧ A r = nI (rx r) ∧ B r = nI (ro r) ∧ C r = nI (cx r) ∧ D r = nI (co r) ∧ rx r < 7 ∧ ro r < 7 ∧ cx r < 7 ∧ co r < 7 ∧ rx r < n ∧ ro r < n ∧ cx r < n ∧ co r < n := by
  have a := h.1.2.2 r hr
  have b := h.2 r hr
  have n7 := h.1.2.1
  exact ⟨n7, b.1, b.2.1, b.2.2.1, b.2.2.2, by omega, by omega, by omega, by omega, a.1, a.2.1, a.2.2.1, a.2.2.2.1⟩
section
variable {f_reach f_width f_capacity f_slots f_hand f_n f_phase f_bank f_stateCount f_spareCount : Int32} {a_rowX a_rowO a_colX a_colO a_nextX a_nextO a_rowTo a_colTo a_partner a_keys a_poly a_plain a_normal : Nat → Int32} {n : Nat} {rx ro cx co : Nat → Nat}
theorem xw_sg106 {post : Int32 → Prop} {a b : Nat} (ha : a < 2) (hb : b < 2) (h1 : a = b → post 1) (h2 : a ≠ b → post (-1)) : wX_signAt_106 post (nI a) (nI b) f_reach f_width f_capacity f_slots f_hand f_n f_phase f_bank f_stateCount f_spareCount a_rowX a_rowO a_colX a_colO a_nextX a_nextO a_rowTo a_colTo a_partner a_keys a_poly a_plain a_normal :=
  pk_eq a b h1 h2
theorem xw_sg51 {post : Int32 → Prop} {r c a b : Nat} (G : kx_A n rx ro cx co a_rowX a_rowO a_colX a_colO) (hr : r < n) (hc : c < n) (ha : a < 2) (hb : b < 2)
    (h0 : ¬ (a = 1 ∧ b = 1) → post 0) (h1 : a = 1 → b = 1 → (co c < cx c ↔ rx r < ro r) → post 1) (h2 : a = 1 → b = 1 → ¬ (co c < cx c ↔ rx r < ro r) → post (-1)) : wX_signAt_51 post (nI r) (nI c) (nI a) (nI b) f_reach f_width f_capacity f_slots f_hand f_n f_phase f_bank f_stateCount f_spareCount a_rowX a_rowO a_colX a_colO a_nextX a_nextO a_rowTo a_colTo a_partner a_keys a_poly a_plain a_normal := by
  have gr := kx_at G hr
  have gc := kx_at G hc
  refine pk_eq a 0 (fun e => h0 (by omega)) (fun e => pk_eq b 0 (fun e => h0 (by omega)) (fun e' => ⟨pk_in c 7 (by omega), pk_in c 7 (by omega), ?_⟩))
  rw [pk_cl c, gc.2.2.2.1, gc.2.2.2.2.1]
  refine pk_le (cx c) (co c) (fun q => ?_) (fun q => ?_)
  · refine ⟨pk_in r 7 (by omega), pk_in r 7 (by omega), ?_⟩
    rw [pk_cl r, gr.2.1, gr.2.2.1]
    refine pk_le (ro r) (rx r) (fun q' => ?_) (fun q' => ?_)
    · exact xw_sg106 (a := 0) (b := 0) (by omega) (by omega) (fun _ => h1 (by omega) (by omega) (by omega)) (fun e => absurd rfl e)
    · exact xw_sg106 (a := 0) (b := 1) (by omega) (by omega) (fun e => absurd e (by omega)) (fun _ => h2 (by omega) (by omega) (by omega))
  · refine ⟨pk_in r 7 (by omega), pk_in r 7 (by omega), ?_⟩
    rw [pk_cl r, gr.2.1, gr.2.2.1]
    refine pk_le (ro r) (rx r) (fun q' => ?_) (fun q' => ?_)
    · exact xw_sg106 (a := 1) (b := 0) (by omega) (by omega) (fun e => absurd e (by omega)) (fun _ => h2 (by omega) (by omega) (by omega))
    · exact xw_sg106 (a := 1) (b := 1) (by omega) (by omega) (fun _ => h1 (by omega) (by omega) (by omega)) (fun e => absurd rfl e)
theorem xw_sg25 {post : Int32 → Prop} {r c a : Nat} (G : kx_A n rx ro cx co a_rowX a_rowO a_colX a_colO) (hr : r < n) (hc : c < n) (ha : a < 2)
    (hcr : (a = 1 ∧ kx_lo (cx c) (co c) < r ∧ r < kx_hi (cx c) (co c)) ↔ kx_cr rx ro cx co r c) (h : post (kx_sg rx ro cx co r c)) : wX_signAt_25 post (nI r) (nI c) (nI a) f_reach f_width f_capacity f_slots f_hand f_n f_phase f_bank f_stateCount f_spareCount a_rowX a_rowO a_colX a_colO a_nextX a_nextO a_rowTo a_colTo a_partner a_keys a_poly a_plain a_normal := by
  have gr := kx_at G hr
  have gc := kx_at G hc
  have lh := kx_lh (cx c) (co c)
  have fin : ∀ b, b < 2 → ((a = 1 ∧ b = 1) ↔ kx_cr rx ro cx co r c) → wX_signAt_51 post (nI r) (nI c) (nI a) (nI b) f_reach f_width f_capacity f_slots f_hand f_n f_phase f_bank f_stateCount f_spareCount a_rowX a_rowO a_colX a_colO a_nextX a_nextO a_rowTo a_colTo a_partner a_keys a_poly a_plain a_normal := fun b hb e =>
    xw_sg51 G hr hc ha hb (fun q => by rw [kx_sg0 (fun z => q (e.mpr z))] at h; exact h) (fun a1 b1 q => by rw [kx_sgp (e.mp ⟨a1, b1⟩) q] at h; exact h) (fun a1 b1 q => by rw [kx_sgm (e.mp ⟨a1, b1⟩) q] at h; exact h)
  refine xw_first1 (by omega) gc.2.2.2.1 gc.2.2.2.2.1 gc.2.2.2.2.2.2.2.1 gc.2.2.2.2.2.2.2.2.1 ?_
  refine pk_le r (kx_lo (cx c) (co c)) (fun q => ?_) (fun q => ?_)
  · exact fin 0 (by omega) (by rw [← hcr]; omega)
  · refine xw_last1 (by omega) gc.2.2.2.1 gc.2.2.2.2.1 gc.2.2.2.2.2.2.2.1 gc.2.2.2.2.2.2.2.2.1 ?_
    refine pk_le (kx_hi (cx c) (co c)) r (fun q' => ?_) (fun q' => ?_)
    · exact fin 0 (by omega) (by rw [← hcr]; omega)
    · exact fin 1 (by omega) (by rw [← hcr]; omega)
theorem xw_sign {post : Int32 → Prop} {r c : Nat} (G : kx_A n rx ro cx co a_rowX a_rowO a_colX a_colO) (hr : r < n) (hc : c < n) (h : post (kx_sg rx ro cx co r c)) : wpX_signAt post (f_reach, f_width, f_capacity, f_slots, f_hand, f_n, f_phase, f_bank, f_stateCount, f_spareCount, a_rowX, a_rowO, a_colX, a_colO, a_nextX, a_nextO, a_rowTo, a_colTo, a_partner, a_keys, a_poly, a_plain, a_normal) (nI r) (nI c) := by
  have gr := kx_at G hr
  have lh := kx_lh (rx r) (ro r)
  refine xw_first0 (by omega) gr.2.1 gr.2.2.1 gr.2.2.2.2.2.1 gr.2.2.2.2.2.2.1 ?_
  refine pk_le c (kx_lo (rx r) (ro r)) (fun q => ?_) (fun q => ?_)
  · exact xw_sg25 (a := 0) G hr hc (by omega) (by unfold kx_cr; omega) h
  · refine xw_last0 (by omega) gr.2.1 gr.2.2.1 gr.2.2.2.2.2.1 gr.2.2.2.2.2.2.1 ?_
    refine pk_le (kx_hi (rx r) (ro r)) c (fun q' => ?_) (fun q' => ?_)
    · exact xw_sg25 (a := 0) G hr hc (by omega) (by unfold kx_cr; omega) h
    · exact xw_sg25 (a := 1) G hr hc (by omega) (by unfold kx_cr; omega) h
end
/-- no crossing outside the grid -/
theorem kg_ty_out {g : kg_G} {r c : Nat} (h : ¬ (r < kg_n g ∧ c < kg_n g)) : kg_ty g r c = 0 := if_neg h
theorem ks_ct1 (g : kg_G) (t d : Nat) : ks_ct g t (d + 1) 0 = ks_ct g t d 0 + (if kg_ty g (d / 7) (d % 7) = t then 1 else 0) := by
  rw [ks_ct_add, Nat.zero_add]; rfl
theorem ks_ctz (g : kg_G) {t : Nat} (ht : t ≠ 0) : ∀ b a, (∀ x, a ≤ x → x < a + b → ¬ (x / 7 < kg_n g ∧ x % 7 < kg_n g)) → ks_ct g t (a + b) 0 = ks_ct g t a 0 := by
  intro b
  induction b with
  | zero => intro a _; rfl
  | succ b ih =>
    intro a h
    rw [← Nat.add_assoc, ks_ct1, ih a (fun x h1 h2 => h x h1 (by omega)), kg_ty_out (h (a + b) (by omega) (by omega)), if_neg (Ne.symm ht)]
    rfl
theorem ks_ct_le (g : kg_G) (t : Nat) : ∀ d, ks_ct g t d 0 ≤ d := by
  intro d
  induction d with
  | zero => exact Nat.le_refl 0
  | succ d ih => rw [ks_ct1]; split <;> omega
theorem bx_zero {f : Nat → Int32} : ∀ b a, (∀ x, a ≤ x → x < a + b → f x = 0) → bx_sum f (a + b) = bx_sum f a := by
  intro b
  induction b with
  | zero => intro a _; rfl
  | succ b ih =>
    intro a h
    show bx_sum f (a + b) + f (a + b) = _
    rw [ih a (fun x h1 h2 => h x h1 (by omega)), h (a + b) (by omega) (by omega)]
    grind
noncomputable def kx_w (n : Nat) (rx ro cx co : Nat → Nat) (k : Nat) : Int32 := if k / 7 < n ∧ k % 7 < n then kx_sg rx ro cx co (k / 7) (k % 7) else 0
section
variable {f_reach f_width f_capacity f_slots f_hand f_n f_phase f_bank f_stateCount f_spareCount : Int32} {a_rowX a_rowO a_colX a_colO a_nextX a_nextO a_rowTo a_colTo a_partner a_keys a_poly a_plain a_normal : Nat → Int32} {n : Nat} {rx ro cx co : Nat → Nat}
theorem xw_count {post : Int32 → Prop} (G : kx_A n rx ro cx co a_rowX a_rowO a_colX a_colO) (hn : f_n = nI n) (h : post (nI (ks_ct (kx_g n rx ro cx co) 1 49 0))) : wpX_countCrossings post (f_reach, f_width, f_capacity, f_slots, f_hand, f_n, f_phase, f_bank, f_stateCount, f_spareCount, a_rowX, a_rowO, a_colX, a_colO, a_nextX, a_nextO, a_rowTo, a_colTo, a_partner, a_keys, a_poly, a_plain, a_normal) := by
  have n7 := G.1.2.1
  have inner : ∀ (J : Int32 → Int32 → Prop) r, r < n → (J (nI (ks_ct (kx_g n rx ro cx co) 1 (7 * r + n) 0)) (nI (r + 1))) →
      ∀ d c, c + d = n → wX_countCrossings_14 post J (nI r) f_reach f_width f_capacity f_slots f_hand f_n f_phase f_bank f_stateCount f_spareCount a_rowX a_rowO a_colX a_colO a_nextX a_nextO a_rowTo a_colTo a_partner a_keys a_poly a_plain a_normal (d + 1) (nI (ks_ct (kx_g n rx ro cx co) 1 (7 * r + c) 0)) (nI c) := by
    intro J r hr hJ d
    induction d with
    | zero =>
      intro c hc
      refine pk_le n c (fun _ => nm_r (nI_1 r) ?_) (fun q => by omega) hn
      rw [show c = n from by omega]; exact hJ
    | succ d ih =>
      intro c hc
      have l := ks_ct_le (kx_g n rx ro cx co) 1 (7 * r + c)
      refine pk_le n c (fun q => by omega) (fun q => xw_sign G hr (by omega) ?_) hn
      have e := ks_ct1 (kx_g n rx ro cx co) 1 (7 * r + c)
      rw [kg_kd (by omega), kg_km (by omega)] at e
      refine br_c (fun z => ?_) (fun z => ?_)
      · rw [kx_sgz, kx_crt G.1 hr (by omega)] at z
        rw [if_neg z, Nat.add_zero] at e
        refine nm_r (e' := nI (ks_ct (kx_g n rx ro cx co) 1 (7 * r + (c + 1)) 0)) ?_ (nm_r (nI_1 c) (ih (c + 1) (by omega)))
        rw [← Nat.add_assoc, e]; exact nI_add _ 0
      · rw [kx_sgz, kx_crt G.1 hr (by omega), Classical.not_not] at z
        rw [if_pos z] at e
        refine nm_r (e' := nI (ks_ct (kx_g n rx ro cx co) 1 (7 * r + (c + 1)) 0)) ?_ (nm_r (nI_1 c) (ih (c + 1) (by omega)))
        rw [← Nat.add_assoc, e]; exact nI_1 _
  have outer : ∀ d r, r + d = n → wX_countCrossings_4 post f_reach f_width f_capacity f_slots f_hand f_n f_phase f_bank f_stateCount f_spareCount a_rowX a_rowO a_colX a_colO a_nextX a_nextO a_rowTo a_colTo a_partner a_keys a_poly a_plain a_normal (d + 1) (nI (ks_ct (kx_g n rx ro cx co) 1 (7 * r) 0)) (nI r) := by
    intro d
    induction d with
    | zero =>
      intro r hr
      refine pk_le n r (fun _ => ?_) (fun q => by omega) hn
      have e := ks_ctz (kx_g n rx ro cx co) (t := 1) (by omega) (49 - 7 * r) (7 * r) (fun x h1 h2 z => by
        have z1 : x / 7 < n := z.1
        omega)
      rw [show 7 * r + (49 - 7 * r) = 49 from by omega] at e
      rw [← e]; exact h
    | succ d ih =>
      intro r hr
      refine pk_le n r (fun q => by omega) (fun q => ⟨n + 1, inner _ r (by omega) ?_ n 0 (by omega)⟩) hn
      have e := ks_ctz (kx_g n rx ro cx co) (t := 1) (by omega) (7 - n) (7 * r + n) (fun x h1 h2 z => by
        have z1 : x % 7 < n := z.2
        omega)
      rw [show 7 * r + n + (7 - n) = 7 * (r + 1) from by omega] at e
      rw [← e]
      exact ih (r + 1) (by omega)
  exact ⟨n + 1, outer n 0 (by omega)⟩
theorem xw_crossing {post : Int32 → Prop} {r c : Nat} (G : kx_A n rx ro cx co a_rowX a_rowO a_colX a_colO) (hn : f_n = nI n) (hp : ¬ f_phase = 0) (hr : r < n) (hc : c < n) (h : post (kx_sg rx ro cx co r c)) : wpX_crossing post (f_reach, f_width, f_capacity, f_slots, f_hand, f_n, f_phase, f_bank, f_stateCount, f_spareCount, a_rowX, a_rowO, a_colX, a_colO, a_nextX, a_nextO, a_rowTo, a_colTo, a_partner, a_keys, a_poly, a_plain, a_normal) (nI r) (nI c) := by
  have n7 := G.1.2.1
  exact br_f hp (xw_out hn n7 (by omega) (fun _ => br_t rfl (xw_out hn n7 (by omega) (fun _ => br_t rfl (xw_sign G hr hc h)) (fun q => by omega))) (fun q => by omega))
theorem xw_writhe {post : Int32 → Prop} (G : kx_A n rx ro cx co a_rowX a_rowO a_colX a_colO) (hn : f_n = nI n) (hp : ¬ f_phase = 0) (h : post (bx_sum (kx_w n rx ro cx co) 49)) : wpX_writhe post (f_reach, f_width, f_capacity, f_slots, f_hand, f_n, f_phase, f_bank, f_stateCount, f_spareCount, a_rowX, a_rowO, a_colX, a_colO, a_nextX, a_nextO, a_rowTo, a_colTo, a_partner, a_keys, a_poly, a_plain, a_normal) := by
  have n7 := G.1.2.1
  have inner : ∀ (J : Int32 → Int32 → Prop) r, r < n → (J (bx_sum (kx_w n rx ro cx co) (7 * r + n)) (nI (r + 1))) →
      ∀ d c, c + d = n → wX_writhe_14 post J (nI r) f_reach f_width f_capacity f_slots f_hand f_n f_phase f_bank f_stateCount f_spareCount a_rowX a_rowO a_colX a_colO a_nextX a_nextO a_rowTo a_colTo a_partner a_keys a_poly a_plain a_normal (d + 1) (bx_sum (kx_w n rx ro cx co) (7 * r + c)) (nI c) := by
    intro J r hr hJ d
    induction d with
    | zero =>
      intro c hc
      refine pk_le n c (fun _ => nm_r (nI_1 r) ?_) (fun q => by omega) hn
      rw [show c = n from by omega]; exact hJ
    | succ d ih =>
      intro c hc
      refine pk_le n c (fun q => by omega) (fun q => xw_crossing G hn hp hr (by omega) (nm_r (e' := bx_sum (kx_w n rx ro cx co) (7 * r + (c + 1))) ?_ (nm_r (nI_1 c) (ih (c + 1) (by omega))))) hn
      show _ = bx_sum (kx_w n rx ro cx co) (7 * r + c) + kx_w n rx ro cx co (7 * r + c)
      unfold kx_w
      rw [kg_kd (by omega), kg_km (by omega), if_pos ⟨hr, by omega⟩]
  have outer : ∀ d r, r + d = n → wX_writhe_4 post f_reach f_width f_capacity f_slots f_hand f_n f_phase f_bank f_stateCount f_spareCount a_rowX a_rowO a_colX a_colO a_nextX a_nextO a_rowTo a_colTo a_partner a_keys a_poly a_plain a_normal (d + 1) (bx_sum (kx_w n rx ro cx co) (7 * r)) (nI r) := by
    intro d
    induction d with
    | zero =>
      intro r hr
      refine pk_le n r (fun _ => ?_) (fun q => by omega) hn
      have e := bx_zero (f := kx_w n rx ro cx co) (49 - 7 * r) (7 * r) (fun x h1 h2 => if_neg (by omega))
      rw [show 7 * r + (49 - 7 * r) = 49 from by omega] at e
      rw [← e]; exact h
    | succ d ih =>
      intro r hr
      refine pk_le n r (fun q => by omega) (fun q => ⟨n + 1, inner _ r (by omega) ?_ n 0 (by omega)⟩) hn
      have e := bx_zero (f := kx_w n rx ro cx co) (7 - n) (7 * r + n) (fun x h1 h2 => if_neg (by omega))
      rw [show 7 * r + n + (7 - n) = 7 * (r + 1) from by omega] at e
      rw [← e]
      exact ih (r + 1) (by omega)
  exact ⟨n + 1, outer n 0 (by omega)⟩
end
end
section
/-! keys: eight digits of three bits -/
theorem kb_or (a b : Nat) : nI a ||| nI b = nI (a ||| b) := by
  apply Int32.toBitVec_inj.1
  show BitVec.ofNat 32 a ||| BitVec.ofNat 32 b = BitVec.ofNat 32 (a ||| b)
  apply BitVec.eq_of_getLsbD_eq
  intro i hi
  simp [hi]
def kb_pk (p : Nat → Nat) : Nat → Nat
  | 0 => 0
  | s + 1 => kb_pk p s + p s * 2 ^ (3 * s)
theorem kb_lt {p : Nat → Nat} : ∀ m, (∀ s, s < m → p s < 8) → kb_pk p m < 2 ^ (3 * m) := by
  intro m
  induction m with
  | zero => intro _; exact Nat.one_pos
  | succ m ih =>
    intro h
    have a := ih (fun s hs => h s (by omega))
    have b := h m (by omega)
    show kb_pk p m + p m * 2 ^ (3 * m) < 2 ^ (3 * (m + 1))
    rw [show 3 * (m + 1) = 3 * m + 3 from by omega, Nat.pow_add]
    have c : p m * 2 ^ (3 * m) ≤ 7 * 2 ^ (3 * m) := Nat.mul_le_mul_right _ (by omega)
    omega
theorem kb_dig {p : Nat → Nat} : ∀ m, (∀ s, s < m → p s < 8) → ∀ s, s < m → kb_pk p m / 2 ^ (3 * s) % 8 = p s := by
  intro m
  induction m with
  | zero => intro _ s hs; omega
  | succ m ih =>
    intro h s hs
    have l := kb_lt m (fun s hs => h s (by omega))
    show (kb_pk p m + p m * 2 ^ (3 * m)) / 2 ^ (3 * s) % 8 = p s
    by_cases e : s = m
    · rw [e, Nat.add_mul_div_right _ _ (Nat.two_pow_pos _), Nat.div_eq_of_lt l, Nat.zero_add, Nat.mod_eq_of_lt (h m (by omega))]
    · have e2 : p m * 2 ^ (3 * m) = 2 ^ (3 * s) * (8 * (p m * 2 ^ (3 * (m - s - 1)))) := by
        have e3 : 2 ^ (3 * m) = 2 ^ (3 * s) * (8 * 2 ^ (3 * (m - s - 1))) := by
          rw [show (8 : Nat) = 2 ^ 3 from rfl, ← Nat.pow_add, ← Nat.pow_add]
          congr 1; omega
        rw [e3]
        grind
      rw [e2, Nat.add_mul_div_left _ _ (Nat.two_pow_pos _), Nat.add_mul_mod_self_left, ih (fun s hs => h s (by omega)) s (by omega)]
theorem kb_inj {g : kg_G} {k : Nat} {p p' : Nat → Nat} (hp : kp_V g k p) (hp' : kp_V g k p') (e : nI (kb_pk p 8) = nI (kb_pk p' 8)) : p = p' := by
  have p8 : ∀ s, s < 8 → p s < 8 := fun s hs => kp_V8 hp hs
  have p8' : ∀ s, s < 8 → p' s < 8 := fun s hs => kp_V8 hp' hs
  have a := kb_lt 8 p8
  have b := kb_lt 8 p8'
  rw [nI_eq (by omega) (by omega)] at e
  funext s
  by_cases hs : s < 8
  · rw [← kb_dig 8 p8 s hs, e, kb_dig 8 p8' s hs]
  · have no : ¬ kg_Op g k s := fun q => hs (kg_Op8 q)
    rw [(hp.2 s).mpr no, (hp'.2 s).mpr no]
theorem kb_s3 : ∀ s, s < 8 → ((3 * nI s &&& 31).toBitVec.smod 32).toNat = 3 * s := by
  intro s hs
  exact co_dec (N := 8) (P := fun s => ((3 * nI s &&& 31).toBitVec.smod 32).toNat = 3 * s) (by decide +kernel) hs
theorem kb_put {A v s : Nat} (hs : s < 8) (hv : v < 8) (hA : A < 2 ^ (3 * s)) : nI A ||| (nI v <<< (3 * nI s &&& 31)) = nI (A + v * 2 ^ (3 * s)) := by
  have l : v * 2 ^ (3 * s) < 2 ^ 32 := by
    have c : v * 2 ^ (3 * s) ≤ 7 * 2 ^ (3 * s) := Nat.mul_le_mul_right _ (by omega)
    have d : 2 ^ (3 * s) ≤ 2 ^ 21 := Nat.pow_le_pow_right (by omega) (by omega)
    omega
  rw [pk_shlN _ (3 * s) (kb_s3 s hs) l, kb_or]
  congr 1
  have z := Nat.shiftLeft_add_eq_or_of_lt hA v
  rw [Nat.shiftLeft_eq] at z
  rw [Nat.or_comm, ← z]
  omega
theorem kb_get {K s : Nat} (hs : s < 8) (hK : K < 2 ^ 24) : (nI K >>> (3 * nI s &&& 31)) &&& 7 = nI (K / 2 ^ (3 * s) % 8) := by
  have l : K / 2 ^ (3 * s) ≤ K := Nat.div_le_self _ _
  rw [pk_shrN (by omega) _ (3 * s) (kb_s3 s hs), pk_andN (by omega) 3 (by decide)]
/-- the partner array holds p -/
def kb_A (pa : Nat → Int32) (p : Nat → Nat) : Prop := ∀ s, s < 8 → pa s = nI (p s)
theorem kb_Au {pa : Nat → Int32} {p : Nat → Nat} (h : kb_A pa p) (i v : Nat) : kb_A (upd pa i (nI v)) (kp_ud p i v) := by
  intro s hs
  by_cases e : s = i
  · rw [e, pk_us, kp_us]
  · rw [pk_un e, kp_un e]; exact h s hs
section
variable {f_reach f_width f_capacity f_slots f_hand f_n f_phase f_bank f_stateCount f_spareCount : Int32} {a_rowX a_rowO a_colX a_colO a_nextX a_nextO a_rowTo a_colTo a_partner a_keys a_poly a_plain a_normal : Nat → Int32}
theorem xw_pack {post : Int32 → Prop} {p : Nat → Nat} (hA : kb_A a_partner p) (p8 : ∀ s, s < 8 → p s < 8) (h : post (nI (kb_pk p 8))) : wpX_pack post (f_reach, f_width, f_capacity, f_slots, f_hand, f_n, f_phase, f_bank, f_stateCount, f_spareCount, a_rowX, a_rowO, a_colX, a_colO, a_nextX, a_nextO, a_rowTo, a_colTo, a_partner, a_keys, a_poly, a_plain, a_normal) := by
  have key : ∀ d s, s + d = 8 → wX_pack_4 post f_reach f_width f_capacity f_slots f_hand f_n f_phase f_bank f_stateCount f_spareCount a_rowX a_rowO a_colX a_colO a_nextX a_nextO a_rowTo a_colTo a_partner a_keys a_poly a_plain a_normal (d + 1) (nI (kb_pk p s)) (nI s) := by
    intro d
    induction d with
    | zero =>
      intro s hs
      refine pk_le 8 s (fun _ => ?_) (fun q => by omega)
      rw [show s = 8 from by omega]; exact h
    | succ d ih =>
      intro s hs
      refine pk_le 8 s (fun q => by omega) (fun q => ⟨pk_in s 8 (by omega), nm_r (e' := nI (kb_pk p (s + 1))) ?_ (nm_r (nI_1 s) (ih (s + 1) (by omega)))⟩)
      rw [pk_cl s, hA s (by omega)]
      exact kb_put (by omega) (p8 s (by omega)) (kb_lt s (fun j hj => p8 j (by omega)))
  exact ⟨9, key 8 0 rfl⟩
theorem xw_unpack {post : SX → Prop} {p : Nat → Nat} {b i : Nat} (hb : f_bank = nI b) (b2 : b < 2) (i16 : i < 16) (hk : a_keys (b * 16 + i) = nI (kb_pk p 8)) (p8 : ∀ s, s < 8 → p s < 8)
    (h : ∀ pa, kb_A pa p → post (f_reach, f_width, f_capacity, f_slots, f_hand, f_n, f_phase, f_bank, f_stateCount, f_spareCount, a_rowX, a_rowO, a_colX, a_colO, a_nextX, a_nextO, a_rowTo, a_colTo, pa, a_keys, a_poly, a_plain, a_normal)) : wpX_unpack post (f_reach, f_width, f_capacity, f_slots, f_hand, f_n, f_phase, f_bank, f_stateCount, f_spareCount, a_rowX, a_rowO, a_colX, a_colO, a_nextX, a_nextO, a_rowTo, a_colTo, a_partner, a_keys, a_poly, a_plain, a_normal) (nI i) := by
  have key : ∀ d s (pa : Nat → Int32), s + d = 8 → (∀ j, j < s → pa j = nI (p j)) → wX_unpack_17 post (nI (kb_pk p 8)) f_reach f_width f_capacity f_slots f_hand f_n f_phase f_bank f_stateCount f_spareCount (d + 1) (nI s) a_rowX a_rowO a_colX a_colO a_nextX a_nextO a_rowTo a_colTo pa a_keys a_poly a_plain a_normal := by
    intro d
    induction d with
    | zero =>
      intro s pa hs hpa
      exact pk_le 8 s (fun _ => h pa (fun j hj => hpa j (by omega))) (fun q => by omega)
    | succ d ih =>
      intro s pa hs hpa
      refine pk_le 8 s (fun q => by omega) (fun q => ⟨pk_in s 8 (by omega), nm_e (nm_r (nI_1 s) (ih (s + 1) _ (by omega) (fun j hj => ?_)))⟩)
      rw [pk_cl s, kb_get (by omega) (kb_lt 8 p8), kb_dig 8 p8 s (by omega)]
      by_cases e : j = s
      · rw [e, pk_us]
      · rw [pk_un e]; exact hpa j (by omega)
  have ei : f_bank * 16 + nI i = nI (b * 16 + i) := by
    rw [hb, show (16 : Int32) = nI 16 from rfl, pk_mul, nI_add]
  refine ⟨?_, ?_⟩
  · rw [ei]; exact pk_in (b * 16 + i) 32 (by omega)
  · rw [ei, pk_cl (b * 16 + i), hk]
    exact nm_e ⟨9, key 8 0 a_partner rfl (fun j hj => by omega)⟩
theorem xw_link {post : SX → Prop} {p : Nat → Nat} {a b : Nat} (hA : kb_A a_partner p) (a8 : a < 8) (b8 : b < 8) (h : ∀ pa, kb_A pa (kp_link p a b) → post (f_reach, f_width, f_capacity, f_slots, f_hand, f_n, f_phase, f_bank, f_stateCount, f_spareCount, a_rowX, a_rowO, a_colX, a_colO, a_nextX, a_nextO, a_rowTo, a_colTo, pa, a_keys, a_poly, a_plain, a_normal)) : wpX_link post (f_reach, f_width, f_capacity, f_slots, f_hand, f_n, f_phase, f_bank, f_stateCount, f_spareCount, a_rowX, a_rowO, a_colX, a_colO, a_nextX, a_nextO, a_rowTo, a_colTo, a_partner, a_keys, a_poly, a_plain, a_normal) (nI a) (nI b) := by
  refine ⟨pk_in a 8 a8, nm_e ⟨pk_in b 8 b8, nm_e ?_⟩⟩
  rw [pk_cl a, pk_cl b]
  exact h _ (kb_Au (kb_Au hA a b) b a)
theorem xw_exchange {post : SX → Prop} {p : Nat → Nat} {a b : Nat} (hA : kb_A a_partner p) (p8 : ∀ s, s < 8 → p s < 8) (a8 : a < 8) (b8 : b < 8) (h : ∀ pa, kb_A pa (kp_exc p a b) → post (f_reach, f_width, f_capacity, f_slots, f_hand, f_n, f_phase, f_bank, f_stateCount, f_spareCount, a_rowX, a_rowO, a_colX, a_colO, a_nextX, a_nextO, a_rowTo, a_colTo, pa, a_keys, a_poly, a_plain, a_normal)) : wpX_exchange post (f_reach, f_width, f_capacity, f_slots, f_hand, f_n, f_phase, f_bank, f_stateCount, f_spareCount, a_rowX, a_rowO, a_colX, a_colO, a_nextX, a_nextO, a_rowTo, a_colTo, a_partner, a_keys, a_poly, a_plain, a_normal) (nI a) (nI b) := by
  have pa8 := p8 a a8
  have pb8 := p8 b b8
  refine ⟨pk_in a 8 a8, nm_r (e' := nI (p a)) (by rw [pk_cl a]; exact hA a a8) ⟨pk_in b 8 b8, nm_r (e' := nI (p b)) (by rw [pk_cl b]; exact hA b b8) ?_⟩⟩
  refine pk_eq (p a) b (fun e => ?_) (fun e => ?_)
  · refine h a_partner ?_
    rw [kp_exc, if_pos e]; exact hA
  · refine xw_link hA a8 pb8 (fun pa1 h1 => xw_link h1 b8 pa8 (fun pa2 h2 => ?_))
    refine h pa2 ?_
    rw [kp_exc, if_neg e]; exact h2
theorem xw_join {post : Int32 → SX → Prop} {p : Nat → Nat} {a b : Nat} (hA : kb_A a_partner p) (p8 : ∀ s, s < 8 → p s < 8) (a8 : a < 8) (b8 : b < 8) (h : ∀ pa, kb_A pa (kp_join p a b) → post (if p a = b then 1 else 0) (f_reach, f_width, f_capacity, f_slots, f_hand, f_n, f_phase, f_bank, f_stateCount, f_spareCount, a_rowX, a_rowO, a_colX, a_colO, a_nextX, a_nextO, a_rowTo, a_colTo, pa, a_keys, a_poly, a_plain, a_normal)) : wpX_join post (f_reach, f_width, f_capacity, f_slots, f_hand, f_n, f_phase, f_bank, f_stateCount, f_spareCount, a_rowX, a_rowO, a_colX, a_colO, a_nextX, a_nextO, a_rowTo, a_colTo, a_partner, a_keys, a_poly, a_plain, a_normal) (nI a) (nI b) := by
  have pa8 := p8 a a8
  have pb8 := p8 b b8
  refine ⟨pk_in a 8 a8, nm_r (e' := nI (p a)) (by rw [pk_cl a]; exact hA a a8) ⟨pk_in b 8 b8, nm_r (e' := nI (p b)) (by rw [pk_cl b]; exact hA b b8) ⟨pk_in a 8 a8, nm_e ⟨pk_in b 8 b8, nm_e ?_⟩⟩⟩⟩
  rw [pk_cl a, pk_cl b]
  have h2 := kb_Au (kb_Au hA a a) b b
  refine pk_eq (p a) b (fun e => ?_) (fun e => ?_)
  · have z := h _ (by rw [kp_join, if_pos e]; exact h2)
    rw [if_pos e] at z; exact z
  · refine xw_link h2 pa8 pb8 (fun pa3 h3 => ?_)
    have z := h pa3 (by rw [kp_join, if_neg e]; exact h3)
    rw [if_neg e] at z; exact z
theorem xw_base {post : Int32 → Prop} {b i : Nat} (h : post (nI ((b * 16 + i) * 129))) : wpX_base post (f_reach, f_width, f_capacity, f_slots, f_hand, f_n, f_phase, f_bank, f_stateCount, f_spareCount, a_rowX, a_rowO, a_colX, a_colO, a_nextX, a_nextO, a_rowTo, a_colTo, a_partner, a_keys, a_poly, a_plain, a_normal) (nI b) (nI i) := by
  show post ((nI b * 16 + nI i) * 129)
  rw [show (16 : Int32) = nI 16 from rfl, show (129 : Int32) = nI 129 from rfl, pk_mul, nI_add, pk_mul]
  exact h
theorem xw_flip {post : SX → Prop} {b : Nat} (hb : f_bank = nI b) (b2 : b < 2) (h : post (f_reach, f_width, f_capacity, f_slots, f_hand, f_n, f_phase, nI (1 - b), f_spareCount, 0, a_rowX, a_rowO, a_colX, a_colO, a_nextX, a_nextO, a_rowTo, a_colTo, a_partner, a_keys, a_poly, a_plain, a_normal)) : wpX_flip post (f_reach, f_width, f_capacity, f_slots, f_hand, f_n, f_phase, f_bank, f_stateCount, f_spareCount, a_rowX, a_rowO, a_colX, a_colO, a_nextX, a_nextO, a_rowTo, a_colTo, a_partner, a_keys, a_poly, a_plain, a_normal) :=
  nm_r (e' := nI (1 - b)) (by rw [hb, show (1 : Int32) = nI 1 from rfl, pk_sub (by omega)]) h
end
end
section
/-! find, addShifted, emit -/
def kb_q (poly : Nat → Int32) (x j : Nat) : Int32 := if j < 129 then poly (x * 129 + j) else 0
theorem kb_q_eq {pp poly : Nat → Int32} {T x : Nat} (hx : x ≠ T) (h : ∀ y, (y < T * 129 ∨ T * 129 + 129 ≤ y) → pp y = poly y) : kb_q pp x = kb_q poly x := by
  funext j
  unfold kb_q
  split
  · exact h _ (by omega)
  · rfl
theorem kb_i1 (x j : Nat) : nI (x * 129) + nI j = nI (x * 129 + j) := nI_add _ _
section
variable {f_reach f_width f_capacity f_slots f_hand f_n f_phase f_bank f_stateCount f_spareCount : Int32} {a_rowX a_rowO a_colX a_colO a_nextX a_nextO a_rowTo a_colTo a_partner a_keys a_poly a_plain a_normal : Nat → Int32}
theorem xw_find {post : Int32 → SX → Prop} {b m : Nat} {key : Int32} (hb : f_bank = nI b) (b2 : b < 2) (hm : f_spareCount = nI m) (m16 : m ≤ 16)
    (h1 : ∀ i, i < m → a_keys ((1 - b) * 16 + i) = key → post (nI i) (f_reach, f_width, f_capacity, f_slots, f_hand, f_n, f_phase, f_bank, f_stateCount, f_spareCount, a_rowX, a_rowO, a_colX, a_colO, a_nextX, a_nextO, a_rowTo, a_colTo, a_partner, a_keys, a_poly, a_plain, a_normal))
    (h2 : (∀ i, i < m → a_keys ((1 - b) * 16 + i) ≠ key) → m < 16 ∧ ∀ pp : Nat → Int32, (∀ y, (y < ((1 - b) * 16 + m) * 129 ∨ ((1 - b) * 16 + m) * 129 + 129 ≤ y) → pp y = a_poly y) →
      (∀ j, j < 129 → pp (((1 - b) * 16 + m) * 129 + j) = 0) → post (nI m) (f_reach, f_width, f_capacity, f_slots, f_hand, f_n, f_phase, f_bank, f_stateCount, nI (m + 1), a_rowX, a_rowO, a_colX, a_colO, a_nextX, a_nextO, a_rowTo, a_colTo, a_partner, upd a_keys ((1 - b) * 16 + m) key, pp, a_plain, a_normal)) : wpX_find post (f_reach, f_width, f_capacity, f_slots, f_hand, f_n, f_phase, f_bank, f_stateCount, f_spareCount, a_rowX, a_rowO, a_colX, a_colO, a_nextX, a_nextO, a_rowTo, a_colTo, a_partner, a_keys, a_poly, a_plain, a_normal) key := by
  have zero : m < 16 → (∀ i, i < m → a_keys ((1 - b) * 16 + i) ≠ key) → ∀ d k (pp : Nat → Int32), k + d = 129 → (∀ y, (y < ((1 - b) * 16 + m) * 129 ∨ ((1 - b) * 16 + m) * 129 + 129 ≤ y) → pp y = a_poly y) →
      (∀ j, j < k → pp (((1 - b) * 16 + m) * 129 + j) = 0) → wX_find_81 post (nI (((1 - b) * 16 + m) * 129)) f_reach f_width f_capacity f_slots f_hand f_n f_phase f_bank f_stateCount f_spareCount (d + 1) (nI k) a_rowX a_rowO a_colX a_colO a_nextX a_nextO a_rowTo a_colTo a_partner (upd a_keys ((1 - b) * 16 + m) key) pp a_plain a_normal := by
    intro ml hne d
    induction d with
    | zero =>
      intro k pp hk ho hz
      refine pk_le 129 k (fun _ => nm_r (e' := nI (m + 1)) (by rw [hm]; exact nI_1 m) ?_) (fun q => by omega)
      rw [nI_pred]
      exact (h2 hne).2 pp ho (fun j hj => hz j (by omega))
    | succ d ih =>
      intro k pp hk ho hz
      refine pk_le 129 k (fun q => by omega) (fun q => ?_)
      rw [kb_i1]
      refine ⟨pk_in (((1 - b) * 16 + m) * 129 + k) 4128 (by omega), nm_e (nm_r (nI_1 k) (ih (k + 1) _ (by omega) (fun y hy => ?_) (fun j hj => ?_)))⟩
      · rw [pk_cl (((1 - b) * 16 + m) * 129 + k), pk_un (by omega)]; exact ho y hy
      · rw [pk_cl (((1 - b) * 16 + m) * 129 + k)]
        by_cases e : j = k
        · rw [e, pk_us]
        · rw [pk_un (by omega)]; exact hz j (by omega)
  have e1 : (1 : Int32) - f_bank = nI (1 - b) := by rw [hb, show (1 : Int32) = nI 1 from rfl, pk_sub (by omega)]
  have loop : ∀ d i, i + d = m → (∀ j, j < i → a_keys ((1 - b) * 16 + j) ≠ key) → wX_find_12 post key (nI ((1 - b) * 16)) f_reach f_width f_capacity f_slots f_hand f_n f_phase f_bank f_stateCount f_spareCount a_rowX a_rowO a_colX a_colO a_nextX a_nextO a_rowTo a_colTo a_partner a_keys a_poly a_plain a_normal (d + 1) (nI i) := by
    intro d
    induction d with
    | zero =>
      intro i hi hne
      have hne' : ∀ j, j < m → a_keys ((1 - b) * 16 + j) ≠ key := fun j hj => hne j (by omega)
      have ml := (h2 hne').1
      refine pk_le m i (fun _ => pk_lt m 16 (fun _ => ?_) (fun q => by omega) hm) (fun q => by omega) hm
      rw [hm, nI_add]
      refine ⟨pk_in ((1 - b) * 16 + m) 32 (by omega), nm_e ?_⟩
      rw [pk_cl ((1 - b) * 16 + m), ← hm, e1, hm]
      refine xw_base ?_
      have z := zero ml hne' 129 0 a_poly rfl (fun y _ => rfl) (fun j hj => by omega)
      rw [hm] at z
      exact ⟨130, z⟩
    | succ d ih =>
      intro i hi hne
      refine pk_le m i (fun q => by omega) (fun q => ?_) hm
      rw [nI_add]
      refine ⟨pk_in ((1 - b) * 16 + i) 32 (by omega), ?_⟩
      rw [pk_cl ((1 - b) * 16 + i)]
      refine br_c (fun e => h1 i (by omega) e) (fun e => nm_r (nI_1 i) (ih (i + 1) (by omega) (fun j hj => ?_)))
      by_cases q' : j = i
      · rw [q']; exact e
      · exact hne j (by omega)
  refine nm_r (e' := nI ((1 - b) * 16)) ?_ ⟨m + 1, loop m 0 (by omega) (fun j hj => by omega)⟩
  rw [e1, show (16 : Int32) = nI 16 from rfl, pk_mul]
theorem xw_add {post : SX → Prop} {b i t : Nat} {pw fc : Int32} {w : Int} (hb : f_bank = nI b) (b2 : b < 2) (hw : pw.toInt = w) (w1 : -4 < w) (w2 : w < 4) (i16 : i < 16) (t16 : t < 16)
    (h : ∀ pp : Nat → Int32, (∀ y, (y < ((1 - b) * 16 + t) * 129 ∨ ((1 - b) * 16 + t) * 129 + 129 ≤ y) → pp y = a_poly y) →
      (∀ j, j < 129 → pp (((1 - b) * 16 + t) * 129 + j) = a_poly (((1 - b) * 16 + t) * 129 + j) + fc * kq_sh w (kb_q a_poly (b * 16 + i)) j) → post (f_reach, f_width, f_capacity, f_slots, f_hand, f_n, f_phase, f_bank, f_stateCount, f_spareCount, a_rowX, a_rowO, a_colX, a_colO, a_nextX, a_nextO, a_rowTo, a_colTo, a_partner, a_keys, pp, a_plain, a_normal)) :
    wpX_addShifted post (f_reach, f_width, f_capacity, f_slots, f_hand, f_n, f_phase, f_bank, f_stateCount, f_spareCount, a_rowX, a_rowO, a_colX, a_colO, a_nextX, a_nextO, a_rowTo, a_colTo, a_partner, a_keys, a_poly, a_plain, a_normal) (nI i) (nI t) pw fc := by
  have e1 : (1 : Int32) - f_bank = nI (1 - b) := by rw [hb, show (1 : Int32) = nI 1 from rfl, pk_sub (by omega)]
  have loop : ∀ (d k : Nat) (pp : Nat → Int32), k + d = 129 → (∀ y, (y < ((1 - b) * 16 + t) * 129 ∨ ((1 - b) * 16 + t) * 129 + 129 ≤ y) → pp y = a_poly y) →
      (∀ j : Nat, j < 129 → pp (((1 - b) * 16 + t) * 129 + j) = a_poly (((1 - b) * 16 + t) * 129 + j) + (if 0 ≤ (j : Int) - w ∧ (j : Int) - w < k then fc * a_poly ((b * 16 + i) * 129 + ((j : Int) - w).toNat) else 0)) →
      wX_addShifted_27 post pw fc (nI ((b * 16 + i) * 129)) (nI (((1 - b) * 16 + t) * 129)) f_reach f_width f_capacity f_slots f_hand f_n f_phase f_bank f_stateCount f_spareCount (d + 1) (nI k) a_rowX a_rowO a_colX a_colO a_nextX a_nextO a_rowTo a_colTo a_partner a_keys pp a_plain a_normal := by
    intro d
    induction d with
    | zero =>
      intro k pp hk ho hz
      refine pk_le 129 k (fun _ => h pp ho (fun j hj => ?_)) (fun q => by omega)
      rw [hz j hj]
      congr 1
      unfold kq_sh
      by_cases c : 0 ≤ (j : Int) - w ∧ (j : Int) - w < 129
      · rw [if_pos (by omega), if_pos ⟨hj, c⟩]
        congr 1
        unfold kb_q
        rw [if_pos (by omega)]
      · rw [if_neg (by omega), if_neg (fun z => c z.2)]
        exact Int32.mul_zero.symm
    | succ d ih =>
      intro k pp hk ho hz
      have hx : (nI k + pw).toInt = (k : Int) + w := by
        have z := nI_toInt (n := k) (by omega)
        rw [Jvm.Kit.i32_add (by rw [z, hw]; omega) (by rw [z, hw]; omega), z, hw]
      refine pk_le 129 k (fun q => by omega) (fun q => nm_e ?_)
      by_cases c0 : (k : Int) + w < 0
      · refine br_t (Int32.lt_iff_toInt_lt.mpr (by rw [hx]; exact c0)) (nm_r (nI_1 k) (ih (k + 1) pp (by omega) ho (fun j hj => ?_)))
        rw [hz j hj]
        congr 1
        by_cases c : 0 ≤ (j : Int) - w ∧ (j : Int) - w < k
        · rw [if_pos c, if_pos (by omega)]
        · rw [if_neg c, if_neg (by omega)]
      · refine br_f (fun z => c0 (by have y := Int32.lt_iff_toInt_lt.mp z; rw [hx] at y; exact y)) ?_
        obtain ⟨j0, hj0⟩ : ∃ j0 : Nat, (k : Int) + w = j0 := ⟨((k : Int) + w).toNat, by omega⟩
        have e8 : nI k + pw = nI j0 := by
          apply Int32.toInt_inj.mp
          rw [hx, hj0, nI_toInt (by omega)]
        rw [e8]
        refine pk_le 129 j0 (fun c1 => nm_r (nI_1 k) (ih (k + 1) pp (by omega) ho (fun j hj => ?_))) (fun c1 => ?_)
        · rw [hz j hj]
          congr 1
          by_cases c : 0 ≤ (j : Int) - w ∧ (j : Int) - w < k
          · rw [if_pos c, if_pos (by omega)]
          · rw [if_neg c, if_neg (by omega)]
        · rw [kb_i1, kb_i1]
          refine ⟨pk_in (((1 - b) * 16 + t) * 129 + j0) 4128 (by omega), pk_in ((b * 16 + i) * 129 + k) 4128 (by omega), pk_in (((1 - b) * 16 + t) * 129 + j0) 4128 (by omega), nm_e (nm_r (nI_1 k) ?_)⟩
          rw [pk_cl (((1 - b) * 16 + t) * 129 + j0), pk_cl ((b * 16 + i) * 129 + k)]
          refine ih (k + 1) _ (by omega) (fun y hy => ?_) (fun j hj => ?_)
          · rw [pk_un (by omega)]; exact ho y hy
          · by_cases e : j = j0
            · rw [e, pk_us, hz j0 (by omega), if_neg (by omega), if_pos (by omega), ho ((b * 16 + i) * 129 + k) (by omega), show ((j0 : Int) - w).toNat = k from by omega]
              grind
            · rw [pk_un (by omega), hz j hj]
              congr 1
              by_cases c : 0 ≤ (j : Int) - w ∧ (j : Int) - w < k
              · rw [if_pos c, if_pos (by omega)]
              · rw [if_neg c, if_neg (by omega)]
  unfold wpX_addShifted
  dsimp only
  rw [e1]
  have fb : ∀ P : Int32 → Prop, P (nI ((b * 16 + i) * 129)) → wpX_base P (f_reach, f_width, f_capacity, f_slots, f_hand, f_n, f_phase, f_bank, f_stateCount, f_spareCount, a_rowX, a_rowO, a_colX, a_colO, a_nextX, a_nextO, a_rowTo, a_colTo, a_partner, a_keys, a_poly, a_plain, a_normal) f_bank (nI i) := fun P hP => by
    rw [hb]; exact xw_base hP
  refine fb _ (xw_base ⟨130, loop 129 0 a_poly rfl (fun y _ => rfl) (fun j hj => ?_)⟩)
  rw [if_neg (by omega)]
  exact (Int32.add_zero _).symm
end
end
section
/-! a bank as a family of pairings with polynomials; emit adds to it -/
def kb_H (g : kg_G) (k : Nat) (F : (Nat → Nat) → (Nat → Int32) → Nat → Int32) (b : Nat) (keys poly : Nat → Int32) (m : Nat) (acc : Nat → Int32) : Prop :=
  ∃ P : Nat → Nat → Nat, (∀ i, i < m → kn_V g k (P i) ∧ keys (b * 16 + i) = nI (kb_pk (P i) 8)) ∧ (∀ i j, i < j → j < m → P i ≠ P j) ∧
    ∀ j, bx_sum (fun i => F (P i) (kb_q poly (b * 16 + i)) j) m = acc j
theorem kb_H14 {g : kg_G} {k : Nat} {F : (Nat → Nat) → (Nat → Int32) → Nat → Int32} {b : Nat} {keys poly : Nat → Int32} {m : Nat} {acc : Nat → Int32} (H : kb_H g k F b keys poly m acc) : m ≤ 14 := by
  obtain ⟨P, h1, h2, h3⟩ := H
  exact kn_14 (fun i hi => (h1 i hi).1) h2
theorem kb_Hnew {g : kg_G} {k : Nat} {F : (Nat → Nat) → (Nat → Int32) → Nat → Int32} {b : Nat} {keys poly poly2 : Nat → Int32} {m : Nat} {acc e : Nat → Int32} {p : Nat → Nat} (H : kb_H g k F b keys poly m acc)
    (hp : kn_V g k p) (hne : ∀ i, i < m → keys (b * 16 + i) ≠ nI (kb_pk p 8)) (ho : ∀ y, (y < (b * 16 + m) * 129 ∨ (b * 16 + m) * 129 + 129 ≤ y) → poly2 y = poly y)
    (hi : ∀ j, j < 129 → poly2 ((b * 16 + m) * 129 + j) = e j) (he : ∀ j, 129 ≤ j → e j = 0) : kb_H g k F b (upd keys (b * 16 + m) (nI (kb_pk p 8))) poly2 (m + 1) (fun j => acc j + F p e j) := by
  obtain ⟨P, h1, h2, h3⟩ := H
  refine ⟨fun i => if i = m then p else P i, fun i hi' => ?_, fun i j hij hj => ?_, fun j => ?_⟩
  · dsimp only
    by_cases c : i = m
    · rw [if_pos c, c, pk_us]; exact ⟨hp, rfl⟩
    · rw [if_neg c, pk_un (by omega)]; exact h1 i (by omega)
  · dsimp only
    rw [if_neg (by omega : ¬ i = m)]
    by_cases c : j = m
    · rw [if_pos c]
      intro q
      exact hne i (by omega) (by rw [← q]; exact (h1 i (by omega)).2)
    · rw [if_neg c]; exact h2 i j hij (by omega)
  · show bx_sum (fun i => F (if i = m then p else P i) (kb_q poly2 (b * 16 + i)) j) m + F (if m = m then p else P m) (kb_q poly2 (b * 16 + m)) j = acc j + F p e j
    have e1 : kb_q poly2 (b * 16 + m) = e := by
      funext j
      unfold kb_q
      by_cases c : j < 129
      · rw [if_pos c]; exact hi j c
      · rw [if_neg c]; exact (he j (by omega)).symm
    rw [if_pos rfl, e1, ← h3 j]
    congr 1
    refine bx_cong m (fun i hi' => ?_)
    rw [if_neg (by omega), kb_q_eq (by omega) ho]
theorem kb_Hold {g : kg_G} {k : Nat} {F : (Nat → Nat) → (Nat → Int32) → Nat → Int32} {b : Nat} {keys poly poly2 : Nat → Int32} {m t : Nat} {acc e : Nat → Int32} {p : Nat → Nat} (H : kb_H g k F b keys poly m acc)
    (hF : ∀ p, kq_L (F p)) (hp : kn_V g k p) (ht : t < m) (hk : keys (b * 16 + t) = nI (kb_pk p 8)) (ho : ∀ y, (y < (b * 16 + t) * 129 ∨ (b * 16 + t) * 129 + 129 ≤ y) → poly2 y = poly y)
    (hi : ∀ j, j < 129 → poly2 ((b * 16 + t) * 129 + j) = poly ((b * 16 + t) * 129 + j) + e j) (he : ∀ j, 129 ≤ j → e j = 0) : kb_H g k F b keys poly2 m (fun j => acc j + F p e j) := by
  obtain ⟨P, h1, h2, h3⟩ := H
  have ep : P t = p := kb_inj (h1 t ht).1.1 hp.1 (by rw [← (h1 t ht).2, hk])
  refine ⟨P, h1, h2, fun j => ?_⟩
  dsimp only
  rw [← h3 j]
  refine bx_upd (t := t) (fun i hi' => ?_) ?_ m ht
  · rw [kb_q_eq (by omega) ho]
  · rw [ep]
    refine hF p (kb_q poly (b * 16 + t)) e (kb_q poly2 (b * 16 + t)) (fun x => ?_) j
    unfold kb_q
    by_cases c : x < 129
    · rw [if_pos c, if_pos c]; exact hi x c
    · rw [if_neg c, if_neg c, he x (by omega)]; rfl
theorem kq_sh_z {w : Int} {q : Nat → Int32} {j : Nat} (h : 129 ≤ j) : kq_sh w q j = 0 := if_neg (fun z => by omega)
theorem kq_lp_z {w : Int} {q : Nat → Int32} {j : Nat} (h : 129 ≤ j) : kq_lp w q j = 0 := by
  unfold kq_lp
  rw [kq_sh_z h, kq_sh_z h]; rfl
section
variable {f_reach f_width f_capacity f_slots f_hand f_n f_phase f_bank f_stateCount f_spareCount : Int32} {a_rowX a_rowO a_colX a_colO a_nextX a_nextO a_rowTo a_colTo a_partner a_keys a_poly a_plain a_normal : Nat → Int32}
theorem xw_emit {post : SX → Prop} {g : kg_G} {k b i m : Nat} {p : Nat → Nat} {pw z : Int32} {w : Int} {F : (Nat → Nat) → (Nat → Int32) → Nat → Int32} {acc : Nat → Int32}
    (hb : f_bank = nI b) (b2 : b < 2) (hm : f_spareCount = nI m) (i16 : i < 16) (hw : pw.toInt = w) (w1 : -2 < w) (w2 : w < 2) (hA : kb_A a_partner p) (hp : kn_V g k p) (hF : ∀ p, kq_L (F p)) (H : kb_H g k F (1 - b) a_keys a_poly m acc)
    (h : ∀ (m' : Nat) (keys' poly' : Nat → Int32), 1 ≤ m' → kb_H g k F (1 - b) keys' poly' m' (fun j => acc j + F p (if z = 0 then kq_sh w (kb_q a_poly (b * 16 + i)) else kq_lp w (kb_q a_poly (b * 16 + i))) j) →
      (∀ x, x < 16 → keys' (b * 16 + x) = a_keys (b * 16 + x) ∧ kb_q poly' (b * 16 + x) = kb_q a_poly (b * 16 + x)) → post (f_reach, f_width, f_capacity, f_slots, f_hand, f_n, f_phase, f_bank, f_stateCount, nI m', a_rowX, a_rowO, a_colX, a_colO, a_nextX, a_nextO, a_rowTo, a_colTo, a_partner, keys', poly', a_plain, a_normal)) : wpX_emit post (f_reach, f_width, f_capacity, f_slots, f_hand, f_n, f_phase, f_bank, f_stateCount, f_spareCount, a_rowX, a_rowO, a_colX, a_colO, a_nextX, a_nextO, a_rowTo, a_colTo, a_partner, a_keys, a_poly, a_plain, a_normal) (nI i) pw z := by
  have m14 := kb_H14 H
  have p8 : ∀ s, s < 8 → p s < 8 := fun s hs => kp_V8 hp.1 hs
  have wp2 : (pw + 2).toInt = w + 2 := by
    rw [Jvm.Kit.i32_add (by rw [hw]; show (-2) ^ 31 ≤ w + (2 : Int32).toInt; rw [show (2 : Int32).toInt = 2 from by decide]; omega) (by rw [hw, show (2 : Int32).toInt = 2 from by decide]; omega), hw]; rfl
  have wm2 : (pw - 2).toInt = w - 2 := by
    rw [Jvm.Kit.i32_sub (by rw [hw, show (2 : Int32).toInt = 2 from by decide]; omega) (by rw [hw, show (2 : Int32).toInt = 2 from by decide]; omega), hw]; rfl
  refine xw_pack hA p8 (xw_find hb b2 hm (by omega) (fun t ht e => ?_) (fun hne => ?_))
  · refine br_t (nI_pos' (by omega)) (br_c (fun z0 => ?_) (fun z1 => ?_))
    · refine xw_add hb b2 hw (by omega) (by omega) i16 (by omega) (fun pp ho hi => ?_)
      have q := h m a_keys pp (by omega) (kb_Hold H hF hp ht e ho (fun j hj => by rw [hi j hj, if_pos z0]; grind) (fun j hj => by rw [if_pos z0]; exact kq_sh_z hj)) (fun x hx => ⟨rfl, kb_q_eq (by omega) ho⟩)
      rw [← hm] at q
      exact q
    · refine xw_add hb b2 wp2 (by omega) (by omega) i16 (by omega) (fun pp1 ho1 hi1 => xw_add hb b2 wm2 (by omega) (by omega) i16 (by omega) (fun pp ho hi => ?_))
      have ho' : ∀ y, (y < ((1 - b) * 16 + t) * 129 ∨ ((1 - b) * 16 + t) * 129 + 129 ≤ y) → pp y = a_poly y := fun y hy => by rw [ho y hy, ho1 y hy]
      have q := h m a_keys pp (by omega) (kb_Hold H hF hp ht e ho' (fun j hj => by
        rw [hi j hj, hi1 j hj, if_neg z1, kb_q_eq (by omega) ho1]; unfold kq_lp; grind) (fun j hj => by rw [if_neg z1]; exact kq_lp_z hj)) (fun x hx => ⟨rfl, kb_q_eq (by omega) ho'⟩)
      rw [← hm] at q
      exact q
  · refine ⟨by omega, fun pp0 ho0 hi0 => ?_⟩
    refine br_t (nI_pos' (by omega)) (br_c (fun z0 => ?_) (fun z1 => ?_))
    · refine xw_add hb b2 hw (by omega) (by omega) i16 (by omega) (fun pp ho hi => ?_)
      have ho' : ∀ y, (y < ((1 - b) * 16 + m) * 129 ∨ ((1 - b) * 16 + m) * 129 + 129 ≤ y) → pp y = a_poly y := fun y hy => by rw [ho y hy, ho0 y hy]
      exact h (m + 1) _ pp (by omega) (kb_Hnew H hp hne ho' (fun j hj => by rw [hi j hj, hi0 j hj, if_pos z0, kb_q_eq (by omega) ho0]; grind) (fun j hj => by rw [if_pos z0]; exact kq_sh_z hj))
        (fun x hx => ⟨pk_un (by omega), kb_q_eq (by omega) ho'⟩)
    · refine xw_add hb b2 wp2 (by omega) (by omega) i16 (by omega) (fun pp1 ho1 hi1 => xw_add hb b2 wm2 (by omega) (by omega) i16 (by omega) (fun pp ho hi => ?_))
      have ho2 : ∀ y, (y < ((1 - b) * 16 + m) * 129 ∨ ((1 - b) * 16 + m) * 129 + 129 ≤ y) → pp1 y = a_poly y := fun y hy => by rw [ho1 y hy, ho0 y hy]
      have ho' : ∀ y, (y < ((1 - b) * 16 + m) * 129 ∨ ((1 - b) * 16 + m) * 129 + 129 ≤ y) → pp y = a_poly y := fun y hy => by rw [ho y hy, ho2 y hy]
      exact h (m + 1) _ pp (by omega) (kb_Hnew H hp hne ho' (fun j hj => by
        rw [hi j hj, hi1 j hj, hi0 j hj, if_neg z1, kb_q_eq (by omega) ho2, kb_q_eq (by omega) ho0]; unfold kq_lp; grind) (fun j hj => by rw [if_neg z1]; exact kq_lp_z hj))
        (fun x hx => ⟨pk_un (by omega), kb_q_eq (by omega) ho'⟩)
end
end
section
/-! the four passes over a bank -/
theorem kq_sh0 (poly : Nat → Int32) (x : Nat) : kq_sh 0 (kb_q poly x) = kb_q poly x := by
  funext j
  unfold kq_sh
  by_cases h : j < 129
  · rw [if_pos (by omega), show ((j : Int) - 0).toNat = j from by omega]
  · rw [if_neg (fun z => h z.1)]
    unfold kb_q
    rw [if_neg h]
theorem ks_Fs {g : kg_G} {r c : Nat} (hc : c < 7) (hk : 7 * r + c < 49) (p : Nat → Nat) (q : Nat → Int32) (j : Nat) : ks_F g (49 - (7 * r + c)) (7 * r + c) p q j =
    if kg_ty g r c = 1 then
      ks_F g (49 - (7 * r + c + 1)) (7 * r + c + 1) (kp_exc p c 7) (kq_sh 1 q) j +
        ks_F g (49 - (7 * r + c + 1)) (7 * r + c + 1) (kp_link (kp_join p c 7) c 7) (if p c = 7 then kq_lp (-1) q else kq_sh (-1) q) j
    else if kg_ty g r c = 2 then
      ks_F g (49 - (7 * r + c + 1)) (7 * r + c + 1) (kp_join p c 7) (if p c = 7 ∧ r + 1 < kg_n g then kq_lp 0 q else q) j
    else if kg_ty g r c = 3 then ks_F g (49 - (7 * r + c + 1)) (7 * r + c + 1) (kp_link p c 7) q j
    else if kg_ty g r c = 4 then ks_F g (49 - (7 * r + c + 1)) (7 * r + c + 1) (kp_ren p c 7) q j
    else if kg_ty g r c = 5 then ks_F g (49 - (7 * r + c + 1)) (7 * r + c + 1) (kp_ren p 7 c) q j
    else ks_F g (49 - (7 * r + c + 1)) (7 * r + c + 1) p q j := by
  have e : 49 - (7 * r + c) = (49 - (7 * r + c + 1)) + 1 := by omega
  rw [e]
  generalize 49 - (7 * r + c + 1) = d
  show ks_F g (d + 1) (7 * r + c) p q j = _
  rw [ks_F, kg_kd hc, kg_km hc]
/-- the state between two cells -/
def kb_I (g : kg_G) (k : Nat) (tot : Nat → Int32) (bank sc sp : Int32) (keys poly : Nat → Int32) : Prop :=
  ∃ b m, b < 2 ∧ bank = nI b ∧ sc = nI m ∧ sp = 0 ∧ 1 ≤ m ∧ kb_H g k (ks_F g (49 - k) k) b keys poly m tot
theorem kb_I0 {g : kg_G} (ok : kg_ok g) {r c : Nat} {tot : Nat → Int32} {bank sc sp : Int32} {keys poly : Nat → Int32} (hc : c < 7) (hk : 7 * r + c < 49) (ht : kg_ty g r c = 0)
    (I : kb_I g (7 * r + c) tot bank sc sp keys poly) : kb_I g (7 * r + c + 1) tot bank sc sp keys poly := by
  obtain ⟨b, m, b2, h1, h2, h3, h4, P, h5, h6, h7⟩ := I
  refine ⟨b, m, b2, h1, h2, h3, h4, P, fun i hi => ⟨kn_s0 ok hc ht (h5 i hi).1, (h5 i hi).2⟩, h6, fun j => ?_⟩
  rw [← h7 j]
  refine bx_cong m (fun i hi => ?_)
  rw [ks_Fs hc hk, if_neg (by omega), if_neg (by omega), if_neg (by omega), if_neg (by omega), if_neg (by omega)]
theorem kb_Iskip {g : kg_G} (ok : kg_ok g) {r : Nat} (hr : r < 7) {tot : Nat → Int32} {bank sc sp : Int32} {keys poly : Nat → Int32} : ∀ d c, c + d ≤ 7 → (∀ x, c ≤ x → x < c + d → kg_ty g r x = 0) →
    kb_I g (7 * r + c) tot bank sc sp keys poly → kb_I g (7 * r + (c + d)) tot bank sc sp keys poly := by
  intro d
  induction d with
  | zero => intro c _ _ I; exact I
  | succ d ih =>
    intro c hc hz I
    have z := kb_I0 ok (r := r) (c := c) (by omega) (by omega) (hz c (Nat.le_refl _) (by omega)) I
    have y := ih (c + 1) (by omega) (fun x h1 h2 => hz x (by omega) (by omega)) z
    rw [show c + (d + 1) = c + 1 + d from by omega]
    exact y
/-- within a pass: i states are done -/
def kb_J (g : kg_G) (k b : Nat) (P : Nat → Nat → Nat) (keys poly : Nat → Int32) (i : Nat) (sp : Int32) (keys' poly' : Nat → Int32) : Prop :=
  ∃ m', sp = nI m' ∧ (1 ≤ i → 1 ≤ m') ∧ (∀ x, x < 16 → keys' (b * 16 + x) = keys (b * 16 + x) ∧ kb_q poly' (b * 16 + x) = kb_q poly (b * 16 + x)) ∧
    kb_H g (k + 1) (ks_F g (49 - (k + 1)) (k + 1)) (1 - b) keys' poly' m' (fun j => bx_sum (fun i' => ks_F g (49 - k) k (P i') (kb_q poly (b * 16 + i')) j) i)
theorem kb_J0 {g : kg_G} {k b : Nat} {P : Nat → Nat → Nat} {keys poly : Nat → Int32} {sp : Int32} (h : sp = 0) : kb_J g k b P keys poly 0 sp keys poly :=
  ⟨0, h, fun q => by omega, fun x _ => ⟨rfl, rfl⟩, P, fun i hi => by omega, fun i j _ hj => by omega, fun j => rfl⟩
theorem kb_Je {g : kg_G} {k b m : Nat} {P : Nat → Nat → Nat} {keys poly keys' poly' tot : Nat → Int32} {sp : Int32} (b2 : b < 2) (m1 : 1 ≤ m) (ht : ∀ j, bx_sum (fun i => ks_F g (49 - k) k (P i) (kb_q poly (b * 16 + i)) j) m = tot j)
    (J : kb_J g k b P keys poly m sp keys' poly') : kb_I g (k + 1) tot (nI (1 - b)) sp 0 keys' poly' := by
  obtain ⟨m', h1, h2, h3, P', h4, h5, h6⟩ := J
  exact ⟨1 - b, m', by omega, rfl, h1, rfl, h2 m1, P', h4, h5, fun j => by rw [h6 j]; exact ht j⟩
section
variable {f_reach f_width f_capacity f_slots f_hand f_n f_phase f_bank f_stateCount f_spareCount : Int32} {a_rowX a_rowO a_colX a_colO a_nextX a_nextO a_rowTo a_colTo a_partner a_keys a_poly a_plain a_normal : Nat → Int32}
theorem xw_emitJ {post : SX → Prop} {g : kg_G} {k b i : Nat} {P : Nat → Nat → Nat} {p : Nat → Nat} {keys poly : Nat → Int32} {pw z : Int32} {w : Int} (hb : f_bank = nI b) (b2 : b < 2) (i16 : i < 16)
    (hw : pw.toInt = w) (w1 : -2 < w) (w2 : w < 2) (hA : kb_A a_partner p) (hp : kn_V g (k + 1) p) (J : kb_J g k b P keys poly i f_spareCount a_keys a_poly)
    (hF : ∀ j, ks_F g (49 - k) k (P i) (kb_q poly (b * 16 + i)) j = ks_F g (49 - (k + 1)) (k + 1) p (if z = 0 then kq_sh w (kb_q poly (b * 16 + i)) else kq_lp w (kb_q poly (b * 16 + i))) j)
    (h : ∀ (sp : Int32) (keys' poly' : Nat → Int32), kb_J g k b P keys poly (i + 1) sp keys' poly' → post (f_reach, f_width, f_capacity, f_slots, f_hand, f_n, f_phase, f_bank, f_stateCount, sp, a_rowX, a_rowO, a_colX, a_colO, a_nextX, a_nextO, a_rowTo, a_colTo, a_partner, keys', poly', a_plain, a_normal)) : wpX_emit post (f_reach, f_width, f_capacity, f_slots, f_hand, f_n, f_phase, f_bank, f_stateCount, f_spareCount, a_rowX, a_rowO, a_colX, a_colO, a_nextX, a_nextO, a_rowTo, a_colTo, a_partner, a_keys, a_poly, a_plain, a_normal) (nI i) pw z := by
  obtain ⟨m', h1, h2, h3, H⟩ := J
  refine xw_emit hb b2 h1 i16 hw w1 w2 hA hp (fun p => ks_FL g _ _ p) H (fun m2 keys' poly' hm2 H2 h4 => h _ keys' poly' ⟨m2, rfl, fun _ => hm2, fun x hx => ?_, ?_⟩)
  · rw [(h4 x hx).1, (h4 x hx).2]; exact h3 x hx
  · rw [(h3 i i16).2] at H2
    have e : (fun j => bx_sum (fun i' => ks_F g (49 - k) k (P i') (kb_q poly (b * 16 + i')) j) i + ks_F g (49 - (k + 1)) (k + 1) p (if z = 0 then kq_sh w (kb_q poly (b * 16 + i)) else kq_lp w (kb_q poly (b * 16 + i))) j) =
        (fun j => bx_sum (fun i' => ks_F g (49 - k) k (P i') (kb_q poly (b * 16 + i')) j) (i + 1)) := by
      funext j
      rw [← hF j]; rfl
    rw [← e]
    exact H2
theorem xw_openArc {post : SX → Prop} {g : kg_G} (ok : kg_ok g) {r c : Nat} {tot : Nat → Int32} (hc : c < 7) (hk : 7 * r + c < 49) (ht : kg_ty g r c = 3) (I : kb_I g (7 * r + c) tot f_bank f_stateCount f_spareCount a_keys a_poly)
    (h : ∀ (bk sc : Int32) (pa keys' poly' : Nat → Int32), kb_I g (7 * r + c + 1) tot bk sc 0 keys' poly' → post (f_reach, f_width, f_capacity, f_slots, f_hand, f_n, f_phase, bk, sc, 0, a_rowX, a_rowO, a_colX, a_colO, a_nextX, a_nextO, a_rowTo, a_colTo, pa, keys', poly', a_plain, a_normal)) : wpX_openArc post (f_reach, f_width, f_capacity, f_slots, f_hand, f_n, f_phase, f_bank, f_stateCount, f_spareCount, a_rowX, a_rowO, a_colX, a_colO, a_nextX, a_nextO, a_rowTo, a_colTo, a_partner, a_keys, a_poly, a_plain, a_normal) (nI c) := by
  obtain ⟨b, m, b2, hb, hs, hz, m1, P, h5, h6, h7⟩ := I
  have m14 := kn_14 (fun i hi => (h5 i hi).1) h6
  have loop : ∀ d i (sp : Int32) (pa keys' poly' : Nat → Int32), i + d = m → kb_J g (7 * r + c) b P a_keys a_poly i sp keys' poly' →
      wX_openArc_2 post (nI c) (d + 1) (nI i) f_reach f_width f_capacity f_slots f_hand f_n f_phase f_bank f_stateCount sp a_rowX a_rowO a_colX a_colO a_nextX a_nextO a_rowTo a_colTo pa keys' poly' a_plain a_normal := by
    intro d
    induction d with
    | zero =>
      intro i sp pa keys' poly' hi J
      refine pk_le m i (fun _ => xw_flip hb b2 (h _ _ pa keys' poly' (kb_Je (keys := a_keys) b2 m1 h7 ?_))) (fun q => by omega) hs
      rw [show m = i from by omega]; exact J
    | succ d ih =>
      intro i sp pa keys' poly' hi J
      have i16 : i < 16 := by omega
      have V := (h5 i (by omega)).1
      have p8 : ∀ s, s < 8 → P i s < 8 := fun s hs => kp_V8 V.1 hs
      obtain ⟨m', j1, j2, j3, j4⟩ := id J
      refine pk_le m i (fun q => by omega) (fun q => xw_unpack hb b2 i16 ((j3 i i16).1.trans (h5 i (by omega)).2) p8 (fun pa1 A1 => xw_link (b := 7) A1 (by omega) (by omega) (fun pa2 A2 => ?_))) hs
      refine xw_emitJ (pw := 0) (z := 0) (w := 0) (P := P) (keys := a_keys) (poly := a_poly) hb b2 i16 rfl (by omega) (by omega) A2 (kn_s3 ok hc ht V) J (fun j => ?_) (fun sp' k' p' J' => nm_r (nI_1 i) (ih (i + 1) sp' pa2 k' p' (by omega) J'))
      rw [ks_Fs hc hk, if_neg (by omega), if_neg (by omega), if_pos ht, if_pos rfl, kq_sh0]
  exact ⟨m + 1, loop m 0 f_spareCount a_partner a_keys a_poly (by omega) (kb_J0 hz)⟩
theorem xw_ren4 {post : SX → Prop} {g : kg_G} (ok : kg_ok g) {r c : Nat} {tot : Nat → Int32} (hc : c < 7) (hk : 7 * r + c < 49) (ht : kg_ty g r c = 4) (I : kb_I g (7 * r + c) tot f_bank f_stateCount f_spareCount a_keys a_poly)
    (h : ∀ (bk sc : Int32) (pa keys' poly' : Nat → Int32), kb_I g (7 * r + c + 1) tot bk sc 0 keys' poly' → post (f_reach, f_width, f_capacity, f_slots, f_hand, f_n, f_phase, bk, sc, 0, a_rowX, a_rowO, a_colX, a_colO, a_nextX, a_nextO, a_rowTo, a_colTo, pa, keys', poly', a_plain, a_normal)) : wpX_renameEnd post (f_reach, f_width, f_capacity, f_slots, f_hand, f_n, f_phase, f_bank, f_stateCount, f_spareCount, a_rowX, a_rowO, a_colX, a_colO, a_nextX, a_nextO, a_rowTo, a_colTo, a_partner, a_keys, a_poly, a_plain, a_normal) (nI c) 7 := by
  obtain ⟨b, m, b2, hb, hs, hz, m1, P, h5, h6, h7⟩ := I
  have m14 := kn_14 (fun i hi => (h5 i hi).1) h6
  have loop : ∀ d i (sp : Int32) (pa keys' poly' : Nat → Int32), i + d = m → kb_J g (7 * r + c) b P a_keys a_poly i sp keys' poly' →
      wX_renameEnd_2 post (nI c) 7 (d + 1) (nI i) f_reach f_width f_capacity f_slots f_hand f_n f_phase f_bank f_stateCount sp a_rowX a_rowO a_colX a_colO a_nextX a_nextO a_rowTo a_colTo pa keys' poly' a_plain a_normal := by
    intro d
    induction d with
    | zero =>
      intro i sp pa keys' poly' hi J
      refine pk_le m i (fun _ => xw_flip hb b2 (h _ _ pa keys' poly' (kb_Je (keys := a_keys) b2 m1 h7 ?_))) (fun q => by omega) hs
      rw [show m = i from by omega]; exact J
    | succ d ih =>
      intro i sp pa keys' poly' hi J
      have i16 : i < 16 := by omega
      have V := (h5 i (by omega)).1
      have p8 : ∀ s, s < 8 → P i s < 8 := fun s hs => kp_V8 V.1 hs
      obtain ⟨m', j1, j2, j3, j4⟩ := id J
      refine pk_le m i (fun q => by omega) (fun q => xw_unpack hb b2 i16 ((j3 i i16).1.trans (h5 i (by omega)).2) p8 (fun pa1 A1 => ⟨pk_in c 8 (by omega), ?_⟩)) hs
      rw [pk_cl c, A1 c (by omega)]
      refine xw_link (a := 7) A1 (by omega) (p8 c (by omega)) (fun pa2 A2 => ⟨pk_in c 8 (by omega), nm_e ?_⟩)
      refine xw_emitJ (pw := 0) (z := 0) (w := 0) (P := P) (keys := a_keys) (poly := a_poly) hb b2 i16 rfl (by omega) (by omega) (kb_Au A2 c c) (kn_s4 ok hc ht V) J (fun j => ?_) (fun sp' k' p' J' => nm_r (nI_1 i) (ih (i + 1) sp' _ k' p' (by omega) J'))
      rw [ks_Fs hc hk, if_neg (by omega), if_neg (by omega), if_neg (by omega), if_pos ht, if_pos rfl, kq_sh0]
      rfl
  exact ⟨m + 1, loop m 0 f_spareCount a_partner a_keys a_poly (by omega) (kb_J0 hz)⟩
theorem xw_ren5 {post : SX → Prop} {g : kg_G} (ok : kg_ok g) {r c : Nat} {tot : Nat → Int32} (hc : c < 7) (hk : 7 * r + c < 49) (ht : kg_ty g r c = 5) (I : kb_I g (7 * r + c) tot f_bank f_stateCount f_spareCount a_keys a_poly)
    (h : ∀ (bk sc : Int32) (pa keys' poly' : Nat → Int32), kb_I g (7 * r + c + 1) tot bk sc 0 keys' poly' → post (f_reach, f_width, f_capacity, f_slots, f_hand, f_n, f_phase, bk, sc, 0, a_rowX, a_rowO, a_colX, a_colO, a_nextX, a_nextO, a_rowTo, a_colTo, pa, keys', poly', a_plain, a_normal)) : wpX_renameEnd post (f_reach, f_width, f_capacity, f_slots, f_hand, f_n, f_phase, f_bank, f_stateCount, f_spareCount, a_rowX, a_rowO, a_colX, a_colO, a_nextX, a_nextO, a_rowTo, a_colTo, a_partner, a_keys, a_poly, a_plain, a_normal) 7 (nI c) := by
  obtain ⟨b, m, b2, hb, hs, hz, m1, P, h5, h6, h7⟩ := I
  have m14 := kn_14 (fun i hi => (h5 i hi).1) h6
  have loop : ∀ d i (sp : Int32) (pa keys' poly' : Nat → Int32), i + d = m → kb_J g (7 * r + c) b P a_keys a_poly i sp keys' poly' →
      wX_renameEnd_2 post (nI 7) (nI c) (d + 1) (nI i) f_reach f_width f_capacity f_slots f_hand f_n f_phase f_bank f_stateCount sp a_rowX a_rowO a_colX a_colO a_nextX a_nextO a_rowTo a_colTo pa keys' poly' a_plain a_normal := by
    intro d
    induction d with
    | zero =>
      intro i sp pa keys' poly' hi J
      refine pk_le m i (fun _ => xw_flip hb b2 (h _ _ pa keys' poly' (kb_Je (keys := a_keys) b2 m1 h7 ?_))) (fun q => by omega) hs
      rw [show m = i from by omega]; exact J
    | succ d ih =>
      intro i sp pa keys' poly' hi J
      have i16 : i < 16 := by omega
      have V := (h5 i (by omega)).1
      have p8 : ∀ s, s < 8 → P i s < 8 := fun s hs => kp_V8 V.1 hs
      obtain ⟨m', j1, j2, j3, j4⟩ := id J
      refine pk_le m i (fun q => by omega) (fun q => xw_unpack hb b2 i16 ((j3 i i16).1.trans (h5 i (by omega)).2) p8 (fun pa1 A1 => ⟨pk_in 7 8 (by omega), ?_⟩)) hs
      rw [pk_cl 7, A1 7 (by omega)]
      refine xw_link (a := c) A1 (by omega) (p8 7 (by omega)) (fun pa2 A2 => ⟨pk_in 7 8 (by omega), nm_e ?_⟩)
      refine xw_emitJ (pw := 0) (z := 0) (w := 0) (P := P) (keys := a_keys) (poly := a_poly) hb b2 i16 rfl (by omega) (by omega) (kb_Au A2 7 7) (kn_s5 ok hc ht V) J (fun j => ?_) (fun sp' k' p' J' => nm_r (nI_1 i) (ih (i + 1) sp' _ k' p' (by omega) J'))
      rw [ks_Fs hc hk, if_neg (by omega), if_neg (by omega), if_neg (by omega), if_neg (by omega), if_pos ht, if_pos rfl, kq_sh0]
      rfl
  exact ⟨m + 1, loop m 0 f_spareCount a_partner a_keys a_poly (by omega) (kb_J0 hz)⟩
theorem xw_close {post : SX → Prop} {g : kg_G} (ok : kg_ok g) {r c : Nat} {tot : Nat → Int32} {ct : Int32} (hc : c < 7) (hk : 7 * r + c < 49) (ht : kg_ty g r c = 2) (hct : ct = 0 ↔ ¬ r + 1 < kg_n g) (I : kb_I g (7 * r + c) tot f_bank f_stateCount f_spareCount a_keys a_poly)
    (h : ∀ (bk sc : Int32) (pa keys' poly' : Nat → Int32), kb_I g (7 * r + c + 1) tot bk sc 0 keys' poly' → post (f_reach, f_width, f_capacity, f_slots, f_hand, f_n, f_phase, bk, sc, 0, a_rowX, a_rowO, a_colX, a_colO, a_nextX, a_nextO, a_rowTo, a_colTo, pa, keys', poly', a_plain, a_normal)) : wpX_closeArc post (f_reach, f_width, f_capacity, f_slots, f_hand, f_n, f_phase, f_bank, f_stateCount, f_spareCount, a_rowX, a_rowO, a_colX, a_colO, a_nextX, a_nextO, a_rowTo, a_colTo, a_partner, a_keys, a_poly, a_plain, a_normal) (nI c) ct := by
  obtain ⟨b, m, b2, hb, hs, hz, m1, P, h5, h6, h7⟩ := I
  have m14 := kn_14 (fun i hi => (h5 i hi).1) h6
  have loop : ∀ d i (sp : Int32) (pa keys' poly' : Nat → Int32), i + d = m → kb_J g (7 * r + c) b P a_keys a_poly i sp keys' poly' →
      wX_closeArc_2 post (nI c) ct (d + 1) (nI i) f_reach f_width f_capacity f_slots f_hand f_n f_phase f_bank f_stateCount sp a_rowX a_rowO a_colX a_colO a_nextX a_nextO a_rowTo a_colTo pa keys' poly' a_plain a_normal := by
    intro d
    induction d with
    | zero =>
      intro i sp pa keys' poly' hi J
      refine pk_le m i (fun _ => xw_flip hb b2 (h _ _ pa keys' poly' (kb_Je (keys := a_keys) b2 m1 h7 ?_))) (fun q => by omega) hs
      rw [show m = i from by omega]; exact J
    | succ d ih =>
      intro i sp pa keys' poly' hi J
      have i16 : i < 16 := by omega
      have V := (h5 i (by omega)).1
      have p8 : ∀ s, s < 8 → P i s < 8 := fun s hs => kp_V8 V.1 hs
      obtain ⟨m', j1, j2, j3, j4⟩ := id J
      refine pk_le m i (fun q => by omega) (fun q => xw_unpack hb b2 i16 ((j3 i i16).1.trans (h5 i (by omega)).2) p8 (fun pa1 A1 => xw_join (b := 7) A1 p8 (by omega) (by omega) (fun pa2 A2 => ?_))) hs
      have fin : ∀ z : Int32, (z = 0 ↔ ¬ (P i c = 7 ∧ r + 1 < kg_n g)) → wpX_emit (fun u => match u with | (f_reach, f_width, f_capacity, f_slots, f_hand, f_n, f_phase, f_bank, f_stateCount, f_spareCount, a_rowX, a_rowO, a_colX, a_colO, a_nextX, a_nextO, a_rowTo, a_colTo, a_partner, a_keys, a_poly, a_plain, a_normal) => ∀ x3 : Int32, x3 = nI i + 1 → wX_closeArc_2 post (nI c) ct (d + 1) x3 f_reach f_width f_capacity f_slots f_hand f_n f_phase f_bank f_stateCount f_spareCount a_rowX a_rowO a_colX a_colO a_nextX a_nextO a_rowTo a_colTo a_partner a_keys a_poly a_plain a_normal) (f_reach, f_width, f_capacity, f_slots, f_hand, f_n, f_phase, f_bank, f_stateCount, sp, a_rowX, a_rowO, a_colX, a_colO, a_nextX, a_nextO, a_rowTo, a_colTo, pa2, keys', poly', a_plain, a_normal) (nI i) 0 z := by
        intro z hz'
        refine xw_emitJ (pw := 0) (z := z) (w := 0) (P := P) (keys := a_keys) (poly := a_poly) hb b2 i16 rfl (by omega) (by omega) A2 (kn_s2 ok hc ht V) J (fun j => ?_) (fun sp' k' p' J' => nm_r (nI_1 i) (ih (i + 1) sp' _ k' p' (by omega) J'))
        rw [ks_Fs hc hk, if_neg (by omega), if_pos ht]
        by_cases cc : P i c = 7 ∧ r + 1 < kg_n g
        · rw [if_pos cc, if_neg (fun q => hz'.mp q cc)]
        · rw [if_neg cc, if_pos (hz'.mpr cc), kq_sh0]
      by_cases e : P i c = 7
      · rw [if_pos e]
        refine br_f (by decide) (br_c (fun c0 => ?_) (fun c1 => ?_))
        · exact fin 0 ⟨fun _ q => hct.mp c0 q.2, fun _ => rfl⟩
        · exact fin 1 ⟨fun q => absurd q (by decide), fun q => absurd ⟨e, Classical.byContradiction fun z => c1 (hct.mpr z)⟩ q⟩
      · rw [if_neg e]
        exact br_t rfl (fin 0 ⟨fun _ q => e q.1, fun _ => rfl⟩)
  exact ⟨m + 1, loop m 0 f_spareCount a_partner a_keys a_poly (by omega) (kb_J0 hz)⟩
theorem xw_cross {post : SX → Prop} {g : kg_G} (ok : kg_ok g) {r c : Nat} {tot : Nat → Int32} (hc : c < 7) (hk : 7 * r + c < 49) (ht : kg_ty g r c = 1) (I : kb_I g (7 * r + c) tot f_bank f_stateCount f_spareCount a_keys a_poly)
    (h : ∀ (bk sc : Int32) (pa keys' poly' : Nat → Int32), kb_I g (7 * r + c + 1) tot bk sc 0 keys' poly' → post (f_reach, f_width, f_capacity, f_slots, f_hand, f_n, f_phase, bk, sc, 0, a_rowX, a_rowO, a_colX, a_colO, a_nextX, a_nextO, a_rowTo, a_colTo, pa, keys', poly', a_plain, a_normal)) : wpX_cross post (f_reach, f_width, f_capacity, f_slots, f_hand, f_n, f_phase, f_bank, f_stateCount, f_spareCount, a_rowX, a_rowO, a_colX, a_colO, a_nextX, a_nextO, a_rowTo, a_colTo, a_partner, a_keys, a_poly, a_plain, a_normal) (nI c) := by
  obtain ⟨b, m, b2, hb, hs, hz, m1, P, h5, h6, h7⟩ := I
  have m14 := kn_14 (fun i hi => (h5 i hi).1) h6
  have loop : ∀ d i (sp : Int32) (pa keys' poly' : Nat → Int32), i + d = m → kb_J g (7 * r + c) b P a_keys a_poly i sp keys' poly' →
      wX_cross_2 post (nI c) (d + 1) (nI i) f_reach f_width f_capacity f_slots f_hand f_n f_phase f_bank f_stateCount sp a_rowX a_rowO a_colX a_colO a_nextX a_nextO a_rowTo a_colTo pa keys' poly' a_plain a_normal := by
    intro d
    induction d with
    | zero =>
      intro i sp pa keys' poly' hi J
      refine pk_le m i (fun _ => xw_flip hb b2 (h _ _ pa keys' poly' (kb_Je (keys := a_keys) b2 m1 h7 ?_))) (fun q => by omega) hs
      rw [show m = i from by omega]; exact J
    | succ d ih =>
      intro i sp pa keys' poly' hi J
      have i16 : i < 16 := by omega
      have V := (h5 i (by omega)).1
      have p8 : ∀ s, s < 8 → P i s < 8 := fun s hs => kp_V8 V.1 hs
      obtain ⟨m', j1, j2, j3, j4⟩ := J
      refine pk_le m i (fun q => by omega) (fun q => xw_unpack hb b2 i16 ((j3 i i16).1.trans (h5 i (by omega)).2) p8 (fun pa1 A1 => xw_exchange (b := 7) A1 p8 (by omega) (by omega) (fun pa2 A2 => ?_))) hs
      refine xw_emit (pw := 1) (z := 0) (w := 1) hb b2 j1 i16 rfl (by omega) (by omega) A2 (kn_s1 ok hc ht V) (fun p => ks_FL g _ _ p) j4 (fun m2 keys2 poly2 hm2 H2 h2 => ?_)
      refine xw_unpack hb b2 i16 ((h2 i i16).1.trans ((j3 i i16).1.trans (h5 i (by omega)).2)) p8 (fun pa3 A3 => xw_join (b := 7) A3 p8 (by omega) (by omega) (fun pa4 A4 => xw_link (b := 7) A4 (by omega) (by omega) (fun pa5 A5 => ?_)))
      refine xw_emit (pw := -1) (w := -1) hb b2 rfl i16 (by decide) (by omega) (by omega) A5 (kn_s1B ok hc ht V) (fun p => ks_FL g _ _ p) H2 (fun m3 keys3 poly3 hm3 H3 h3 => nm_r (nI_1 i) (ih (i + 1) _ _ _ _ (by omega) ⟨m3, rfl, fun _ => hm3, fun x hx => ?_, ?_⟩))
      · rw [(h3 x hx).1, (h3 x hx).2, (h2 x hx).1, (h2 x hx).2]; exact j3 x hx
      · rw [(h2 i i16).2, (j3 i i16).2, if_pos rfl] at H3
        have e : (fun j => bx_sum (fun i' => ks_F g (49 - (7 * r + c)) (7 * r + c) (P i') (kb_q a_poly (b * 16 + i')) j) i +
              ks_F g (49 - (7 * r + c + 1)) (7 * r + c + 1) (kp_exc (P i) c 7) (kq_sh 1 (kb_q a_poly (b * 16 + i))) j +
              ks_F g (49 - (7 * r + c + 1)) (7 * r + c + 1) (kp_link (kp_join (P i) c 7) c 7) (if (if P i c = 7 then (1 : Int32) else 0) = 0 then kq_sh (-1) (kb_q a_poly (b * 16 + i)) else kq_lp (-1) (kb_q a_poly (b * 16 + i))) j) =
            (fun j => bx_sum (fun i' => ks_F g (49 - (7 * r + c)) (7 * r + c) (P i') (kb_q a_poly (b * 16 + i')) j) (i + 1)) := by
          funext j
          show _ = bx_sum (fun i' => ks_F g (49 - (7 * r + c)) (7 * r + c) (P i') (kb_q a_poly (b * 16 + i')) j) i + ks_F g (49 - (7 * r + c)) (7 * r + c) (P i) (kb_q a_poly (b * 16 + i)) j
          rw [ks_Fs hc hk (P i), if_pos ht]
          by_cases e : P i c = 7
          · rw [if_pos e, if_pos e, if_neg (by decide)]; grind
          · rw [if_neg e, if_neg e, if_pos rfl]; grind
        rw [← e]
        exact H3
  exact ⟨m + 1, loop m 0 f_spareCount a_partner a_keys a_poly (by omega) (kb_J0 hz)⟩
end
end
section
/-! rows, the start, the result: the component's evaluate -/
theorem kg_ty_l {g : kg_G} (ok : kg_ok g) {r : Nat} (hr : r < kg_n g) : kg_ty g r (kg_l g r) = if kg_u g (kg_l g r) = r then 3 else 4 := by
  have a := ok.2.2.1 r hr
  unfold kg_ty
  rw [if_pos ⟨hr, by omega⟩, if_pos rfl]
theorem kg_ty_h {g : kg_G} (ok : kg_ok g) {r : Nat} (hr : r < kg_n g) : kg_ty g r (kg_h g r) = if kg_u g (kg_h g r) = r then 5 else 2 := by
  have a := ok.2.2.1 r hr
  unfold kg_ty
  rw [if_pos ⟨hr, by omega⟩, if_neg (by omega), if_pos rfl]
theorem kg_ty_o {g : kg_G} (ok : kg_ok g) {r c : Nat} (h : r < kg_n g → c < kg_l g r ∨ kg_h g r < c) : kg_ty g r c = 0 := by
  unfold kg_ty
  split
  · next a =>
    have b := h a.1
    have d := ok.2.2.1 r a.1
    rw [if_neg (by omega), if_neg (by omega), if_neg (by omega)]
  · rfl
theorem kg_ty_m {g : kg_G} (ok : kg_ok g) {r c : Nat} (hr : r < kg_n g) (h1 : kg_l g r < c) (h2 : c < kg_h g r) (hn : kg_ty g r c ≠ 1) : kg_ty g r c = 0 := by
  have d := ok.2.2.1 r hr
  unfold kg_ty at hn ⊢
  rw [if_pos ⟨hr, by omega⟩, if_neg (by omega), if_neg (by omega)] at hn ⊢
  split
  · next q => rw [if_pos q] at hn; exact absurd rfl hn
  · rfl
def kx_nm (W : Int32) (plain : Nat → Int32) (k : Nat) : Int32 :=
  if nI k + 3 * W < 0 then 0 else if 129 ≤ nI k + 3 * W then 0 else (if W &&& 1 = 0 then 1 else -1) * plain (nI k + 3 * W).toNatClampNeg
section
variable {f_reach f_width f_capacity f_slots f_hand f_n f_phase f_bank f_stateCount f_spareCount : Int32} {a_rowX a_rowO a_colX a_colO a_nextX a_nextO a_rowTo a_colTo a_partner a_keys a_poly a_plain a_normal : Nat → Int32} {n : Nat} {rx ro cx co : Nat → Nat}
theorem xw_sweepRow {post : SX → Prop} {r : Nat} {tot : Nat → Int32} (G : kx_A n rx ro cx co a_rowX a_rowO a_colX a_colO) (hn : f_n = nI n) (hr : r < n) (I : kb_I (kx_g n rx ro cx co) (7 * r) tot f_bank f_stateCount f_spareCount a_keys a_poly)
    (h : ∀ (bk sc : Int32) (pa keys' poly' : Nat → Int32), kb_I (kx_g n rx ro cx co) (7 * (r + 1)) tot bk sc 0 keys' poly' → post (f_reach, f_width, f_capacity, f_slots, f_hand, f_n, f_phase, bk, sc, 0, a_rowX, a_rowO, a_colX, a_colO, a_nextX, a_nextO, a_rowTo, a_colTo, pa, keys', poly', a_plain, a_normal)) : wpX_sweepRow post (f_reach, f_width, f_capacity, f_slots, f_hand, f_n, f_phase, f_bank, f_stateCount, f_spareCount, a_rowX, a_rowO, a_colX, a_colO, a_nextX, a_nextO, a_rowTo, a_colTo, a_partner, a_keys, a_poly, a_plain, a_normal) (nI r) := by
  have ok := kx_gok G.1
  have n7 := G.1.2.1
  have gr := kx_at G hr
  have lh := ok.2.2.1 r hr
  have eL : kg_l (kx_g n rx ro cx co) r = kx_lo (rx r) (ro r) := rfl
  have eH : kg_h (kx_g n rx ro cx co) r = kx_hi (rx r) (ro r) := rfl
  have eN : kg_n (kx_g n rx ro cx co) = n := rfl
  rw [eL, eH, eN] at lh
  have gl := kx_at G (r := kx_lo (rx r) (ro r)) (by omega)
  have gh := kx_at G (r := kx_hi (rx r) (ro r)) (by omega)
  have tl := kg_ty_l ok (r := r) hr
  have th := kg_ty_h ok (r := r) hr
  rw [eL] at tl
  rw [eH] at th
  have skip : ∀ (bk sc : Int32) (keys' poly' : Nat → Int32), kb_I (kx_g n rx ro cx co) (7 * r + kx_hi (rx r) (ro r) + 1) tot bk sc 0 keys' poly' → kb_I (kx_g n rx ro cx co) (7 * (r + 1)) tot bk sc 0 keys' poly' := by
    intro bk sc keys' poly' I'
    have z := kb_Iskip ok (r := r) (by omega) (6 - kx_hi (rx r) (ro r)) (kx_hi (rx r) (ro r) + 1) (by omega) (fun x h1 h2 => kg_ty_o ok (fun _ => Or.inr (by rw [eH]; omega))) I'
    rw [show 7 * r + (kx_hi (rx r) (ro r) + 1 + (6 - kx_hi (rx r) (ro r))) = 7 * (r + 1) from by omega] at z
    exact z
  have mid : ∀ d c (bk sc sp : Int32) (pa keys' poly' : Nat → Int32), c + d = kx_hi (rx r) (ro r) → kx_lo (rx r) (ro r) < c → kb_I (kx_g n rx ro cx co) (7 * r + c) tot bk sc sp keys' poly' →
      wX_sweepRow_44 post (nI r) (nI (kx_hi (rx r) (ro r))) (d + 1) (nI c) f_reach f_width f_capacity f_slots f_hand f_n f_phase bk sc sp a_rowX a_rowO a_colX a_colO a_nextX a_nextO a_rowTo a_colTo pa keys' poly' a_plain a_normal := by
    intro d
    induction d with
    | zero =>
      intro c bk sc sp pa keys' poly' hc hl I'
      have ec : c = kx_hi (rx r) (ro r) := by omega
      rw [ec] at I'
      refine pk_le (kx_hi (rx r) (ro r)) c (fun _ => xw_first1 (by omega) gh.2.2.2.1 gh.2.2.2.2.1 gh.2.2.2.2.2.2.2.1 gh.2.2.2.2.2.2.2.2.1 ?_) (fun q => by omega)
      have uu : kg_u (kx_g n rx ro cx co) (kx_hi (rx r) (ro r)) = kx_lo (cx (kx_hi (rx r) (ro r))) (co (kx_hi (rx r) (ro r))) := rfl
      rw [uu] at th
      have lb := kx_lh (cx (kx_hi (rx r) (ro r))) (co (kx_hi (rx r) (ro r)))
      refine pk_eq (kx_lo (cx (kx_hi (rx r) (ro r))) (co (kx_hi (rx r) (ro r)))) r (fun e => ?_) (fun e => ?_) rfl rfl (by omega)
      · rw [if_pos e] at th
        exact xw_ren5 ok (by omega) (by omega) th I' (fun bk' sc' pa' k' p' I2 => h bk' sc' pa' k' p' (skip bk' sc' k' p' I2))
      · rw [if_neg e] at th
        have e1 : f_n - 1 = nI (n - 1) := by rw [hn, show (1 : Int32) = nI 1 from rfl, pk_sub (by omega)]
        refine pk_le (n - 1) r (fun q => ?_) (fun q => ?_) e1
        · exact xw_close ok (by omega) (by omega) th ⟨fun _ => by rw [eN]; omega, fun _ => rfl⟩ I' (fun bk' sc' pa' k' p' I2 => h bk' sc' pa' k' p' (skip bk' sc' k' p' I2))
        · exact xw_close ok (by omega) (by omega) th ⟨fun z => absurd z (by decide), fun z => absurd (by rw [eN]; omega) z⟩ I' (fun bk' sc' pa' k' p' I2 => h bk' sc' pa' k' p' (skip bk' sc' k' p' I2))
    | succ d ih =>
      intro c bk sc sp pa keys' poly' hc hl I'
      refine pk_le (kx_hi (rx r) (ro r)) c (fun q => by omega) (fun q => xw_sign G hr (by omega) (br_c (fun z => ?_) (fun z => ?_)))
      · rw [kx_sgz, kx_crt G.1 hr (by omega)] at z
        exact nm_r (nI_1 c) (ih (c + 1) bk sc sp pa keys' poly' (by omega) (by omega) (kb_I0 ok (by omega) (by omega) (kg_ty_m ok hr hl (by rw [eH]; omega) z) I'))
      · rw [kx_sgz, kx_crt G.1 hr (by omega), Classical.not_not] at z
        exact xw_cross ok (by omega) (by omega) z I' (fun bk' sc' pa' k' p' I2 => nm_r (nI_1 c) (ih (c + 1) bk' sc' 0 pa' k' p' (by omega) (by omega) I2))
  have I1 : kb_I (kx_g n rx ro cx co) (7 * r + kx_lo (rx r) (ro r)) tot f_bank f_stateCount f_spareCount a_keys a_poly := by
    have z := kb_Iskip ok (r := r) (by omega) (kx_lo (rx r) (ro r)) 0 (by omega) (fun x h1 h2 => kg_ty_o ok (fun _ => Or.inl (by rw [eL]; omega))) I
    rw [Nat.zero_add] at z
    exact z
  refine xw_first0 (by omega) gr.2.1 gr.2.2.1 gr.2.2.2.2.2.1 gr.2.2.2.2.2.2.1 (xw_last0 (by omega) gr.2.1 gr.2.2.1 gr.2.2.2.2.2.1 gr.2.2.2.2.2.2.1 (xw_first1 (by omega) gl.2.2.2.1 gl.2.2.2.2.1 gl.2.2.2.2.2.2.2.1 gl.2.2.2.2.2.2.2.2.1 ?_))
  have uu : kg_u (kx_g n rx ro cx co) (kx_lo (rx r) (ro r)) = kx_lo (cx (kx_lo (rx r) (ro r))) (co (kx_lo (rx r) (ro r))) := rfl
  rw [uu] at tl
  have lb := kx_lh (cx (kx_lo (rx r) (ro r))) (co (kx_lo (rx r) (ro r)))
  refine pk_eq (kx_lo (cx (kx_lo (rx r) (ro r))) (co (kx_lo (rx r) (ro r)))) r (fun e => ?_) (fun e => ?_) rfl rfl (by omega)
  · rw [if_pos e] at tl
    exact xw_openArc ok (by omega) (by omega) tl I1 (fun bk' sc' pa' k' p' I2 => nm_r (nI_1 _) ⟨_, mid (kx_hi (rx r) (ro r) - (kx_lo (rx r) (ro r) + 1)) (kx_lo (rx r) (ro r) + 1) bk' sc' 0 pa' k' p' (by omega) (by omega) I2⟩)
  · rw [if_neg e] at tl
    exact xw_ren4 ok (by omega) (by omega) tl I1 (fun bk' sc' pa' k' p' I2 => nm_r (nI_1 _) ⟨_, mid (kx_hi (rx r) (ro r) - (kx_lo (rx r) (ro r) + 1)) (kx_lo (rx r) (ro r) + 1) bk' sc' 0 pa' k' p' (by omega) (by omega) I2⟩)
theorem xw_start {post : SX → Prop} {g : kg_G} (h : ∀ (bk sc : Int32) (pa keys' poly' : Nat → Int32), kb_I g 0 (ks_F g 49 0 (fun j => j) (kl_W kl_1)) bk sc 0 keys' poly' → post (f_reach, f_width, f_capacity, f_slots, f_hand, f_n, f_phase, bk, sc, 0, a_rowX, a_rowO, a_colX, a_colO, a_nextX, a_nextO, a_rowTo, a_colTo, pa, keys', poly', a_plain, a_normal)) : wpX_startSweep post (f_reach, f_width, f_capacity, f_slots, f_hand, f_n, f_phase, f_bank, f_stateCount, f_spareCount, a_rowX, a_rowO, a_colX, a_colO, a_nextX, a_nextO, a_rowTo, a_colTo, a_partner, a_keys, a_poly, a_plain, a_normal) := by
  have loop : ∀ d s (pa : Nat → Int32), s + d = 8 → (∀ j, j < s → pa j = nI j) → wX_startSweep_2 post f_reach f_width f_capacity f_slots f_hand f_n f_phase f_bank f_stateCount f_spareCount (d + 1) (nI s) a_rowX a_rowO a_colX a_colO a_nextX a_nextO a_rowTo a_colTo pa a_keys a_poly a_plain a_normal := by
    intro d
    induction d with
    | zero =>
      intro s pa hs hpa
      have hA : kb_A pa (fun j => j) := fun j hj => hpa j (by omega)
      refine pk_le 8 s (fun _ => xw_pack hA (fun s hs => hs) (xw_find (b := 1) (m := 0) rfl (by omega) rfl (by omega) (fun i hi _ => by omega) (fun _ => ⟨by omega, fun pp ho hi => xw_flip (b := 1) rfl (by omega) (xw_base (b := 0) (i := 0) ?_)⟩))) (fun q => by omega)
      have e64 : nI ((0 * 16 + 0) * 129) + 64 = nI 64 := rfl
      rw [e64]
      refine ⟨pk_in 64 4128 (by omega), nm_e ?_⟩
      rw [pk_cl 64]
      refine h _ _ pa _ _ ⟨0, 1, by omega, rfl, rfl, rfl, by omega, fun _ => fun j => j, fun i hi => ⟨kn_V00, ?_⟩, fun i j hij hj => by omega, fun j => ?_⟩
      · rw [show i = 0 from by omega]
        exact pk_us
      · show (0 : Int32) + ks_F g 49 0 (fun j => j) (kb_q (upd pp 64 1) (0 * 16 + 0)) j = _
        have e : kb_q (upd pp 64 1) (0 * 16 + 0) = kl_W kl_1 := by
          funext x
          unfold kb_q kl_W kl_1
          by_cases hx : x < 129
          · rw [if_pos hx, if_pos hx]
            have y := hi x hx
            have e2 : (0 * 16 + 0) * 129 + x = x := by omega
            have e3 : ((1 - 1) * 16 + 0) * 129 + x = x := by omega
            rw [e3] at y
            rw [e2]
            by_cases x6 : x = 64
            · rw [x6, pk_us, if_pos (by omega)]
            · rw [pk_un x6, y, if_neg (by omega)]
          · rw [if_neg hx, if_neg hx]
        rw [e]
        exact Int32.zero_add _
    | succ d ih =>
      intro s pa hs hpa
      refine pk_le 8 s (fun q => by omega) (fun q => ⟨pk_in s 8 (by omega), nm_e (nm_r (nI_1 s) (ih (s + 1) _ (by omega) (fun j hj => ?_)))⟩)
      rw [pk_cl s]
      by_cases e : j = s
      · rw [e, pk_us]
      · rw [pk_un e]; exact hpa j (by omega)
  exact ⟨9, loop 8 0 a_partner rfl (fun j hj => by omega)⟩
theorem xw_store {post : SX → Prop} {b : Nat} (G : kx_A n rx ro cx co a_rowX a_rowO a_colX a_colO) (hn : f_n = nI n) (hp : ¬ f_phase = 0) (hb : f_bank = nI b) (b2 : b < 2)
    (h : ∀ plain normal : Nat → Int32, (∀ j, j < 129 → plain j = kb_q a_poly (b * 16 + 0) j) → (∀ k, k < 129 → normal k = kx_nm (bx_sum (kx_w n rx ro cx co) 49) plain k) → post (f_reach, f_width, f_capacity, f_slots, f_hand, f_n, f_phase, f_bank, f_stateCount, f_spareCount, a_rowX, a_rowO, a_colX, a_colO, a_nextX, a_nextO, a_rowTo, a_colTo, a_partner, a_keys, a_poly, plain, normal)) : wpX_storeResult post (f_reach, f_width, f_capacity, f_slots, f_hand, f_n, f_phase, f_bank, f_stateCount, f_spareCount, a_rowX, a_rowO, a_colX, a_colO, a_nextX, a_nextO, a_rowTo, a_colTo, a_partner, a_keys, a_poly, a_plain, a_normal) := by
  have norm : ∀ (plain : Nat → Int32) (fc : Int32), (∀ j, j < 129 → plain j = kb_q a_poly (b * 16 + 0) j) → fc = (if bx_sum (kx_w n rx ro cx co) 49 &&& 1 = 0 then 1 else -1) →
      ∀ d k (normal : Nat → Int32), k + d = 129 → (∀ j, j < k → normal j = kx_nm (bx_sum (kx_w n rx ro cx co) 49) plain j) → wX_storeResult_59 post (bx_sum (kx_w n rx ro cx co) 49) fc f_reach f_width f_capacity f_slots f_hand f_n f_phase f_bank f_stateCount f_spareCount (d + 1) (nI k) a_rowX a_rowO a_colX a_colO a_nextX a_nextO a_rowTo a_colTo a_partner a_keys a_poly plain normal := by
    intro plain fc hpl hfc d
    induction d with
    | zero =>
      intro k normal hk hz
      exact pk_le 129 k (fun _ => h plain normal hpl (fun j hj => hz j (by omega))) (fun q => by omega)
    | succ d ih =>
      intro k normal hk hz
      have step : ∀ v : Int32, v = kx_nm (bx_sum (kx_w n rx ro cx co) 49) plain k → ∀ j, j < k + 1 → upd normal (nI k).toNatClampNeg v j = kx_nm (bx_sum (kx_w n rx ro cx co) 49) plain j := by
        intro v hv j hj
        rw [pk_cl k]
        by_cases e : j = k
        · rw [e, pk_us]; exact hv
        · rw [pk_un e]; exact hz j (by omega)
      refine pk_le 129 k (fun q => by omega) (fun q => nm_e (br_c (fun c0 => ⟨pk_in k 129 (by omega), nm_e (nm_r (nI_1 k) (ih (k + 1) _ (by omega) (step 0 ?_)))⟩) (fun c0 => br_c (fun c1 => ⟨pk_in k 129 (by omega), nm_e (nm_r (nI_1 k) (ih (k + 1) _ (by omega) (step 0 ?_)))⟩) (fun c1 => ⟨?_, pk_in k 129 (by omega), nm_e (nm_r (nI_1 k) (ih (k + 1) _ (by omega) (step _ ?_)))⟩))))
      · unfold kx_nm; rw [if_pos c0]
      · unfold kx_nm; rw [if_neg c0, if_pos c1]
      · rw [vp_in_iff]
        have a : ¬ (nI k + 3 * bx_sum (kx_w n rx ro cx co) 49).toInt < (0 : Int32).toInt := fun z => c0 (Int32.lt_iff_toInt_lt.mpr z)
        have b : ¬ (129 : Int32).toInt ≤ (nI k + 3 * bx_sum (kx_w n rx ro cx co) 49).toInt := fun z => c1 (Int32.le_iff_toInt_le.mpr z)
        rw [show (0 : Int32).toInt = 0 from by decide] at a
        rw [show (129 : Int32).toInt = 129 from by decide] at b
        omega
      · unfold kx_nm; rw [if_neg c0, if_neg c1, hfc]
  have loop : ∀ d k (plain : Nat → Int32), k + d = 129 → (∀ j, j < k → plain j = kb_q a_poly (b * 16 + 0) j) → wX_storeResult_12 post (nI ((b * 16 + 0) * 129)) f_reach f_width f_capacity f_slots f_hand f_n f_phase f_bank f_stateCount f_spareCount (d + 1) (nI k) a_rowX a_rowO a_colX a_colO a_nextX a_nextO a_rowTo a_colTo a_partner a_keys a_poly plain a_normal := by
    intro d
    induction d with
    | zero =>
      intro k plain hk hz
      have hpl : ∀ j, j < 129 → plain j = kb_q a_poly (b * 16 + 0) j := fun j hj => hz j (by omega)
      refine pk_le 129 k (fun _ => xw_writhe G hn hp (br_c (fun c => ⟨130, norm plain 1 hpl (by rw [if_pos c]) 129 0 a_normal rfl (fun j hj => by omega)⟩) (fun c => ⟨130, norm plain (-1) hpl (by rw [if_neg c]) 129 0 a_normal rfl (fun j hj => by omega)⟩))) (fun q => by omega)
    | succ d ih =>
      intro k plain hk hz
      refine pk_le 129 k (fun q => by omega) (fun q => ?_)
      rw [kb_i1]
      refine ⟨pk_in ((b * 16 + 0) * 129 + k) 4128 (by omega), pk_in k 129 (by omega), nm_e (nm_r (nI_1 k) (ih (k + 1) _ (by omega) (fun j hj => ?_)))⟩
      rw [pk_cl k, pk_cl ((b * 16 + 0) * 129 + k)]
      by_cases e : j = k
      · rw [e, pk_us]; unfold kb_q; rw [if_pos (by omega)]
      · rw [pk_un e]; exact hz j (by omega)
  have fb : ∀ P : Int32 → Prop, P (nI ((b * 16 + 0) * 129)) → wpX_base P (f_reach, f_width, f_capacity, f_slots, f_hand, f_n, f_phase, f_bank, f_stateCount, f_spareCount, a_rowX, a_rowO, a_colX, a_colO, a_nextX, a_nextO, a_rowTo, a_colTo, a_partner, a_keys, a_poly, a_plain, a_normal) f_bank 0 := fun P hP => by
    rw [hb]; exact xw_base (i := 0) hP
  unfold wpX_storeResult
  dsimp only
  refine fb _ ?_
  exact ⟨130, loop 129 0 a_plain rfl (fun j hj => by omega)⟩
theorem ks_F0 {g : kg_G} : ∀ d k, 7 * kg_n g ≤ k → ∀ p q j, ks_F g d k p q j = q j := by
  intro d
  induction d with
  | zero => intro k _ p q j; rfl
  | succ d ih =>
    intro k hk p q j
    have t : kg_ty g (k / 7) (k % 7) = 0 := kg_ty_out (fun z => by omega)
    unfold ks_F
    rw [t, if_neg (by omega), if_neg (by omega), if_neg (by omega), if_neg (by omega), if_neg (by omega)]
    exact ih (k + 1) (by omega) p q j
theorem xw_evaluate {post : Int32 → SX → Prop} (G : kx_A n rx ro cx co a_rowX a_rowO a_colX a_colO) (hn : f_n = nI n) (hp : ¬ f_phase = 0)
    (h1 : 10 < ks_ct (kx_g n rx ro cx co) 1 49 0 → post (-7) (f_reach, f_width, f_capacity, f_slots, f_hand, f_n, f_phase, f_bank, f_stateCount, f_spareCount, a_rowX, a_rowO, a_colX, a_colO, a_nextX, a_nextO, a_rowTo, a_colTo, a_partner, a_keys, a_poly, a_plain, a_normal))
    (h2 : ks_ct (kx_g n rx ro cx co) 1 49 0 ≤ 10 → ∀ (bk sc : Int32) (pa keys' poly' plain normal : Nat → Int32), (∀ j, j < 129 → plain j = ks_F (kx_g n rx ro cx co) 49 0 (fun j => j) (kl_W kl_1) j) →
      (∀ k, k < 129 → normal k = kx_nm (bx_sum (kx_w n rx ro cx co) 49) plain k) → post 1 (f_reach, f_width, f_capacity, f_slots, f_hand, f_n, 2, bk, sc, 0, a_rowX, a_rowO, a_colX, a_colO, a_nextX, a_nextO, a_rowTo, a_colTo, pa, keys', poly', plain, normal)) : wpX_evaluate post (f_reach, f_width, f_capacity, f_slots, f_hand, f_n, f_phase, f_bank, f_stateCount, f_spareCount, a_rowX, a_rowO, a_colX, a_colO, a_nextX, a_nextO, a_rowTo, a_colTo, a_partner, a_keys, a_poly, a_plain, a_normal) := by
  have n7 := G.1.2.1
  have cl := ks_ct_le (kx_g n rx ro cx co) 1 49
  refine br_f hp (xw_count G hn (pk_le (ks_ct (kx_g n rx ro cx co) 1 49 0) 10 (fun le => ?_) h1))
  have rows : ∀ d r (bk sc : Int32) (pa keys' poly' : Nat → Int32), r + d = n → kb_I (kx_g n rx ro cx co) (7 * r) (ks_F (kx_g n rx ro cx co) 49 0 (fun j => j) (kl_W kl_1)) bk sc 0 keys' poly' →
      wX_evaluate_27 post (d + 1) (nI r) f_reach f_width f_capacity f_slots f_hand f_n f_phase bk sc 0 a_rowX a_rowO a_colX a_colO a_nextX a_nextO a_rowTo a_colTo pa keys' poly' a_plain a_normal := by
    intro d
    induction d with
    | zero =>
      intro r bk sc pa keys' poly' hr I
      obtain ⟨b, m, b2, hb, hs, _, m1, P, h5, h6, h7⟩ := I
      refine pk_le n r (fun _ => xw_store G hn hp hb b2 (fun plain normal hpl hno => h2 le bk sc pa keys' poly' plain normal (fun j hj => ?_) hno)) (fun q => by omega) hn
      have er : r = n := by omega
      have eN : kg_n (kx_g n rx ro cx co) = n := rfl
      have mm : m = 1 := by
        refine Classical.byContradiction fun q => h6 0 1 (by omega) (by omega) ?_
        rw [kn_one (fun j => kg_Oend (by rw [eN]; omega) j) (h5 0 (by omega)).1, kn_one (fun j => kg_Oend (by rw [eN]; omega) j) (h5 1 (by omega)).1]
      rw [hpl j hj, ← h7 j, mm]
      show _ = (0 : Int32) + ks_F (kx_g n rx ro cx co) (49 - 7 * r) (7 * r) (P 0) (kb_q poly' (b * 16 + 0)) j
      rw [ks_F0 _ _ (by rw [eN]; omega)]
      exact (Int32.zero_add _).symm
    | succ d ih =>
      intro r bk sc pa keys' poly' hr I
      exact pk_le n r (fun q => by omega) (fun q => xw_sweepRow G hn (by omega) I (fun bk' sc' pa' k' p' I2 => nm_r (nI_1 r) (ih (r + 1) bk' sc' pa' k' p' (by omega) I2))) hn
  exact xw_start (fun bk sc pa keys' poly' I => ⟨n + 1, rows n 0 bk sc pa keys' poly' (by omega) I⟩)
end
end
section
/-! the reference: cells, places, crossings -/
def ky_C (n : Nat) (rx ro : Nat → Nat) (cell : Nat → Int32) : Prop := ∀ r c, r < 7 → c < 7 → cell (r * 7 + c) = if r < n ∧ c < n then (if c = rx r then 1 else if c = ro r then 2 else 0) else 0
theorem ky_ix (l i : Nat) : nI l * 7 + nI i = nI (l * 7 + i) := by rw [show (7 : Int32) = nI 7 from rfl, pk_mul, nI_add]
theorem ky_1 {n : Nat} {rx ro cx co : Nat → Nat} {cell : Nat → Int32} (h : kx_ok n rx ro cx co) (C : ky_C n rx ro cell) {r c : Nat} (hr : r < n) (hc : c < n) : (cell (r * 7 + c) = 1 ↔ c = rx r) ∧ (cell (r * 7 + c) = 2 ↔ c = ro r) := by
  have n7 := h.2.1
  have a := (h.2.2 r hr).2.2.2.2.2.2.2.2
  rw [C r c (by omega) (by omega), if_pos ⟨hr, hc⟩]
  by_cases e : c = rx r
  · rw [if_pos e]
    exact ⟨⟨fun _ => e, fun _ => rfl⟩, ⟨fun q => absurd q (by decide), fun q => absurd (e.symm.trans q) a⟩⟩
  · rw [if_neg e]
    by_cases e2 : c = ro r
    · rw [if_pos e2]
      exact ⟨⟨fun q => absurd q (by decide), fun q => absurd q e⟩, ⟨fun _ => e2, fun _ => rfl⟩⟩
    · rw [if_neg e2]
      exact ⟨⟨fun q => absurd q (by decide), fun q => absurd q e⟩, ⟨fun q => absurd q (by decide), fun q => absurd q e2⟩⟩
theorem ky_0 {n : Nat} {rx ro : Nat → Nat} {cell : Nat → Int32} (C : ky_C n rx ro cell) {r c : Nat} (hr : r < 7) (hc : c < 7) (h : ¬ (r < n ∧ c < n)) : cell (r * 7 + c) = 0 := by
  rw [C r c hr hc, if_neg h]
section
variable {h_n h_phase : Int32} {b_cell b_old b_plain b_term b_next b_spot b_choice b_ends b_seen : Nat → Int32} {n : Nat} {rx ro cx co : Nat → Nat}
theorem yw_pl0 {post : Int32 → Prop} {l j : Nat} {kd : Int32} (hn : h_n = nI n) (n7 : n ≤ 7) (hl : l < 7) (jn : j < n) (hj : b_cell (l * 7 + j) = kd) (hi : ∀ i, i < j → b_cell (l * 7 + i) ≠ kd) (h : post (nI j)) : wpY_place post (h_n, h_phase, b_cell, b_old, b_plain, b_term, b_next, b_spot, b_choice, b_ends, b_seen) 0 (nI l) kd := by
  have loop : ∀ d i, i + d = j → wY_place_3 post 0 (nI l) kd h_n h_phase b_cell b_old b_plain b_term b_next b_spot b_choice b_ends b_seen (d + 1) (nI i) := by
    intro d
    induction d with
    | zero =>
      intro i e
      refine pk_le n i (fun q => by omega) (fun q => br_t rfl ?_) hn
      rw [ky_ix]
      refine ⟨pk_in (l * 7 + i) 49 (by omega), br_t ?_ ?_⟩
      · rw [pk_cl (l * 7 + i), show i = j from by omega]; exact hj
      · rw [show i = j from by omega]; exact h
    | succ d ih =>
      intro i e
      refine pk_le n i (fun q => by omega) (fun q => br_t rfl ?_) hn
      rw [ky_ix]
      refine ⟨pk_in (l * 7 + i) 49 (by omega), br_f ?_ (nm_r (nI_1 i) (ih (i + 1) (by omega)))⟩
      rw [pk_cl (l * 7 + i)]; exact hi i (by omega)
  exact ⟨j + 1, loop j 0 (by omega)⟩
theorem yw_pl0n {post : Int32 → Prop} {l : Nat} {kd : Int32} (hn : h_n = nI n) (n7 : n ≤ 7) (hl : l < 7) (hi : ∀ i, i < n → b_cell (l * 7 + i) ≠ kd) (h : post (-1)) : wpY_place post (h_n, h_phase, b_cell, b_old, b_plain, b_term, b_next, b_spot, b_choice, b_ends, b_seen) 0 (nI l) kd := by
  have loop : ∀ d i, i + d = n → wY_place_3 post 0 (nI l) kd h_n h_phase b_cell b_old b_plain b_term b_next b_spot b_choice b_ends b_seen (d + 1) (nI i) := by
    intro d
    induction d with
    | zero =>
      intro i e
      exact pk_le n i (fun _ => h) (fun q => by omega) hn
    | succ d ih =>
      intro i e
      refine pk_le n i (fun q => by omega) (fun q => br_t rfl ?_) hn
      rw [ky_ix]
      refine ⟨pk_in (l * 7 + i) 49 (by omega), br_f ?_ (nm_r (nI_1 i) (ih (i + 1) (by omega)))⟩
      rw [pk_cl (l * 7 + i)]; exact hi i (by omega)
  exact ⟨n + 1, loop n 0 (by omega)⟩
theorem yw_pl1 {post : Int32 → Prop} {l j : Nat} {kd : Int32} (hn : h_n = nI n) (n7 : n ≤ 7) (hl : l < 7) (jn : j < n) (hj : b_cell (j * 7 + l) = kd) (hi : ∀ i, i < j → b_cell (i * 7 + l) ≠ kd) (h : post (nI j)) : wpY_place post (h_n, h_phase, b_cell, b_old, b_plain, b_term, b_next, b_spot, b_choice, b_ends, b_seen) 1 (nI l) kd := by
  have loop : ∀ d i, i + d = j → wY_place_3 post 1 (nI l) kd h_n h_phase b_cell b_old b_plain b_term b_next b_spot b_choice b_ends b_seen (d + 1) (nI i) := by
    intro d
    induction d with
    | zero =>
      intro i e
      refine pk_le n i (fun q => by omega) (fun q => br_f (by decide) ?_) hn
      rw [ky_ix]
      refine ⟨pk_in (i * 7 + l) 49 (by omega), br_t ?_ ?_⟩
      · rw [pk_cl (i * 7 + l), show i = j from by omega]; exact hj
      · rw [show i = j from by omega]; exact h
    | succ d ih =>
      intro i e
      refine pk_le n i (fun q => by omega) (fun q => br_f (by decide) ?_) hn
      rw [ky_ix]
      refine ⟨pk_in (i * 7 + l) 49 (by omega), br_f ?_ (nm_r (nI_1 i) (ih (i + 1) (by omega)))⟩
      rw [pk_cl (i * 7 + l)]; exact hi i (by omega)
  exact ⟨j + 1, loop j 0 (by omega)⟩
theorem yw_pl1n {post : Int32 → Prop} {l : Nat} {kd : Int32} (hn : h_n = nI n) (n7 : n ≤ 7) (hl : l < 7) (hi : ∀ i, i < n → b_cell (i * 7 + l) ≠ kd) (h : post (-1)) : wpY_place post (h_n, h_phase, b_cell, b_old, b_plain, b_term, b_next, b_spot, b_choice, b_ends, b_seen) 1 (nI l) kd := by
  have loop : ∀ d i, i + d = n → wY_place_3 post 1 (nI l) kd h_n h_phase b_cell b_old b_plain b_term b_next b_spot b_choice b_ends b_seen (d + 1) (nI i) := by
    intro d
    induction d with
    | zero =>
      intro i e
      exact pk_le n i (fun _ => h) (fun q => by omega) hn
    | succ d ih =>
      intro i e
      refine pk_le n i (fun q => by omega) (fun q => br_f (by decide) ?_) hn
      rw [ky_ix]
      refine ⟨pk_in (i * 7 + l) 49 (by omega), br_f ?_ (nm_r (nI_1 i) (ih (i + 1) (by omega)))⟩
      rw [pk_cl (i * 7 + l)]; exact hi i (by omega)
  exact ⟨n + 1, loop n 0 (by omega)⟩
theorem yw_rX {post : Int32 → Prop} {r : Nat} (hn : h_n = nI n) (G : kx_ok n rx ro cx co) (C : ky_C n rx ro b_cell) (hr : r < n) (h : post (nI (rx r))) : wpY_place post (h_n, h_phase, b_cell, b_old, b_plain, b_term, b_next, b_spot, b_choice, b_ends, b_seen) 0 (nI r) 1 := by
  have n7 := G.2.1
  have a := G.2.2 r hr
  exact yw_pl0 hn n7 (by omega) a.1 ((ky_1 G C hr a.1).1.mpr rfl) (fun i hi q => by have z := (ky_1 G C hr (by omega)).1.mp q; omega) h
theorem yw_rO {post : Int32 → Prop} {r : Nat} (hn : h_n = nI n) (G : kx_ok n rx ro cx co) (C : ky_C n rx ro b_cell) (hr : r < n) (h : post (nI (ro r))) : wpY_place post (h_n, h_phase, b_cell, b_old, b_plain, b_term, b_next, b_spot, b_choice, b_ends, b_seen) 0 (nI r) 2 := by
  have n7 := G.2.1
  have a := G.2.2 r hr
  exact yw_pl0 hn n7 (by omega) a.2.1 ((ky_1 G C hr a.2.1).2.mpr rfl) (fun i hi q => by have z := (ky_1 G C hr (by omega)).2.mp q; omega) h
theorem yw_cX {post : Int32 → Prop} {c : Nat} (hn : h_n = nI n) (G : kx_ok n rx ro cx co) (C : ky_C n rx ro b_cell) (hc : c < n) (h : post (nI (cx c))) : wpY_place post (h_n, h_phase, b_cell, b_old, b_plain, b_term, b_next, b_spot, b_choice, b_ends, b_seen) 1 (nI c) 1 := by
  have n7 := G.2.1
  have a := G.2.2 c hc
  refine yw_pl1 hn n7 (by omega) a.2.2.1 ((ky_1 G C a.2.2.1 hc).1.mpr a.2.2.2.2.2.1.symm) (fun i hi q => ?_) h
  have z := (kx_mark G (by omega : i < n) hc).1.mp ((ky_1 G C (by omega) hc).1.mp q)
  omega
theorem yw_cO {post : Int32 → Prop} {c : Nat} (hn : h_n = nI n) (G : kx_ok n rx ro cx co) (C : ky_C n rx ro b_cell) (hc : c < n) (h : post (nI (co c))) : wpY_place post (h_n, h_phase, b_cell, b_old, b_plain, b_term, b_next, b_spot, b_choice, b_ends, b_seen) 1 (nI c) 2 := by
  have n7 := G.2.1
  have a := G.2.2 c hc
  refine yw_pl1 hn n7 (by omega) a.2.2.2.1 ((ky_1 G C a.2.2.2.1 hc).2.mpr a.2.2.2.2.2.2.2.1.symm) (fun i hi q => ?_) h
  have z := (kx_mark G (by omega : i < n) hc).2.mp ((ky_1 G C (by omega) hc).2.mp q)
  omega
/-- a line outside the grid holds nothing -/
theorem yw_out0 {post : Int32 → Prop} {l : Nat} {kd : Int32} (hn : h_n = nI n) (n7 : n ≤ 7) (C : ky_C n rx ro b_cell) (hl : l < 7) (ln : n ≤ l) (hk : (0 : Int32) ≠ kd) (h : post (-1)) : wpY_place post (h_n, h_phase, b_cell, b_old, b_plain, b_term, b_next, b_spot, b_choice, b_ends, b_seen) 0 (nI l) kd :=
  yw_pl0n hn n7 hl (fun i hi => by rw [ky_0 C hl (by omega) (by omega)]; exact hk) h
theorem yw_out1 {post : Int32 → Prop} {l : Nat} {kd : Int32} (hn : h_n = nI n) (n7 : n ≤ 7) (C : ky_C n rx ro b_cell) (hl : l < 7) (ln : n ≤ l) (hk : (0 : Int32) ≠ kd) (h : post (-1)) : wpY_place post (h_n, h_phase, b_cell, b_old, b_plain, b_term, b_next, b_spot, b_choice, b_ends, b_seen) 1 (nI l) kd :=
  yw_pl1n hn n7 hl (fun i hi => by rw [ky_0 C (by omega) hl (by omega)]; exact hk) h
theorem yw_126 {post : Int32 → Prop} {r c a b : Nat} (G : kx_ok n rx ro cx co) (hr : r < n) (hc : c < n) (ha : a < 2) (hb : b < 2) (e : (a = 1 ∧ b = 1) ↔ kx_cr rx ro cx co r c) (h : post (kx_sg rx ro cx co r c)) :
    wY_crossing_126 post (nI (rx r)) (nI (ro r)) (nI (cx c)) (nI (co c)) (nI a) (nI b) h_n h_phase b_cell b_old b_plain b_term b_next b_spot b_choice b_ends b_seen := by
  have n7 := G.2.1
  have gr := G.2.2 r hr
  have gc := G.2.2 c hc
  refine pk_eq a 0 (fun q => ?_) (fun q => pk_eq b 0 (fun q' => ?_) (fun q' => ?_))
  · rw [kx_sg0 (fun z => by have y := e.mpr z; omega)] at h; exact h
  · rw [kx_sg0 (fun z => by have y := e.mpr z; omega)] at h; exact h
  · have K := e.mp ⟨by omega, by omega⟩
    refine pk_le (ro r) (rx r) (fun q1 => pk_le (cx c) (co c) (fun q2 => ?_) (fun q2 => ?_)) (fun q1 => pk_le (cx c) (co c) (fun q2 => ?_) (fun q2 => ?_))
    · rw [kx_sgp K (by omega)] at h; exact br_t rfl h
    · rw [kx_sgm K (by omega)] at h; exact br_f (by decide) h
    · rw [kx_sgm K (by omega)] at h; exact br_f (by decide) h
    · rw [kx_sgp K (by omega)] at h; exact br_t rfl h
theorem yw_95 {post : Int32 → Prop} {r c a : Nat} (G : kx_ok n rx ro cx co) (hr : r < n) (hc : c < n) (ha : a < 2) (e : (a = 1 ∧ kx_lo (cx c) (co c) < r ∧ r < kx_hi (cx c) (co c)) ↔ kx_cr rx ro cx co r c) (h : post (kx_sg rx ro cx co r c)) :
    wY_crossing_95 post (nI r) (nI (rx r)) (nI (ro r)) (nI (cx c)) (nI (co c)) (nI a) h_n h_phase b_cell b_old b_plain b_term b_next b_spot b_choice b_ends b_seen := by
  have n7 := G.2.1
  have gr := G.2.2 r hr
  have gc := G.2.2 c hc
  have lh := kx_lh (cx c) (co c)
  have f0 : ¬ (kx_lo (cx c) (co c) < r ∧ r < kx_hi (cx c) (co c)) → wY_crossing_125 post (nI (rx r)) (nI (ro r)) (nI (cx c)) (nI (co c)) (nI a) h_n h_phase b_cell b_old b_plain b_term b_next b_spot b_choice b_ends b_seen := fun q => yw_126 (b := 0) G hr hc ha (by omega) (by rw [← e]; omega) h
  have f1 : (kx_lo (cx c) (co c) < r ∧ r < kx_hi (cx c) (co c)) → wY_crossing_121 post (nI (rx r)) (nI (ro r)) (nI (cx c)) (nI (co c)) (nI a) h_n h_phase b_cell b_old b_plain b_term b_next b_spot b_choice b_ends b_seen := fun q => yw_126 (b := 1) G hr hc ha (by omega) (by rw [← e]; omega) h
  have f109 : ¬ (cx c < r ∧ r < co c) → wY_crossing_109 post (nI r) (nI (rx r)) (nI (ro r)) (nI (cx c)) (nI (co c)) (nI a) h_n h_phase b_cell b_old b_plain b_term b_next b_spot b_choice b_ends b_seen := fun q =>
    pk_le r (co c) (fun q1 => f0 (by omega)) (fun q1 => pk_le (cx c) r (fun q2 => f0 (by omega)) (fun q2 => f1 (by omega)))
  exact pk_le r (cx c) (fun q1 => f109 (by omega)) (fun q1 => pk_lt r (co c) (fun q2 => f1 (by omega)) (fun q2 => f109 (by omega)))
theorem yw_cross {post : Int32 → Prop} {r c : Nat} (hn : h_n = nI n) (hp : ¬ h_phase = 0) (G : kx_ok n rx ro cx co) (C : ky_C n rx ro b_cell) (hr : r < n) (hc : c < n) (h : post (kx_sg rx ro cx co r c)) : wpY_crossing post (h_n, h_phase, b_cell, b_old, b_plain, b_term, b_next, b_spot, b_choice, b_ends, b_seen) (nI r) (nI c) := by
  have n7 := G.2.1
  have gr := G.2.2 r hr
  have gc := G.2.2 c hc
  have lh := kx_lh (rx r) (ro r)
  have f0 : ¬ (kx_lo (rx r) (ro r) < c ∧ c < kx_hi (rx r) (ro r)) → wY_crossing_94 post (nI r) (nI (rx r)) (nI (ro r)) (nI (cx c)) (nI (co c)) h_n h_phase b_cell b_old b_plain b_term b_next b_spot b_choice b_ends b_seen := fun q => yw_95 (a := 0) G hr hc (by omega) (by unfold kx_cr; omega) h
  have f1 : (kx_lo (rx r) (ro r) < c ∧ c < kx_hi (rx r) (ro r)) → wY_crossing_90 post (nI r) (nI (rx r)) (nI (ro r)) (nI (cx c)) (nI (co c)) h_n h_phase b_cell b_old b_plain b_term b_next b_spot b_choice b_ends b_seen := fun q => yw_95 (a := 1) G hr hc (by omega) (by unfold kx_cr; omega) h
  have f79 : ¬ (rx r < c ∧ c < ro r) → wY_crossing_79 post (nI r) (nI c) (nI (rx r)) (nI (ro r)) (nI (cx c)) (nI (co c)) h_n h_phase b_cell b_old b_plain b_term b_next b_spot b_choice b_ends b_seen := fun q =>
    pk_le c (ro r) (fun q1 => f0 (by omega)) (fun q1 => pk_le (rx r) c (fun q2 => f0 (by omega)) (fun q2 => f1 (by omega)))
  refine br_f hp (br_f (nI_pos (by omega)) (pk_le n r (fun q => by omega) (fun q => br_f (nI_pos (by omega)) (pk_lt c n (fun q => ?_) (fun q => by omega) rfl hn)) hn))
  refine yw_rX hn G C hr (yw_rO hn G C hr (yw_cX hn G C hc (yw_cO hn G C hc ?_)))
  exact pk_le c (rx r) (fun q1 => f79 (by omega)) (fun q1 => pk_lt c (ro r) (fun q2 => f1 (by omega)) (fun q2 => f79 (by omega)))
theorem yw_cross0 {post : Int32 → Prop} {r c : Nat} (hn : h_n = nI n) (hp : ¬ h_phase = 0) (n7 : n ≤ 7) (hr : r < 7) (hc : c < 7) (ho : ¬ (r < n ∧ c < n)) (h : post 0) : wpY_crossing post (h_n, h_phase, b_cell, b_old, b_plain, b_term, b_next, b_spot, b_choice, b_ends, b_seen) (nI r) (nI c) := by
  refine br_f hp (br_f (nI_pos (by omega)) (pk_le n r (fun q => h) (fun q => br_f (nI_pos (by omega)) (pk_lt c n (fun q => by omega) (fun q => h) rfl hn)) hn))
/-- crossing at the k-th cell -/
theorem yw_crossk {post : Int32 → Prop} {k : Nat} (hn : h_n = nI n) (hp : ¬ h_phase = 0) (G : kx_ok n rx ro cx co) (C : ky_C n rx ro b_cell) (hk : k < 49) (h : post (kx_w n rx ro cx co k)) : wpY_crossing post (h_n, h_phase, b_cell, b_old, b_plain, b_term, b_next, b_spot, b_choice, b_ends, b_seen) (nI k / 7) (nI k - nI k / 7 * 7) := by
  have n7 := G.2.1
  have e1 : nI k / 7 = nI (k / 7) := by rw [show (7 : Int32) = nI 7 from rfl]; exact pk_div (by omega) (by omega) (by omega)
  have e2 : nI k - nI k / 7 * 7 = nI (k % 7) := by rw [show (7 : Int32) = nI 7 from rfl]; exact pk_rem (by omega) (by omega) (by omega)
  rw [e2, e1]
  unfold kx_w at h
  by_cases q : k / 7 < n ∧ k % 7 < n
  · rw [if_pos q] at h
    exact yw_cross hn hp G C q.1 q.2 h
  · rw [if_neg q] at h
    exact yw_cross0 hn hp n7 (by omega) (by omega) q h
theorem yw_writhe {post : Int32 → Prop} (hn : h_n = nI n) (hp : ¬ h_phase = 0) (G : kx_ok n rx ro cx co) (C : ky_C n rx ro b_cell) (h : post (bx_sum (kx_w n rx ro cx co) 49)) : wpY_writhe post (h_n, h_phase, b_cell, b_old, b_plain, b_term, b_next, b_spot, b_choice, b_ends, b_seen) := by
  have loop : ∀ d k, k + d = 49 → wY_writhe_4 post h_n h_phase b_cell b_old b_plain b_term b_next b_spot b_choice b_ends b_seen (d + 1) (bx_sum (kx_w n rx ro cx co) k) (nI k) := by
    intro d
    induction d with
    | zero =>
      intro k hk
      refine pk_le 49 k (fun _ => ?_) (fun q => by omega)
      rw [show k = 49 from by omega]; exact h
    | succ d ih =>
      intro k hk
      exact pk_le 49 k (fun q => by omega) (fun q => ⟨by decide, by decide, yw_crossk hn hp G C (by omega) (nm_e (nm_r (nI_1 k) (ih (k + 1) (by omega))))⟩)
  exact ⟨50, loop 49 0 (by omega)⟩
end
end
section
/-! the reference's drawing of the strands -/
theorem ky_4 (k d : Nat) : 4 * nI k + nI d = nI (4 * k + d) := by rw [show (4 : Int32) = nI 4 from rfl, pk_mul, nI_add]
theorem ky_40 (k : Nat) : 4 * nI k = nI (4 * k) := by rw [show (4 : Int32) = nI 4 from rfl, pk_mul]
section
variable {h_n h_phase : Int32} {b_cell b_old b_plain b_term b_next b_spot b_choice b_ends b_seen : Nat → Int32} {k : Nat} {x2 x3 x4 x5 x6 x7 : Int32} {J : Int32 → (Nat → Int32) → (Nat → Int32) → (Nat → Int32) → (Nat → Int32) → (Nat → Int32) → (Nat → Int32) → (Nat → Int32) → (Nat → Int32) → (Nat → Int32) → Prop} {post : SY → Prop}
theorem yw_d190 (hk : k < 49) (h : ∀ v : Int32, (v ≠ 0 ↔ (¬ x3 ≤ x5 ∧ ¬ x4 < x3)) → J (nI (k + 1)) b_cell b_old b_plain b_term b_next b_spot b_choice (upd b_ends (4 * k + 3) v) b_seen) : wY_drawEnds_190 post J (nI k) x3 x4 x5 (nI (4 * k + 3)) h_n h_phase b_cell b_old b_plain b_term b_next b_spot b_choice b_ends b_seen := by
  refine br_c (fun c => ⟨pk_in (4 * k + 3) 196 (by omega), nm_e (nm_r (nI_1 k) ?_)⟩) (fun c => br_c (fun c2 => ⟨pk_in (4 * k + 3) 196 (by omega), nm_e (nm_r (nI_1 k) ?_)⟩) (fun c2 => ⟨pk_in (4 * k + 3) 196 (by omega), nm_e (nm_r (nI_1 k) ?_)⟩))
  · rw [pk_cl (4 * k + 3)]; exact h _ ⟨fun q => absurd rfl q, fun q => absurd c q.1⟩
  · rw [pk_cl (4 * k + 3)]; exact h _ ⟨fun q => absurd rfl q, fun q => absurd c2 q.2⟩
  · rw [pk_cl (4 * k + 3)]; exact h _ ⟨fun _ => ⟨c, c2⟩, fun _ => by show (1 : Int32) ≠ 0; decide⟩
theorem yw_d168 {z0 : Int32} (hk : k < 49) (h : ∀ v : Int32, (v ≠ 0 ↔ ((¬ x3 ≤ x4 ∧ x3 ≤ x5) ∨ (¬ x3 ≤ x5 ∧ ¬ x4 < x3))) → J (nI (k + 1)) b_cell b_old b_plain b_term b_next b_spot b_choice (upd (upd b_ends (4 * k + 2) (vp_nar .boolean z0)) (4 * k + 3) v) b_seen) :
    wY_drawEnds_168 post J (nI k) x3 x4 x5 z0 (nI (4 * k + 2)) h_n h_phase b_cell b_old b_plain b_term b_next b_spot b_choice b_ends b_seen := by
  refine ⟨pk_in (4 * k + 2) 196 (by omega), nm_e ?_⟩
  rw [pk_cl (4 * k + 2), show (4 * nI k + 3 : Int32) = nI (4 * k + 3) from ky_4 k 3]
  refine br_c (fun c => yw_d190 hk (fun v hv => h v ?_)) (fun c => br_c (fun c2 => ⟨pk_in (4 * k + 3) 196 (by omega), nm_e (nm_r (nI_1 k) ?_)⟩) (fun c2 => yw_d190 hk (fun v hv => h v ?_)))
  · rw [hv]; exact ⟨fun q => Or.inr q, fun q => q.elim (fun z => absurd c z.1) id⟩
  · rw [pk_cl (4 * k + 3)]; exact h _ ⟨fun _ => Or.inl ⟨c, c2⟩, fun _ => by show (1 : Int32) ≠ 0; decide⟩
  · rw [hv]; exact ⟨fun q => Or.inr q, fun q => q.elim (fun z => absurd z.2 c2) id⟩
theorem yw_d129 {z0 : Int32} (hk : k < 49) (h : ∀ v2 v3 : Int32, (v2 ≠ 0 ↔ ((¬ x2 < x6 ∧ x2 < x7) ∨ (¬ x2 < x7 ∧ ¬ x6 ≤ x2))) → (v3 ≠ 0 ↔ ((¬ x3 ≤ x4 ∧ x3 ≤ x5) ∨ (¬ x3 ≤ x5 ∧ ¬ x4 < x3))) →
    J (nI (k + 1)) b_cell b_old b_plain b_term b_next b_spot b_choice (upd (upd (upd b_ends (4 * k + 1) (vp_nar .boolean z0)) (4 * k + 2) v2) (4 * k + 3) v3) b_seen) : wY_drawEnds_129 post J (nI k) x2 x3 x4 x5 x6 x7 z0 (nI (4 * k + 1)) h_n h_phase b_cell b_old b_plain b_term b_next b_spot b_choice b_ends b_seen := by
  refine ⟨pk_in (4 * k + 1) 196 (by omega), nm_e ?_⟩
  rw [pk_cl (4 * k + 1), show (4 * nI k + 2 : Int32) = nI (4 * k + 2) from ky_4 k 2]
  have t : ((¬ x2 < x6 ∧ x2 < x7) ∨ (¬ x2 < x7 ∧ ¬ x6 ≤ x2)) → wY_drawEnds_163 post J (nI k) x3 x4 x5 (nI (4 * k + 2)) h_n h_phase b_cell b_old b_plain b_term b_next b_spot b_choice (upd b_ends (4 * k + 1) (vp_nar .boolean z0)) b_seen :=
    fun c => yw_d168 hk (fun v hv => h _ v ⟨fun _ => c, fun _ => by show (1 : Int32) ≠ 0; decide⟩ hv)
  have f : ¬ ((¬ x2 < x6 ∧ x2 < x7) ∨ (¬ x2 < x7 ∧ ¬ x6 ≤ x2)) → wY_drawEnds_167 post J (nI k) x3 x4 x5 (nI (4 * k + 2)) h_n h_phase b_cell b_old b_plain b_term b_next b_spot b_choice (upd b_ends (4 * k + 1) (vp_nar .boolean z0)) b_seen :=
    fun c => yw_d168 hk (fun v hv => h _ v ⟨fun q => absurd rfl q, fun q => absurd q c⟩ hv)
  have m : ¬ (¬ x2 < x6 ∧ x2 < x7) → wY_drawEnds_151 post J (nI k) x2 x3 x4 x5 x6 x7 (nI (4 * k + 2)) h_n h_phase b_cell b_old b_plain b_term b_next b_spot b_choice (upd b_ends (4 * k + 1) (vp_nar .boolean z0)) b_seen := fun c =>
    br_c (fun c1 => f (fun q => q.elim c (fun z => z.1 c1))) (fun c1 => br_c (fun c2 => f (fun q => q.elim c (fun z => z.2 c2))) (fun c2 => t (Or.inr ⟨c1, c2⟩)))
  exact br_c (fun c1 => m (fun z => z.1 c1)) (fun c1 => br_c (fun c2 => t (Or.inl ⟨c1, c2⟩)) (fun c2 => m (fun z => c2 z.2)))
theorem yw_d90 {z0 : Int32} (hk : k < 49) (h : ∀ v1 v2 v3 : Int32, (v1 ≠ 0 ↔ ((¬ x3 < x4 ∧ x3 < x5) ∨ (¬ x3 < x5 ∧ ¬ x4 ≤ x3))) → (v2 ≠ 0 ↔ ((¬ x2 < x6 ∧ x2 < x7) ∨ (¬ x2 < x7 ∧ ¬ x6 ≤ x2))) → (v3 ≠ 0 ↔ ((¬ x3 ≤ x4 ∧ x3 ≤ x5) ∨ (¬ x3 ≤ x5 ∧ ¬ x4 < x3))) →
    J (nI (k + 1)) b_cell b_old b_plain b_term b_next b_spot b_choice (upd (upd (upd (upd b_ends (4 * k) (vp_nar .boolean z0)) (4 * k + 1) v1) (4 * k + 2) v2) (4 * k + 3) v3) b_seen) : wY_drawEnds_90 post J (nI k) x2 x3 x4 x5 x6 x7 z0 (nI (4 * k)) h_n h_phase b_cell b_old b_plain b_term b_next b_spot b_choice b_ends b_seen := by
  refine ⟨pk_in (4 * k) 196 (by omega), nm_e ?_⟩
  rw [pk_cl (4 * k), show (4 * nI k + 1 : Int32) = nI (4 * k + 1) from ky_4 k 1]
  have t : ((¬ x3 < x4 ∧ x3 < x5) ∨ (¬ x3 < x5 ∧ ¬ x4 ≤ x3)) → wY_drawEnds_124 post J (nI k) x2 x3 x4 x5 x6 x7 (nI (4 * k + 1)) h_n h_phase b_cell b_old b_plain b_term b_next b_spot b_choice (upd b_ends (4 * k) (vp_nar .boolean z0)) b_seen :=
    fun c => yw_d129 hk (fun v2 v3 => h _ v2 v3 ⟨fun _ => c, fun _ => by show (1 : Int32) ≠ 0; decide⟩)
  have f : ¬ ((¬ x3 < x4 ∧ x3 < x5) ∨ (¬ x3 < x5 ∧ ¬ x4 ≤ x3)) → wY_drawEnds_128 post J (nI k) x2 x3 x4 x5 x6 x7 (nI (4 * k + 1)) h_n h_phase b_cell b_old b_plain b_term b_next b_spot b_choice (upd b_ends (4 * k) (vp_nar .boolean z0)) b_seen :=
    fun c => yw_d129 hk (fun v2 v3 => h _ v2 v3 ⟨fun q => absurd rfl q, fun q => absurd q c⟩)
  have m : ¬ (¬ x3 < x4 ∧ x3 < x5) → wY_drawEnds_112 post J (nI k) x2 x3 x4 x5 x6 x7 (nI (4 * k + 1)) h_n h_phase b_cell b_old b_plain b_term b_next b_spot b_choice (upd b_ends (4 * k) (vp_nar .boolean z0)) b_seen := fun c =>
    br_c (fun c1 => f (fun q => q.elim c (fun z => z.1 c1))) (fun c1 => br_c (fun c2 => f (fun q => q.elim c (fun z => z.2 c2))) (fun c2 => t (Or.inr ⟨c1, c2⟩)))
  exact br_c (fun c1 => m (fun z => z.1 c1)) (fun c1 => br_c (fun c2 => t (Or.inl ⟨c1, c2⟩)) (fun c2 => m (fun z => c2 z.2)))
theorem yw_dN (hk : k < 49) (h : ∀ v0 v1 v2 v3 : Int32, (v0 ≠ 0 ↔ ((¬ x2 ≤ x6 ∧ x2 ≤ x7) ∨ (¬ x2 ≤ x7 ∧ ¬ x6 < x2))) → (v1 ≠ 0 ↔ ((¬ x3 < x4 ∧ x3 < x5) ∨ (¬ x3 < x5 ∧ ¬ x4 ≤ x3))) → (v2 ≠ 0 ↔ ((¬ x2 < x6 ∧ x2 < x7) ∨ (¬ x2 < x7 ∧ ¬ x6 ≤ x2))) → (v3 ≠ 0 ↔ ((¬ x3 ≤ x4 ∧ x3 ≤ x5) ∨ (¬ x3 ≤ x5 ∧ ¬ x4 < x3))) →
    J (nI (k + 1)) b_cell b_old b_plain b_term b_next b_spot b_choice (upd (upd (upd (upd b_ends (4 * k) v0) (4 * k + 1) v1) (4 * k + 2) v2) (4 * k + 3) v3) b_seen) :
    (x2 ≤ x6 → wY_drawEnds_73 post J (nI k) x2 x3 x4 x5 x6 x7 (4 * nI k) h_n h_phase b_cell b_old b_plain b_term b_next b_spot b_choice b_ends b_seen) ∧ (¬ x2 ≤ x6 → ((x2 ≤ x7 → wY_drawEnds_85 post J (nI k) x2 x3 x4 x5 x6 x7 (4 * nI k) h_n h_phase b_cell b_old b_plain b_term b_next b_spot b_choice b_ends b_seen) ∧ (¬ x2 ≤ x7 → wY_drawEnds_73 post J (nI k) x2 x3 x4 x5 x6 x7 (4 * nI k) h_n h_phase b_cell b_old b_plain b_term b_next b_spot b_choice b_ends b_seen))) := by
  rw [ky_40]
  have t : ((¬ x2 ≤ x6 ∧ x2 ≤ x7) ∨ (¬ x2 ≤ x7 ∧ ¬ x6 < x2)) → wY_drawEnds_85 post J (nI k) x2 x3 x4 x5 x6 x7 (nI (4 * k)) h_n h_phase b_cell b_old b_plain b_term b_next b_spot b_choice b_ends b_seen :=
    fun c => yw_d90 hk (fun v1 v2 v3 => h _ v1 v2 v3 ⟨fun _ => c, fun _ => by show (1 : Int32) ≠ 0; decide⟩)
  have f : ¬ ((¬ x2 ≤ x6 ∧ x2 ≤ x7) ∨ (¬ x2 ≤ x7 ∧ ¬ x6 < x2)) → wY_drawEnds_89 post J (nI k) x2 x3 x4 x5 x6 x7 (nI (4 * k)) h_n h_phase b_cell b_old b_plain b_term b_next b_spot b_choice b_ends b_seen :=
    fun c => yw_d90 hk (fun v1 v2 v3 => h _ v1 v2 v3 ⟨fun q => absurd rfl q, fun q => absurd q c⟩)
  have m : ¬ (¬ x2 ≤ x6 ∧ x2 ≤ x7) → wY_drawEnds_73 post J (nI k) x2 x3 x4 x5 x6 x7 (nI (4 * k)) h_n h_phase b_cell b_old b_plain b_term b_next b_spot b_choice b_ends b_seen := fun c =>
    br_c (fun c1 => f (fun q => q.elim c (fun z => z.1 c1))) (fun c1 => br_c (fun c2 => f (fun q => q.elim c (fun z => z.2 c2))) (fun c2 => t (Or.inr ⟨c1, c2⟩)))
  exact br_c (fun c1 => m (fun z => z.1 c1)) (fun c1 => br_c (fun c2 => t (Or.inl ⟨c1, c2⟩)) (fun c2 => m (fun z => c2 z.2)))
end
/-- what a place answers, as an integer: -1 outside -/
def ky_v (n l : Nat) (f : Nat → Nat) : Int32 := if l < n then nI (f l) else -1
theorem ky_vi {n l : Nat} {f : Nat → Nat} (hf : l < n → f l < 7) : (ky_v n l f).toInt = if l < n then (f l : Int) else -1 := by
  unfold ky_v
  split
  · next h => exact nI_toInt (by have := hf h; omega)
  · decide
theorem ky_sem {n : Nat} {rx ro cx co : Nat → Nat} (G : kx_ok n rx ro cx co) {r c : Nat} (hr : r < 7) (hc : c < 7) :
    (((¬ nI r ≤ ky_v n c cx ∧ nI r ≤ ky_v n c co) ∨ (¬ nI r ≤ ky_v n c co ∧ ¬ ky_v n c cx < nI r)) ↔ kg_D (kx_g n rx ro cx co) r c 0) ∧
    (((¬ nI c < ky_v n r rx ∧ nI c < ky_v n r ro) ∨ (¬ nI c < ky_v n r ro ∧ ¬ ky_v n r rx ≤ nI c)) ↔ kg_D (kx_g n rx ro cx co) r c 1) ∧
    (((¬ nI r < ky_v n c cx ∧ nI r < ky_v n c co) ∨ (¬ nI r < ky_v n c co ∧ ¬ ky_v n c cx ≤ nI r)) ↔ kg_D (kx_g n rx ro cx co) r c 2) ∧
    (((¬ nI c ≤ ky_v n r rx ∧ nI c ≤ ky_v n r ro) ∨ (¬ nI c ≤ ky_v n r ro ∧ ¬ ky_v n r rx < nI c)) ↔ kg_D (kx_g n rx ro cx co) r c 3) := by
  have n7 := G.2.1
  have b : ∀ l, l < n → rx l < n ∧ ro l < n ∧ cx l < n ∧ co l < n := fun l hl => by have a := G.2.2 l hl; exact ⟨a.1, a.2.1, a.2.2.1, a.2.2.2.1⟩
  have e1 := ky_vi (n := n) (l := r) (f := rx) (fun h => by have := b r h; omega)
  have e2 := ky_vi (n := n) (l := r) (f := ro) (fun h => by have := b r h; omega)
  have e3 := ky_vi (n := n) (l := c) (f := cx) (fun h => by have := b c h; omega)
  have e4 := ky_vi (n := n) (l := c) (f := co) (fun h => by have := b c h; omega)
  have er := nI_toInt (n := r) (by omega)
  have ec := nI_toInt (n := c) (by omega)
  simp only [Int32.le_iff_toInt_le, Int32.lt_iff_toInt_lt, e1, e2, e3, e4, er, ec, kg_D0, kg_D1, kg_D2, kg_D3]
  have l1 := kx_lh (rx r) (ro r)
  have l2 := kx_lh (cx c) (co c)
  have eN : kg_n (kx_g n rx ro cx co) = n := rfl
  have eL : kg_l (kx_g n rx ro cx co) r = kx_lo (rx r) (ro r) := rfl
  have eH : kg_h (kx_g n rx ro cx co) r = kx_hi (rx r) (ro r) := rfl
  have eU : kg_u (kx_g n rx ro cx co) c = kx_lo (cx c) (co c) := rfl
  have eD : kg_d (kx_g n rx ro cx co) c = kx_hi (cx c) (co c) := rfl
  rw [eN, eL, eH, eU, eD]
  by_cases r1 : r < n
  · have br := b r r1
    have nr := (G.2.2 r r1).2.2.2.2.2.2.2.2
    by_cases c1 : c < n
    · have bc := b c c1
      have ne : cx c ≠ co c := fun e => (G.2.2 (cx c) bc.2.2.1).2.2.2.2.2.2.2.2 (by rw [(G.2.2 c c1).2.2.2.2.2.1, e, (G.2.2 c c1).2.2.2.2.2.2.2.1])
      rw [if_pos r1, if_pos c1, if_pos r1, if_pos c1]
      generalize rx r = a1 at *
      generalize ro r = a2 at *
      generalize cx c = a3 at *
      generalize co c = a4 at *
      refine ⟨?_, ?_, ?_, ?_⟩
      · constructor <;> intro q <;> omega
      · constructor <;> intro q <;> omega
      · constructor <;> intro q <;> omega
      · constructor <;> intro q <;> omega
    · rw [if_pos r1, if_neg c1, if_pos r1, if_neg c1]
      refine ⟨?_, ?_, ?_, ?_⟩
      · constructor <;> intro q <;> omega
      · constructor <;> intro q <;> omega
      · constructor <;> intro q <;> omega
      · constructor <;> intro q <;> omega
  · rw [if_neg r1, if_neg r1]
    by_cases c1 : c < n
    · have bc := b c c1
      rw [if_pos c1, if_pos c1]
      refine ⟨?_, ?_, ?_, ?_⟩
      · constructor <;> intro q <;> omega
      · constructor <;> intro q <;> omega
      · constructor <;> intro q <;> omega
      · constructor <;> intro q <;> omega
    · rw [if_neg c1, if_neg c1]
      refine ⟨?_, ?_, ?_, ?_⟩
      · constructor <;> intro q <;> omega
      · constructor <;> intro q <;> omega
      · constructor <;> intro q <;> omega
      · constructor <;> intro q <;> omega
section
variable {h_n h_phase : Int32} {b_cell b_old b_plain b_term b_next b_spot b_choice b_ends b_seen : Nat → Int32} {n : Nat} {rx ro cx co : Nat → Nat}
theorem yw_r1 {post : Int32 → Prop} {l : Nat} (hn : h_n = nI n) (G : kx_ok n rx ro cx co) (C : ky_C n rx ro b_cell) (hl : l < 7) (h : post (ky_v n l rx)) : wpY_place post (h_n, h_phase, b_cell, b_old, b_plain, b_term, b_next, b_spot, b_choice, b_ends, b_seen) 0 (nI l) 1 := by
  by_cases q : l < n
  · rw [ky_v, if_pos q] at h; exact yw_rX hn G C q h
  · rw [ky_v, if_neg q] at h; exact yw_out0 hn G.2.1 C hl (by omega) (by decide) h
theorem yw_r2 {post : Int32 → Prop} {l : Nat} (hn : h_n = nI n) (G : kx_ok n rx ro cx co) (C : ky_C n rx ro b_cell) (hl : l < 7) (h : post (ky_v n l ro)) : wpY_place post (h_n, h_phase, b_cell, b_old, b_plain, b_term, b_next, b_spot, b_choice, b_ends, b_seen) 0 (nI l) 2 := by
  by_cases q : l < n
  · rw [ky_v, if_pos q] at h; exact yw_rO hn G C q h
  · rw [ky_v, if_neg q] at h; exact yw_out0 hn G.2.1 C hl (by omega) (by decide) h
theorem yw_c1 {post : Int32 → Prop} {l : Nat} (hn : h_n = nI n) (G : kx_ok n rx ro cx co) (C : ky_C n rx ro b_cell) (hl : l < 7) (h : post (ky_v n l cx)) : wpY_place post (h_n, h_phase, b_cell, b_old, b_plain, b_term, b_next, b_spot, b_choice, b_ends, b_seen) 1 (nI l) 1 := by
  by_cases q : l < n
  · rw [ky_v, if_pos q] at h; exact yw_cX hn G C q h
  · rw [ky_v, if_neg q] at h; exact yw_out1 hn G.2.1 C hl (by omega) (by decide) h
theorem yw_c2 {post : Int32 → Prop} {l : Nat} (hn : h_n = nI n) (G : kx_ok n rx ro cx co) (C : ky_C n rx ro b_cell) (hl : l < 7) (h : post (ky_v n l co)) : wpY_place post (h_n, h_phase, b_cell, b_old, b_plain, b_term, b_next, b_spot, b_choice, b_ends, b_seen) 1 (nI l) 2 := by
  by_cases q : l < n
  · rw [ky_v, if_pos q] at h; exact yw_cO hn G C q h
  · rw [ky_v, if_neg q] at h; exact yw_out1 hn G.2.1 C hl (by omega) (by decide) h
theorem yw_draw {post : SY → Prop} (hn : h_n = nI n) (G : kx_ok n rx ro cx co) (C : ky_C n rx ro b_cell) (h : ∀ en : Nat → Int32, (∀ e, e < 196 → (en e ≠ 0 ↔ kg_V (kx_g n rx ro cx co) e)) → post (h_n, h_phase, b_cell, b_old, b_plain, b_term, b_next, b_spot, b_choice, en, b_seen)) : wpY_drawEnds post (h_n, h_phase, b_cell, b_old, b_plain, b_term, b_next, b_spot, b_choice, b_ends, b_seen) := by
  have loop : ∀ d k (en : Nat → Int32), k + d = 49 → (∀ e, e < 4 * k → (en e ≠ 0 ↔ kg_V (kx_g n rx ro cx co) e)) → wY_drawEnds_2 post h_n h_phase (d + 1) (nI k) b_cell b_old b_plain b_term b_next b_spot b_choice en b_seen := by
    intro d
    induction d with
    | zero =>
      intro k en hk he
      exact pk_le 49 k (fun _ => h en (fun e h' => he e (by omega))) (fun q => by omega)
    | succ d ih =>
      intro k en hk he
      have e1 : nI k / 7 = nI (k / 7) := by rw [show (7 : Int32) = nI 7 from rfl]; exact pk_div (by omega) (by omega) (by omega)
      have e2 : nI k - nI k / 7 * 7 = nI (k % 7) := by rw [show (7 : Int32) = nI 7 from rfl]; exact pk_rem (by omega) (by omega) (by omega)
      have S := ky_sem G (r := k / 7) (c := k % 7) (by omega) (by omega)
      refine pk_le 49 k (fun q => by omega) (fun q => ⟨by decide, nm_r e1 ⟨by decide, nm_r e2 ?_⟩⟩)
      refine yw_r1 hn G C (by omega) (yw_r2 hn G C (by omega) (yw_c1 hn G C (by omega) (yw_c2 hn G C (by omega) ?_)))
      refine yw_dN (by omega) (fun v0 v1 v2 v3 h0 h1 h2 h3 => ih (k + 1) _ (by omega) (fun e hlt => ?_))
      rw [S.1] at h0
      rw [S.2.1] at h1
      rw [S.2.2.1] at h2
      rw [S.2.2.2] at h3
      have ek : k = 7 * (k / 7) + k % 7 := by omega
      by_cases q3 : e = 4 * k + 3
      · rw [q3, pk_us, h3, show 4 * k + 3 = kg_en (k / 7) (k % 7) 3 from by unfold kg_en; omega, kg_Ven (by omega) (by omega)]
      · rw [pk_un q3]
        by_cases q2 : e = 4 * k + 2
        · rw [q2, pk_us, h2, show 4 * k + 2 = kg_en (k / 7) (k % 7) 2 from by unfold kg_en; omega, kg_Ven (by omega) (by omega)]
        · rw [pk_un q2]
          by_cases q1 : e = 4 * k + 1
          · rw [q1, pk_us, h1, show 4 * k + 1 = kg_en (k / 7) (k % 7) 1 from by unfold kg_en; omega, kg_Ven (by omega) (by omega)]
          · rw [pk_un q1]
            by_cases q0 : e = 4 * k
            · rw [q0, pk_us, h0, show 4 * k = kg_en (k / 7) (k % 7) 0 from by unfold kg_en; omega, kg_Ven (by omega) (by omega)]
            · rw [pk_un q0]; exact he e (by omega)
  exact ⟨50, loop 49 0 b_ends rfl (fun e he => by omega)⟩
end
end
section
/-! the reference's walk over the loops -/
section
variable {h_n h_phase : Int32} {b_cell b_old b_plain b_term b_next b_spot b_choice b_ends b_seen : Nat → Int32} {g : kg_G} {ch : Nat → Nat}
theorem yw_nb {post : Int32 → Prop} {e : Nat} (ok : kg_ok g) (hV : kg_V g e) (h : post (nI (kg_nb e))) : wpY_neighbour post (h_n, h_phase, b_cell, b_old, b_plain, b_term, b_next, b_spot, b_choice, b_ends, b_seen) (nI e) := by
  have lt := kg_Vlt ok hV
  have e1 : nI e / 4 = nI (e / 4) := by rw [show (4 : Int32) = nI 4 from rfl]; exact pk_div (by omega) (by omega) (by omega)
  have e2 : nI e - nI e / 4 * 4 = nI (e % 4) := by rw [show (4 : Int32) = nI 4 from rfl]; exact pk_rem (by omega) (by omega) (by omega)
  refine ⟨by decide, nm_r e1 ⟨by decide, nm_r e2 ?_⟩⟩
  unfold kg_nb at h
  refine pk_eq (e % 4) 0 (fun q => ?_) (fun q => pk_eq (e % 4) 1 (fun q1 => ?_) (fun q1 => pk_eq (e % 4) 2 (fun q2 => ?_) (fun q2 => ?_)))
  · rw [if_pos q] at h
    have D : kg_D g (e / 28) (e / 4 % 7) 0 := by have z : kg_D g (e / 28) (e / 4 % 7) (e % 4) := hV; rwa [q] at z
    have D' := kg_D0.mp D
    rw [show (7 : Int32) = nI 7 from rfl, pk_sub (by omega), show (4 * nI (e / 4 - 7) + 2 : Int32) = nI (4 * (e / 4 - 7) + 2) from ky_4 _ 2, show 4 * (e / 4 - 7) + 2 = e - 26 from by omega]
    exact h
  · rw [if_neg q, if_pos q1] at h
    rw [nI_1, show (4 * nI (e / 4 + 1) + 3 : Int32) = nI (4 * (e / 4 + 1) + 3) from ky_4 _ 3, show 4 * (e / 4 + 1) + 3 = e + 6 from by omega]
    exact h
  · rw [if_neg q, if_neg q1, if_pos q2] at h
    rw [show (7 : Int32) = nI 7 from rfl, nI_add, ky_40, show 4 * (e / 4 + 7) = e + 26 from by omega]
    exact h
  · rw [if_neg q, if_neg q1, if_neg q2] at h
    have q3 : e % 4 = 3 := by omega
    have D : kg_D g (e / 28) (e / 4 % 7) 3 := by have z : kg_D g (e / 28) (e / 4 % 7) (e % 4) := hV; rwa [q3] at z
    have D' := kg_D3.mp D
    rw [show (1 : Int32) = nI 1 from rfl, pk_sub (by omega), show (4 * nI (e / 4 - 1) + nI 1 : Int32) = nI (4 * (e / 4 - 1) + 1) from ky_4 _ 1, show 4 * (e / 4 - 1) + 1 = e - 6 from by omega]
    exact h
theorem yw_p99 {post : Int32 → Prop} {m d B i : Nat} {x1 : Int32} (hi : i < 4) (hB : B + 4 ≤ 196) (d4 : d < 4) (hn : (i = d ∨ b_ends (B + i) = 0) → wY_partner_99 post x1 (nI B) (nI d) h_n h_phase b_cell b_old b_plain b_term b_next b_spot b_choice b_ends b_seen m (nI (i + 1)))
    (hf : i ≠ d → b_ends (B + i) ≠ 0 → post (nI (B + i))) : wY_partner_99 post x1 (nI B) (nI d) h_n h_phase b_cell b_old b_plain b_term b_next b_spot b_choice b_ends b_seen (m + 1) (nI i) := by
  refine pk_le 4 i (fun q => by omega) (fun q => pk_eq i d (fun e => nm_r (nI_1 i) (hn (Or.inl e))) (fun e => ?_))
  rw [nI_add]
  refine ⟨pk_in (B + i) 196 (by omega), ?_⟩
  rw [pk_cl (B + i)]
  exact br_c (fun z => nm_r (nI_1 i) (hn (Or.inr z))) (fun z => hf e z)
theorem ky_x3 : ∀ d, d < 4 → nI d ^^^ 1 = nI (if d = 0 then 1 else if d = 1 then 0 else if d = 2 then 3 else 2) := by
  intro d hd
  exact co_dec (N := 4) (P := fun d => nI d ^^^ 1 = nI (if d = 0 then 1 else if d = 1 then 0 else if d = 2 then 3 else 2)) (by decide +kernel) hd
theorem ky_x4 : ∀ d, d < 4 → (nI d + 2) - (nI d + 2) / 4 * 4 = nI (if d < 2 then d + 2 else d - 2) := by
  intro d hd
  exact co_dec (N := 4) (P := fun d => (nI d + 2) - (nI d + 2) / 4 * 4 = nI (if d < 2 then d + 2 else d - 2)) (by decide +kernel) hd
theorem yw_pt {post : Int32 → Prop} {e : Nat} (ok : kg_ok g) (EN : ∀ e, e < 196 → (b_ends e ≠ 0 ↔ kg_V g e)) (CH : ∀ k, k < 49 → (b_choice k = 1 ↔ ch k = 1) ∧ (b_choice k = 2 ↔ ch k = 2)) (hV : kg_V g e) (h : post (nI (kg_pt g ch e))) : wpY_partner post (h_n, h_phase, b_cell, b_old, b_plain, b_term, b_next, b_spot, b_choice, b_ends, b_seen) (nI e) := by
  have lt := kg_Vlt ok hV
  have e1 : nI e / 4 = nI (e / 4) := by rw [show (4 : Int32) = nI 4 from rfl]; exact pk_div (by omega) (by omega) (by omega)
  have eb : nI e / 4 * 4 = nI (4 * (e / 4)) := by rw [e1, show (4 : Int32) = nI 4 from rfl, pk_mul, Nat.mul_comm]
  have e2 : nI e - nI e / 4 * 4 = nI (e % 4) := by rw [show (4 : Int32) = nI 4 from rfl]; exact pk_rem (by omega) (by omega) (by omega)
  have bb : ∀ i, i < 4 → (kg_b g (e / 28) (e / 4 % 7) i = true ↔ b_ends (4 * (e / 4) + i) ≠ 0) := fun i hi => by
    rw [kg_bt, EN _ (by omega), show 4 * (e / 4) + i = kg_en (e / 28) (e / 4 % 7) i from by unfold kg_en; omega, kg_Ven (by omega) hi]
  have b0 := bb 0 (by omega)
  have b1 := bb 1 (by omega)
  have b2 := bb 2 (by omega)
  have b3 := bb 3 (by omega)
  have d4 : e % 4 < 4 := by omega
  have hp : post (nI (4 * (e / 4) + kg_p4 (kg_b g (e / 28) (e / 4 % 7) 0) (kg_b g (e / 28) (e / 4 % 7) 1) (kg_b g (e / 28) (e / 4 % 7) 2) (kg_b g (e / 28) (e / 4 % 7) 3) (ch (e / 4)) (e % 4))) := by
    have z : kg_pt g ch e = 4 * (e / 4) + kg_p4 (kg_b g (e / 28) (e / 4 % 7) 0) (kg_b g (e / 28) (e / 4 % 7) 1) (kg_b g (e / 28) (e / 4 % 7) 2) (kg_b g (e / 28) (e / 4 % 7) 3) (ch (e / 4)) (e % 4) := by
      unfold kg_pt kg_pd
      rw [show 7 * (e / 28) + e / 4 % 7 = e / 4 from by omega]
      unfold kg_en
      omega
    rw [← z]; exact h
  have els : ¬ (b_ends (4 * (e / 4) + 0) ≠ 0 ∧ b_ends (4 * (e / 4) + 1) ≠ 0 ∧ b_ends (4 * (e / 4) + 2) ≠ 0 ∧ b_ends (4 * (e / 4) + 3) ≠ 0) → ∃ n99, wY_partner_99 post (nI e) (nI (4 * (e / 4))) (nI (e % 4)) h_n h_phase b_cell b_old b_plain b_term b_next b_spot b_choice b_ends b_seen n99 0 := by
    intro na
    unfold kg_p4 at hp
    rw [if_neg (fun z => by
      simp only [Bool.and_eq_true] at z
      exact na ⟨b0.mp z.1.1.1, b1.mp z.1.1.2, b2.mp z.1.2, b3.mp z.2⟩)] at hp
    refine ⟨5, yw_p99 (i := 0) (by omega) (by omega) d4 (fun c0 => ?_) (fun n0 f0 => ?_)⟩
    · rw [if_neg (fun z => by rcases c0 with c | c; exact z.1 c.symm; exact b0.mp z.2 c)] at hp
      refine yw_p99 (i := 1) (by omega) (by omega) d4 (fun c1 => ?_) (fun n0 f0 => ?_)
      · rw [if_neg (fun z => by rcases c1 with c | c; exact z.1 c.symm; exact b1.mp z.2 c)] at hp
        refine yw_p99 (i := 2) (by omega) (by omega) d4 (fun c2 => ?_) (fun n0 f0 => ?_)
        · rw [if_neg (fun z => by rcases c2 with c | c; exact z.1 c.symm; exact b2.mp z.2 c)] at hp
          refine yw_p99 (i := 3) (by omega) (by omega) d4 (fun c3 => ?_) (fun n0 f0 => ?_)
          · rw [if_neg (fun z => by rcases c3 with c | c; exact z.1 c.symm; exact b3.mp z.2 c), show 4 * (e / 4) + e % 4 = e from by omega] at hp
            exact pk_le 4 4 (fun _ => hp) (fun q => by omega)
          · rw [if_pos ⟨Ne.symm n0, b3.mpr f0⟩] at hp; exact hp
        · rw [if_pos ⟨Ne.symm n0, b2.mpr f0⟩] at hp; exact hp
      · rw [if_pos ⟨Ne.symm n0, b1.mpr f0⟩] at hp; exact hp
    · rw [if_pos ⟨Ne.symm n0, b0.mpr f0⟩] at hp; exact hp
  refine ⟨by decide, nm_r eb ⟨by decide, nm_r e2 ⟨pk_in (4 * (e / 4)) 196 (by omega), ?_⟩⟩⟩
  rw [pk_cl (4 * (e / 4))]
  refine br_c (fun z => els (fun q => q.1 z)) (fun z0 => ?_)
  rw [show (nI (4 * (e / 4)) + 1 : Int32) = nI (4 * (e / 4) + 1) from nI_add _ 1, show (nI (4 * (e / 4)) + 2 : Int32) = nI (4 * (e / 4) + 2) from nI_add _ 2, show (nI (4 * (e / 4)) + 3 : Int32) = nI (4 * (e / 4) + 3) from nI_add _ 3]
  refine ⟨pk_in (4 * (e / 4) + 1) 196 (by omega), ?_⟩
  rw [pk_cl (4 * (e / 4) + 1)]
  refine br_c (fun z => els (fun q => q.2.1 z)) (fun z1 => ⟨pk_in (4 * (e / 4) + 2) 196 (by omega), ?_⟩)
  rw [pk_cl (4 * (e / 4) + 2)]
  refine br_c (fun z => els (fun q => q.2.2.1 z)) (fun z2 => ⟨pk_in (4 * (e / 4) + 3) 196 (by omega), ?_⟩)
  rw [pk_cl (4 * (e / 4) + 3)]
  refine br_c (fun z => els (fun q => q.2.2.2 z)) (fun z3 => ⟨by decide, ?_⟩)
  have c := CH (e / 4) (by omega)
  unfold kg_p4 at hp
  rw [b0.mpr z0, b1.mpr z1, b2.mpr z2, b3.mpr z3, if_pos (by decide : (true && true && true && true) = true)] at hp
  rw [e1]
  refine ⟨pk_in (e / 4) 49 (by omega), ?_⟩
  rw [pk_cl (e / 4)]
  refine br_c (fun k1 => ?_) (fun k1 => ⟨by decide, pk_in (e / 4) 49 (by omega), br_c (fun k2 => ?_) (fun k2 => ⟨by decide, ?_⟩)⟩)
  · rw [if_pos (c.1.mp k1)] at hp
    rw [ky_x3 _ d4, nI_add]; exact hp
  · rw [if_neg (fun q => k1 (c.1.mpr q)), if_pos (c.2.mp k2)] at hp
    rw [pk_sub (by omega), show 4 * (e / 4) + 3 - e % 4 = 4 * (e / 4) + (3 - e % 4) from by omega]; exact hp
  · rw [if_neg (fun q => k1 (c.1.mpr q)), if_neg (fun q => k2 (c.2.mpr q))] at hp
    rw [ky_x4 _ d4, nI_add]; exact hp
/-- the marked ends -/
def ky_S (se : Nat → Int32) (v : Nat) : Prop := v < 196 ∧ se v ≠ 0
theorem yw_in {post : Int32 → SY → Prop} {J : Int32 → Int32 → (Nat → Int32) → (Nat → Int32) → (Nat → Int32) → (Nat → Int32) → (Nat → Int32) → (Nat → Int32) → (Nat → Int32) → (Nat → Int32) → (Nat → Int32) → Prop} {x : Nat} {cnt : Int32} {S0 : Nat → Prop}
    (ok : kg_ok g) (EN : ∀ e, e < 196 → (b_ends e ≠ 0 ↔ kg_V g e)) (CH : ∀ k, k < 49 → (b_choice k = 1 ↔ ch k = 1) ∧ (b_choice k = 2 ↔ ch k = 2)) (h0 : ∀ v, S0 v → kg_V g v ∧ S0 (kg_nb v) ∧ S0 (kg_pt g ch v))
    (hJ : ∀ se : Nat → Int32, (∀ v, ky_S se v ↔ S0 v ∨ kr_R (kg_V g) kg_nb (kg_pt g ch) x v) → J cnt (nI (x + 1)) b_cell b_old b_plain b_term b_next b_spot b_choice b_ends se) :
    ∀ d st y (se : Nat → Int32), st + d = 196 → st ≤ kw_c se 196 → kw_I (kg_V g) kg_nb (kg_pt g ch) S0 x (ky_S se) y → wY_loops_59 post J cnt (nI x) h_n h_phase (d + 1) (nI y) (nI st) b_cell b_old b_plain b_term b_next b_spot b_choice b_ends se := by
  have ni := kg_nb_inv ok
  have pi := kg_pt_inv ok ch
  intro d
  induction d with
  | zero =>
    intro st y se hs hc I
    have all := kw_c_all se 196 (by omega)
    exact pk_le 196 st (fun _ => nm_r (nI_1 x) (hJ se (kw_e h0 I ⟨kg_Vlt ok I.1, all y (kg_Vlt ok I.1)⟩))) (fun q => by omega)
  | succ d ih =>
    intro st y se hs hc I
    have Vy := I.1
    have ly := kg_Vlt ok Vy
    have Vn := (ni.1 y Vy).1
    have ln := kg_Vlt ok Vn
    refine pk_le 196 st (fun q => by omega) (fun q => ⟨pk_in y 196 ly, ?_⟩)
    rw [pk_cl y]
    refine br_f ((EN y ly).mpr Vy) ⟨pk_in y 196 ly, br_c (fun z => ⟨pk_in y 196 ly, nm_e (yw_nb ok Vy ⟨pk_in (kg_nb y) 196 ln, nm_e (yw_pt ok EN CH Vn (nm_r (nI_1 st) ?_))⟩)⟩) (fun z => nm_r (nI_1 x) (hJ se (kw_e h0 I ⟨ly, z⟩)))⟩
    rw [pk_cl (kg_nb y)]
    have one : vp_nar .boolean 1 ≠ 0 := by show (1 : Int32) ≠ 0; decide
    have eS : (fun v => ky_S se v ∨ v = y ∨ v = kg_nb y) = ky_S (upd (upd se y (vp_nar .boolean 1)) (kg_nb y) (vp_nar .boolean 1)) := by
      funext v
      apply propext
      unfold ky_S
      by_cases v1 : v = kg_nb y
      · rw [v1, pk_us]; exact ⟨fun _ => ⟨ln, one⟩, fun _ => Or.inr (Or.inr rfl)⟩
      · rw [pk_un v1]
        by_cases v2 : v = y
        · rw [v2, pk_us]; exact ⟨fun _ => ⟨ly, one⟩, fun _ => Or.inr (Or.inl rfl)⟩
        · rw [pk_un v2]
          exact ⟨fun q => q.elim id (fun q => q.elim (fun q => absurd q v2) (fun q => absurd q v1)), fun q => Or.inl q⟩
    have c1 := kw_c_new se y one z 196 ly
    have c2 := kw_c_up (upd se y (vp_nar .boolean 1)) (kg_nb y) one 196
    have I' := kw_s ni.1 ni.2 pi.1 pi.2 h0 I (fun q => q.2 z)
    rw [eS] at I'
    exact ih (st + 1) _ _ (by omega) (by omega) I'
theorem yw_loops {post : Int32 → SY → Prop} (ok : kg_ok g) (EN : ∀ e, e < 196 → (b_ends e ≠ 0 ↔ kg_V g e)) (CH : ∀ k, k < 49 → (b_choice k = 1 ↔ ch k = 1) ∧ (b_choice k = 2 ↔ ch k = 2))
    (h : ∀ (N : Nat) (se : Nat → Int32), kr_N (kg_V g) kg_nb (kg_pt g ch) N → post (nI N) (h_n, h_phase, b_cell, b_old, b_plain, b_term, b_next, b_spot, b_choice, b_ends, se)) : wpY_loops post (h_n, h_phase, b_cell, b_old, b_plain, b_term, b_next, b_spot, b_choice, b_ends, b_seen) := by
  have ni := kg_nb_inv ok
  have pi := kg_pt_inv ok ch
  have out : ∀ d x (se : Nat → Int32) (l : List Nat), x + d = 196 → kw_O (kg_V g) kg_nb (kg_pt g ch) x (ky_S se) l → wY_loops_26 post h_n h_phase (d + 1) (nI l.length) (nI x) b_cell b_old b_plain b_term b_next b_spot b_choice b_ends se := by
    intro d
    induction d with
    | zero =>
      intro x se l hx O
      exact pk_le 196 x (fun _ => h _ se (kw_Oe (fun v hv => by have := kg_Vlt ok hv; omega) O)) (fun q => by omega)
    | succ d ih =>
      intro x se l hx O
      have lx : x < 196 := by omega
      refine pk_le 196 x (fun q => by omega) (fun q => ⟨pk_in x 196 lx, ?_⟩)
      rw [pk_cl x]
      refine br_c (fun z => ⟨1, ?_⟩) (fun z => ⟨pk_in x 196 lx, br_c (fun z2 => nm_r (nI_1 _) ⟨197, ?_⟩) (fun z2 => ⟨1, ?_⟩)⟩)
      · refine pk_le 196 0 (fun q => by omega) (fun q => ⟨pk_in x 196 lx, br_t ?_ (nm_r (nI_1 x) (ih (x + 1) se l (by omega) (kw_On O (fun q => absurd z ((EN x lx).mpr q)))))⟩)
        rw [pk_cl x]; exact z
      · have Vx := (EN x lx).mp z
        have nS : ¬ ky_S se x := fun q => q.2 z2
        have h0 := kw_Oc ni.1 pi.1 O
        exact yw_in ok EN CH h0 (fun se' e' => ih (x + 1) se' (x :: l) (by omega) (kw_Os ni.1 pi.1 O Vx nS e')) 196 0 x se (by omega) (by omega) (kw_0 Vx nS h0)
      · refine pk_le 196 0 (fun q => by omega) (fun q => ⟨pk_in x 196 lx, br_f ?_ ⟨pk_in x 196 lx, br_f ?_ (nm_r (nI_1 x) (ih (x + 1) se l (by omega) (kw_On O (fun _ => ⟨lx, z2⟩))))⟩⟩)
        · rw [pk_cl x]; exact z
        · rw [pk_cl x]; exact z2
  have clr : ∀ d x (se : Nat → Int32), x + d = 196 → (∀ v, v < x → se v = 0) → wY_loops_2 post h_n h_phase (d + 1) (nI x) b_cell b_old b_plain b_term b_next b_spot b_choice b_ends se := by
    intro d
    induction d with
    | zero =>
      intro x se hx hz
      exact pk_le 196 x (fun _ => ⟨197, out 196 0 se [] rfl (kw_O0 (fun v q => q.2 (hz v (by have := q.1; omega))))⟩) (fun q => by omega)
    | succ d ih =>
      intro x se hx hz
      refine pk_le 196 x (fun q => by omega) (fun q => ⟨pk_in x 196 (by omega), nm_e (nm_r (nI_1 x) (ih (x + 1) _ (by omega) (fun v hv => ?_)))⟩)
      rw [pk_cl x]
      by_cases e : v = x
      · rw [e, pk_us]; rfl
      · rw [pk_un e]; exact hz v (by omega)
  exact ⟨197, clr 196 0 b_seen rfl (fun v hv => by omega)⟩
end
end
section
/-! the reference's addState -/
theorem ky_s31 : ∀ i, i < 32 → ((nI i &&& 31).toBitVec.smod 32).toNat = i := by
  intro i hi
  exact co_dec (N := 32) (P := fun i => ((nI i &&& 31).toBitVec.smod 32).toNat = i) (by decide +kernel) hi
section
variable {h_n h_phase : Int32} {b_cell b_old b_plain b_term b_next b_spot b_choice b_ends b_seen : Nat → Int32}
theorem yw_a153 {post : SY → Prop} (h : ∀ pl : Nat → Int32, (∀ j, j < 129 → pl j = b_plain j + b_term j) → post (h_n, h_phase, b_cell, b_old, pl, b_term, b_next, b_spot, b_choice, b_ends, b_seen)) : ∃ m, wY_addState_153 post h_n h_phase m 0 b_cell b_old b_plain b_term b_next b_spot b_choice b_ends b_seen := by
  have loop : ∀ d k (pl : Nat → Int32), k + d = 129 → (∀ j, j < k → pl j = b_plain j + b_term j) → (∀ j, k ≤ j → pl j = b_plain j) → wY_addState_153 post h_n h_phase (d + 1) (nI k) b_cell b_old pl b_term b_next b_spot b_choice b_ends b_seen := by
    intro d
    induction d with
    | zero =>
      intro k pl hk h1 h2
      exact pk_le 129 k (fun _ => h pl (fun j hj => h1 j (by omega))) (fun q => by omega)
    | succ d ih =>
      intro k pl hk h1 h2
      refine pk_le 129 k (fun q => by omega) (fun q => ⟨pk_in k 129 (by omega), pk_in k 129 (by omega), pk_in k 129 (by omega), nm_e (nm_r (nI_1 k) ?_)⟩)
      rw [pk_cl k]
      refine ih (k + 1) _ (by omega) (fun j hj => ?_) (fun j hj => ?_)
      · by_cases e : j = k
        · rw [e, pk_us, h2 k (Nat.le_refl _)]
        · rw [pk_un e]; exact h1 j (by omega)
      · rw [pk_un (by omega)]; exact h2 j (by omega)
  exact ⟨130, loop 129 0 b_plain rfl (fun j hj => by omega) (fun j _ => rfl)⟩
theorem yw_a117 {post : SY → Prop} {x2 : Int32} {m : Nat} {J : Int32 → (Nat → Int32) → (Nat → Int32) → (Nat → Int32) → (Nat → Int32) → (Nat → Int32) → (Nat → Int32) → (Nat → Int32) → (Nat → Int32) → (Nat → Int32) → Prop}
    (h : ∀ tm : Nat → Int32, (∀ j, j < 129 → tm j = b_next j) → J (nI (m + 1)) b_cell b_old b_plain tm b_next b_spot b_choice b_ends b_seen) : ∃ q, wY_addState_117 post J x2 (nI m) h_n h_phase q 0 b_cell b_old b_plain b_term b_next b_spot b_choice b_ends b_seen := by
  have loop : ∀ d k (tm : Nat → Int32), k + d = 129 → (∀ j, j < k → tm j = b_next j) → wY_addState_117 post J x2 (nI m) h_n h_phase (d + 1) (nI k) b_cell b_old b_plain tm b_next b_spot b_choice b_ends b_seen := by
    intro d
    induction d with
    | zero =>
      intro k tm hk h1
      exact pk_le 129 k (fun _ => nm_r (nI_1 m) (h tm (fun j hj => h1 j (by omega)))) (fun q => by omega)
    | succ d ih =>
      intro k tm hk h1
      refine pk_le 129 k (fun q => by omega) (fun q => ⟨pk_in k 129 (by omega), pk_in k 129 (by omega), nm_e (nm_r (nI_1 k) ?_)⟩)
      rw [pk_cl k]
      refine ih (k + 1) _ (by omega) (fun j hj => ?_)
      by_cases e : j = k
      · rw [e, pk_us]
      · rw [pk_un e]; exact h1 j (by omega)
  exact ⟨130, loop 129 0 b_term rfl (fun j hj => by omega)⟩
theorem yw_a44 {post : SY → Prop} {x2 : Int32} {m : Nat} {R : Int → Int32} {J : Int32 → (Nat → Int32) → (Nat → Int32) → (Nat → Int32) → (Nat → Int32) → (Nat → Int32) → (Nat → Int32) → (Nat → Int32) → (Nat → Int32) → (Nat → Int32) → Prop}
    (hR : kl_B 64 R) (hT : ∀ j, j < 129 → b_term j = kl_W R j) (h : ∀ tm nx : Nat → Int32, (∀ j, j < 129 → tm j = kl_W (kl_d R) j) → J (nI (m + 1)) b_cell b_old b_plain tm nx b_spot b_choice b_ends b_seen) : ∃ q, wY_addState_44 post J x2 (nI m) h_n h_phase q 0 b_cell b_old b_plain b_term b_next b_spot b_choice b_ends b_seen := by
  have loop : ∀ d k (nx : Nat → Int32), k + d = 129 → (∀ j, j < k → nx j = kl_W (kl_d R) j) → wY_addState_44 post J x2 (nI m) h_n h_phase (d + 1) (nI k) b_cell b_old b_plain b_term nx b_spot b_choice b_ends b_seen := by
    intro d
    induction d with
    | zero =>
      intro k nx hk h1
      refine pk_le 129 k (fun _ => yw_a117 (fun tm ht => h tm nx (fun j hj => ?_))) (fun q => by omega)
      rw [ht j hj]; exact h1 j (by omega)
    | succ d ih =>
      intro k nx hk h1
      have fin : ∀ z0 z1 : Int32, z0 = R ((k : Int) - 64 - 2) → z1 = R ((k : Int) - 64 + 2) → wY_addState_93 post J (wY_addState_44 post J x2 (nI m) h_n h_phase (d + 1)) x2 (nI m) (nI k) z0 z1 h_n h_phase b_cell b_old b_plain b_term nx b_spot b_choice b_ends b_seen := by
        intro z0 z1 e0 e1
        refine ⟨pk_in k 129 (by omega), nm_e (nm_r (nI_1 k) ?_)⟩
        rw [pk_cl k]
        refine ih (k + 1) _ (by omega) (fun j hj => ?_)
        by_cases e : j = k
        · rw [e, pk_us]
          unfold kl_W kl_d
          rw [if_pos (by omega), e0, e1]
          grind
        · rw [pk_un e]; exact h1 j (by omega)
      have up : ∀ z0 : Int32, z0 = R ((k : Int) - 64 - 2) → wY_addState_71 post J (wY_addState_44 post J x2 (nI m) h_n h_phase (d + 1)) x2 (nI m) (nI k) z0 h_n h_phase b_cell b_old b_plain b_term nx b_spot b_choice b_ends b_seen := by
        intro z0 e0
        refine pk_lt 126 k (fun q => fin z0 0 e0 (hR _ (by omega)).symm) (fun q => ?_)
        rw [show (nI k + 2 : Int32) = nI (k + 2) from nI_add k 2]
        refine ⟨pk_in (k + 2) 129 (by omega), fin z0 _ e0 ?_⟩
        rw [pk_cl (k + 2), hT (k + 2) (by omega)]
        unfold kl_W
        rw [if_pos (by omega)]
        congr 1
        omega
      refine pk_le 129 k (fun q => by omega) (fun q => pk_lt k 2 (fun q2 => up 0 (hR _ (by omega)).symm) (fun q2 => ?_))
      rw [show (nI k - 2 : Int32) = nI (k - 2) from pk_sub (b := 2) q2]
      refine ⟨pk_in (k - 2) 129 (by omega), up _ ?_⟩
      rw [pk_cl (k - 2), hT (k - 2) (by omega)]
      unfold kl_W
      rw [if_pos (by omega)]
      congr 1
      omega
  exact ⟨130, loop 129 0 b_next rfl (fun j hj => by omega)⟩
theorem yw_addS {post : SY → Prop} {ex : Int32} {x : Int} {N : Nat} (hx : ex.toInt = x) (x1 : -10 ≤ x) (x2 : x ≤ 10) (N1 : 1 ≤ N) (N2 : N ≤ 18)
    (h : ∀ pl tm nx : Nat → Int32, (∀ j, j < 129 → pl j = b_plain j + kl_W (kl_dN (N - 1) (kl_s x kl_1)) j) → post (h_n, h_phase, b_cell, b_old, pl, tm, nx, b_spot, b_choice, b_ends, b_seen)) : wpY_addState post (h_n, h_phase, b_cell, b_old, b_plain, b_term, b_next, b_spot, b_choice, b_ends, b_seen) ex (nI N) := by
  have mid : ∀ d m (tm nx : Nat → Int32), m + d = N → 1 ≤ m → (∀ j, j < 129 → tm j = kl_W (kl_dN (m - 1) (kl_s x kl_1)) j) → wY_addState_36 post (nI N) h_n h_phase (d + 1) (nI m) b_cell b_old b_plain tm nx b_spot b_choice b_ends b_seen := by
    intro d
    induction d with
    | zero =>
      intro m tm nx hm m1 ht
      refine pk_le N m (fun _ => yw_a153 (fun pl hp => h pl tm nx (fun j hj => ?_))) (fun q => by omega)
      rw [hp j hj, ht j hj, show m = N from by omega]
    | succ d ih =>
      intro m tm nx hm m1 ht
      have hR : kl_B 64 (kl_dN (m - 1) (kl_s x kl_1)) := kl_Bmono (by omega) (kl_BdN (kl_Bs x 10 kl_B1 (by omega) (by omega)) (m - 1))
      refine pk_le N m (fun q => by omega) (fun q => yw_a44 hR ht (fun tm' nx' ht' => ih (m + 1) tm' nx' (by omega) (by omega) (fun j hj => ?_)))
      rw [ht' j hj]
      obtain ⟨u, rfl⟩ : ∃ u, m = u + 1 := ⟨m - 1, by omega⟩
      rfl
  have ini : ∀ d k (tm : Nat → Int32), k + d = 129 → (∀ j, j < k → tm j = kl_W (kl_s x kl_1) j) → wY_addState_2 post ex (nI N) h_n h_phase (d + 1) (nI k) b_cell b_old b_plain tm b_next b_spot b_choice b_ends b_seen := by
    intro d
    induction d with
    | zero =>
      intro k tm hk ht
      exact pk_le 129 k (fun _ => ⟨_, mid (N - 1) 1 tm b_next (by omega) (by omega) (fun j hj => ht j (by omega))⟩) (fun q => by omega)
    | succ d ih =>
      intro k tm hk ht
      have e64 : (ex + 64).toInt = x + 64 := by
        rw [Jvm.Kit.i32_add (by rw [hx, show (64 : Int32).toInt = 64 from by decide]; omega) (by rw [hx, show (64 : Int32).toInt = 64 from by decide]; omega), hx]; rfl
      have st : ∀ v : Int32, v = kl_W (kl_s x kl_1) k → ∀ j, j < k + 1 → upd tm (nI k).toNatClampNeg v j = kl_W (kl_s x kl_1) j := by
        intro v hv j hj
        rw [pk_cl k]
        by_cases e : j = k
        · rw [e, pk_us]; exact hv
        · rw [pk_un e]; exact ht j (by omega)
      refine pk_le 129 k (fun q => by omega) (fun q => br_c (fun c => ⟨pk_in k 129 (by omega), nm_e (nm_r (nI_1 k) (ih (k + 1) _ (by omega) (st 1 ?_)))⟩) (fun c => ⟨pk_in k 129 (by omega), nm_e (nm_r (nI_1 k) (ih (k + 1) _ (by omega) (st 0 ?_)))⟩))
      · have c' := congrArg Int32.toInt c
        rw [e64, nI_toInt (by omega)] at c'
        unfold kl_W kl_s kl_1
        rw [if_pos (by omega), if_pos (by omega)]
      · have c' : ¬ ((k : Int) = x + 64) := fun q => c (Int32.toInt_inj.mp (by rw [e64, nI_toInt (by omega)]; exact q))
        unfold kl_W kl_s kl_1
        rw [if_pos (by omega), if_neg (by omega)]
  exact ⟨130, ini 129 0 b_term rfl (fun j hj => by omega)⟩
end
/-- the exponent by the bits of s -/
def ky_ex (s : Nat) : Nat → Int
  | 0 => 0
  | i + 1 => ky_ex s i + (if s / 2 ^ i % 2 = 0 then 1 else -1)
theorem ky_ex_s (s : Nat) : ∀ m, ky_ex s (m + 1) = ky_ex (s / 2) m + (if s % 2 = 0 then 1 else -1) := by
  intro m
  induction m with
  | zero =>
    show (0 : Int) + (if s / 2 ^ 0 % 2 = 0 then 1 else -1) = 0 + (if s % 2 = 0 then 1 else -1)
    rw [Nat.pow_zero, Nat.div_one]
  | succ m ih =>
    show ky_ex s (m + 1) + (if s / 2 ^ (m + 1) % 2 = 0 then 1 else -1) = ky_ex (s / 2) m + (if s / 2 / 2 ^ m % 2 = 0 then 1 else -1) + (if s % 2 = 0 then 1 else -1)
    rw [ih, Nat.pow_succ, Nat.mul_comm (2 ^ m) 2, ← Nat.div_div_eq_div_mul]
    omega
theorem ky_ex_eq (g : kg_G) : ∀ d k s, ks_ex g d k s = ky_ex s (ks_ct g 1 d k) := by
  intro d
  induction d with
  | zero => intro k s; rfl
  | succ d ih =>
    intro k s
    unfold ks_ex ks_ct
    by_cases t : kg_ty g (k / 7) (k % 7) = 1
    · rw [if_pos t, if_pos t, Nat.add_comm 1, ky_ex_s, ih]
      split <;> rfl
    · rw [if_neg t, if_neg t, Nat.zero_add, ih]
theorem ky_ex_b (s : Nat) : ∀ m : Nat, ky_ex s m ≤ m ∧ -(m : Int) ≤ ky_ex s m := by
  intro m
  induction m with
  | zero => exact ⟨Int.le_refl _, Int.le_refl _⟩
  | succ m ih =>
    show ky_ex s m + (if s / 2 ^ m % 2 = 0 then 1 else -1) ≤ ((m + 1 : Nat) : Int) ∧ -((m + 1 : Nat) : Int) ≤ ky_ex s m + (if s / 2 ^ m % 2 = 0 then 1 else -1)
    split <;> omega
end
section
/-! the reference's evaluate -/
def ky_ch (cc : Nat → Int32) (k : Nat) : Nat := if cc k = 1 then 1 else if cc k = 2 then 2 else 0
theorem ky_chp (cc : Nat → Int32) (k : Nat) : (cc k = 1 ↔ ky_ch cc k = 1) ∧ (cc k = 2 ↔ ky_ch cc k = 2) := by
  unfold ky_ch
  by_cases c1 : cc k = 1
  · rw [if_pos c1, c1]
    exact ⟨⟨fun _ => rfl, fun _ => rfl⟩, ⟨fun q => absurd q (by decide), fun q => absurd q (by omega)⟩⟩
  · rw [if_neg c1]
    by_cases c2 : cc k = 2
    · rw [if_pos c2, c2]
      exact ⟨⟨fun q => absurd q (by decide), fun q => absurd q (by omega)⟩, ⟨fun _ => rfl, fun _ => rfl⟩⟩
    · rw [if_neg c2]
      exact ⟨⟨fun q => absurd q c1, fun q => absurd q (by omega)⟩, ⟨fun q => absurd q c2, fun q => absurd q (by omega)⟩⟩
theorem ks_ct_mono (g : kg_G) (t : Nat) : ∀ b a, ks_ct g t a 0 ≤ ks_ct g t (a + b) 0 := by
  intro b
  induction b with
  | zero => intro a; exact Nat.le_refl _
  | succ b ih => intro a; rw [← Nat.add_assoc, ks_ct1]; have := ih a; omega
theorem ks_ct_inj (g : kg_G) {t x y : Nat} (hx : kg_ty g (x / 7) (x % 7) = t) (hy : kg_ty g (y / 7) (y % 7) = t) (e : ks_ct g t x 0 = ks_ct g t y 0) : x = y := by
  rcases Nat.lt_trichotomy x y with l | l | l
  · have a := ks_ct1 g t x
    rw [if_pos hx] at a
    have b := ks_ct_mono g t (y - (x + 1)) (x + 1)
    rw [show x + 1 + (y - (x + 1)) = y from by omega] at b
    omega
  · exact l
  · have a := ks_ct1 g t y
    rw [if_pos hy] at a
    have b := ks_ct_mono g t (x - (y + 1)) (y + 1)
    rw [show y + 1 + (x - (y + 1)) = x from by omega] at b
    omega
/-- every index below the count is a crossing's -/
theorem ks_ct_sur (g : kg_G) (t : Nat) : ∀ m i, i < ks_ct g t m 0 → ∃ x, x < m ∧ kg_ty g (x / 7) (x % 7) = t ∧ ks_ct g t x 0 = i := by
  intro m
  induction m with
  | zero => intro i hi; exact absurd hi (Nat.not_lt_zero _)
  | succ m ih =>
    intro i hi
    rw [ks_ct1] at hi
    by_cases h : i < ks_ct g t m 0
    · obtain ⟨x, a, b, c⟩ := ih i h
      exact ⟨x, by omega, b, c⟩
    · by_cases q : kg_ty g (m / 7) (m % 7) = t
      · rw [if_pos q] at hi
        exact ⟨m, by omega, q, by omega⟩
      · rw [if_neg q] at hi; omega
theorem kx_wt {n : Nat} {rx ro cx co : Nat → Nat} (G : kx_ok n rx ro cx co) (k : Nat) : kx_w n rx ro cx co k = 0 ↔ kg_ty (kx_g n rx ro cx co) (k / 7) (k % 7) ≠ 1 := by
  unfold kx_w
  by_cases q : k / 7 < n ∧ k % 7 < n
  · rw [if_pos q, kx_sgz, kx_crt G q.1 q.2]
  · rw [if_neg q, kg_ty_out q]
    exact ⟨fun _ => by omega, fun _ => rfl⟩
section
variable {h_n h_phase : Int32} {b_cell b_old b_plain b_term b_next b_spot b_choice b_ends b_seen : Nat → Int32} {n : Nat} {rx ro cx co : Nat → Nat}
/-- one choice of smoothings: s -/
theorem yw_one {post : Int32 → SY → Prop} {s : Nat} {x2 : Int32} {J : Int32 → Int32 → Int32 → (Nat → Int32) → (Nat → Int32) → (Nat → Int32) → (Nat → Int32) → (Nat → Int32) → (Nat → Int32) → (Nat → Int32) → (Nat → Int32) → (Nat → Int32) → Prop}
    (G : kx_ok n rx ro cx co) (EN : ∀ e, e < 196 → (b_ends e ≠ 0 ↔ kg_V (kx_g n rx ro cx co) e)) (h10 : ks_ct (kx_g n rx ro cx co) 1 49 0 ≤ 10) (hs : s < 2 ^ 31)
    (SP : ∀ x, x < 49 → kg_ty (kx_g n rx ro cx co) (x / 7) (x % 7) = 1 → b_spot (ks_ct (kx_g n rx ro cx co) 1 x 0) = nI x)
    (hJ : ∀ pl tm nx cc se : Nat → Int32, (∀ j, j < 129 → pl j = b_plain j + kl_W (kl_dN (ks_tc (kx_g n rx ro cx co) 49 0 s (fun j => j) - 1) (kl_s (ks_ex (kx_g n rx ro cx co) 49 0 s) kl_1)) j) → J (nI (s + 1)) h_n h_phase b_cell b_old pl tm nx b_spot cc b_ends se) :
    ∃ q, wY_evaluate_104 post J (nI (ks_ct (kx_g n rx ro cx co) 1 49 0)) x2 (nI s) h_n h_phase q 0 0 b_cell b_old b_plain b_term b_next b_spot b_choice b_ends b_seen := by
  have ok := kx_gok G
  have loop : ∀ d i (ex : Int32) (cc : Nat → Int32), i + d = ks_ct (kx_g n rx ro cx co) 1 49 0 → ex.toInt = ky_ex s i →
      (∀ x, x < 49 → kg_ty (kx_g n rx ro cx co) (x / 7) (x % 7) = 1 → ks_ct (kx_g n rx ro cx co) 1 x 0 < i → cc x = nI (1 + s / 2 ^ ks_ct (kx_g n rx ro cx co) 1 x 0 % 2)) →
      wY_evaluate_104 post J (nI (ks_ct (kx_g n rx ro cx co) 1 49 0)) x2 (nI s) h_n h_phase (d + 1) ex (nI i) b_cell b_old b_plain b_term b_next b_spot cc b_ends b_seen := by
    intro d
    induction d with
    | zero =>
      intro i ex cc hi hex hcc
      refine pk_le (ks_ct (kx_g n rx ro cx co) 1 49 0) i (fun _ => ?_) (fun q => by omega)
      refine yw_loops (ch := ky_ch cc) ok EN (fun k _ => ky_chp cc k) (fun N se hN => ?_)
      have hL := ks_loops ok (ky_ch cc) s (fun x hx ht => by
        have z : ks_ct (kx_g n rx ro cx co) 1 x 0 < ks_ct (kx_g n rx ro cx co) 1 49 0 := by
          have a := ks_ct1 (kx_g n rx ro cx co) 1 x
          rw [if_pos ht] at a
          have b := ks_ct_mono (kx_g n rx ro cx co) 1 (49 - (x + 1)) (x + 1)
          rw [show x + 1 + (49 - (x + 1)) = 49 from by omega] at b
          omega
        have c := hcc x hx ht (by omega)
        have p := ky_chp cc x
        by_cases m0 : s / 2 ^ ks_ct (kx_g n rx ro cx co) 1 x 0 % 2 = 0
        · rw [m0] at c ⊢
          exact p.1.mp c
        · have m1 : s / 2 ^ ks_ct (kx_g n rx ro cx co) 1 x 0 % 2 = 1 := by omega
          rw [m1] at c ⊢
          exact p.2.mp c)
      have eN := kr_Nuniq (kg_nb_inv ok).1 (kg_pt_inv ok _).1 hN hL
      have tb := ks_tcb ok h10 s
      have eb := ky_ex_b s i
      rw [eN]
      refine yw_addS hex (by omega) (by omega) tb.1 tb.2 (fun pl tm nx hpl => nm_r (nI_1 s) (hJ pl tm nx cc se (fun j hj => ?_)))
      rw [hpl j hj, ky_ex_eq, show i = ks_ct (kx_g n rx ro cx co) 1 49 0 from by omega]
    | succ d ih =>
      intro i ex cc hi hex hcc
      obtain ⟨x, hx, ht, hxi⟩ := ks_ct_sur (kx_g n rx ro cx co) 1 49 i (by omega)
      have sp := SP x hx ht
      rw [hxi] at sp
      have eb := ky_ex_b s i
      have bit : (nI s >>> (nI i &&& 31)) &&& 1 = nI (s / 2 ^ i % 2) := by
        have l : s / 2 ^ i ≤ s := Nat.div_le_self _ _
        rw [pk_shrN hs _ i (ky_s31 i (by omega)), pk_andN (by omega) 1 (by decide)]
      have fin : ∀ (b : Nat) (ex' : Int32), b = s / 2 ^ i % 2 → ex'.toInt = ky_ex s (i + 1) → wY_evaluate_104 post J (nI (ks_ct (kx_g n rx ro cx co) 1 49 0)) x2 (nI s) h_n h_phase (d + 1) ex' (nI (i + 1)) b_cell b_old b_plain b_term b_next b_spot (upd cc x (nI (1 + b))) b_ends b_seen := by
        intro b ex' hb hex'
        refine ih (i + 1) ex' _ (by omega) hex' (fun y hy hty hyi => ?_)
        by_cases e : y = x
        · rw [e, pk_us, hxi, hb]
        · rw [pk_un e]
          refine hcc y hy hty ?_
          have ne : ks_ct (kx_g n rx ro cx co) 1 y 0 ≠ i := fun q => e (ks_ct_inj _ hty ht (by rw [q, hxi]))
          omega
      refine pk_le (ks_ct (kx_g n rx ro cx co) 1 49 0) i (fun q => by omega) (fun q => ?_)
      rw [bit]
      refine pk_eq (s / 2 ^ i % 2) 0 (fun m0 => ⟨pk_in i 49 (by omega), br_f (by decide) ?_⟩) (fun m0 => ⟨pk_in i 49 (by omega), br_t rfl ?_⟩)
      · rw [pk_cl i, sp]
        refine ⟨pk_in x 49 hx, nm_e (br_f (by decide) (nm_e (nm_r (nI_1 i) ?_)))⟩
        rw [pk_cl x]
        refine fin 0 _ m0.symm ?_
        show (ex + 1).toInt = ky_ex s i + (if s / 2 ^ i % 2 = 0 then 1 else -1)
        rw [if_pos m0, Jvm.Kit.i32_add (by rw [hex, show (1 : Int32).toInt = 1 from by decide]; omega) (by rw [hex, show (1 : Int32).toInt = 1 from by decide]; omega), hex]
        rfl
      · rw [pk_cl i, sp]
        refine ⟨pk_in x 49 hx, nm_e (br_t rfl (nm_e (nm_r (nI_1 i) ?_)))⟩
        rw [pk_cl x]
        refine fin 1 _ (by omega) ?_
        show (ex + (-1)).toInt = ky_ex s i + (if s / 2 ^ i % 2 = 0 then 1 else -1)
        rw [if_neg m0, Jvm.Kit.i32_add (by rw [hex, show (-1 : Int32).toInt = -1 from by decide]; omega) (by rw [hex, show (-1 : Int32).toInt = -1 from by decide]; omega), hex]
        rfl
  exact ⟨_, loop (ks_ct (kx_g n rx ro cx co) 1 49 0) 0 0 b_choice (by omega) rfl (fun x _ _ h => absurd h (Nat.not_lt_zero _))⟩
theorem yw_evaluate {post : Int32 → SY → Prop} (hn : h_n = nI n) (hp : ¬ h_phase = 0) (G : kx_ok n rx ro cx co) (C : ky_C n rx ro b_cell)
    (h1 : 10 < ks_ct (kx_g n rx ro cx co) 1 49 0 → ∀ sp : Nat → Int32, post (-7) (h_n, h_phase, b_cell, b_old, b_plain, b_term, b_next, sp, b_choice, b_ends, b_seen))
    (h2 : ks_ct (kx_g n rx ro cx co) 1 49 0 ≤ 10 → ∀ pl tm nx sp cc en se : Nat → Int32, (∀ j, j < 129 → pl j = ks_F (kx_g n rx ro cx co) 49 0 (fun j => j) (kl_W kl_1) j) → post 1 (h_n, 2, b_cell, b_old, pl, tm, nx, sp, cc, en, se)) : wpY_evaluate post (h_n, h_phase, b_cell, b_old, b_plain, b_term, b_next, b_spot, b_choice, b_ends, b_seen) := by
  have ok := kx_gok G
  have n7 := G.2.1
  have all : ∀ (sp en : Nat → Int32), ks_ct (kx_g n rx ro cx co) 1 49 0 ≤ 10 → (∀ e, e < 196 → (en e ≠ 0 ↔ kg_V (kx_g n rx ro cx co) e)) → (∀ x, x < 49 → kg_ty (kx_g n rx ro cx co) (x / 7) (x % 7) = 1 → sp (ks_ct (kx_g n rx ro cx co) 1 x 0) = nI x) →
      ∀ d s (pl tm nx cc se : Nat → Int32), s + d = 2 ^ ks_ct (kx_g n rx ro cx co) 1 49 0 → (∀ j, j < 129 → pl j = bx_sum (fun s => kl_W (kl_dN (ks_tc (kx_g n rx ro cx co) 49 0 s (fun j => j) - 1) (kl_s (ks_ex (kx_g n rx ro cx co) 49 0 s) kl_1)) j) s) →
        wY_evaluate_93 post (nI (ks_ct (kx_g n rx ro cx co) 1 49 0)) (nI (2 ^ ks_ct (kx_g n rx ro cx co) 1 49 0)) (d + 1) (nI s) h_n h_phase b_cell b_old pl tm nx sp cc en se := by
    intro sp en h10 EN SP d
    have pw : 2 ^ ks_ct (kx_g n rx ro cx co) 1 49 0 ≤ 2 ^ 10 := Nat.pow_le_pow_right (by omega) h10
    induction d with
    | zero =>
      intro s pl tm nx cc se hs hpl
      refine pk_le (2 ^ ks_ct (kx_g n rx ro cx co) 1 49 0) s (fun _ => h2 h10 pl tm nx sp cc en se (fun j hj => ?_)) (fun q => by omega)
      rw [hpl j hj, ks_total ok h10, show s = 2 ^ ks_ct (kx_g n rx ro cx co) 1 49 0 from by omega]
    | succ d ih =>
      intro s pl tm nx cc se hs hpl
      refine pk_le (2 ^ ks_ct (kx_g n rx ro cx co) 1 49 0) s (fun q => by omega) (fun q => yw_one G EN h10 (by omega) SP (fun pl' tm' nx' cc' se' hpl' => ih (s + 1) pl' tm' nx' cc' se' (by omega) (fun j hj => ?_)))
      rw [hpl' j hj, hpl j hj]
      rfl
  have clr : ∀ (sp en : Nat → Int32), ks_ct (kx_g n rx ro cx co) 1 49 0 ≤ 10 → (∀ e, e < 196 → (en e ≠ 0 ↔ kg_V (kx_g n rx ro cx co) e)) → (∀ x, x < 49 → kg_ty (kx_g n rx ro cx co) (x / 7) (x % 7) = 1 → sp (ks_ct (kx_g n rx ro cx co) 1 x 0) = nI x) →
      ∀ d k (pl : Nat → Int32), k + d = 129 → (∀ j, j < k → pl j = 0) → wY_evaluate_67 post (nI (ks_ct (kx_g n rx ro cx co) 1 49 0)) h_n h_phase (d + 1) (nI k) b_cell b_old pl b_term b_next sp b_choice en b_seen := by
    intro sp en h10 EN SP d
    induction d with
    | zero =>
      intro k pl hk hz
      refine pk_le 129 k (fun _ => nm_r (e' := nI (2 ^ ks_ct (kx_g n rx ro cx co) 1 49 0)) ?_ ⟨_, all sp en h10 EN SP (2 ^ ks_ct (kx_g n rx ro cx co) 1 49 0) 0 pl b_term b_next b_choice b_seen (by omega) (fun j hj => hz j (by omega))⟩) (fun q => by omega)
      have pw : 2 ^ ks_ct (kx_g n rx ro cx co) 1 49 0 ≤ 2 ^ 10 := Nat.pow_le_pow_right (by omega) h10
      rw [show (1 : Int32) = nI 1 from rfl, pk_shlN _ (ks_ct (kx_g n rx ro cx co) 1 49 0) (ky_s31 _ (by omega)) (by omega), Nat.one_mul]
    | succ d ih =>
      intro k pl hk hz
      refine pk_le 129 k (fun q => by omega) (fun q => ⟨pk_in k 129 (by omega), nm_e (nm_r (nI_1 k) (ih (k + 1) _ (by omega) (fun j hj => ?_)))⟩)
      rw [pk_cl k]
      by_cases e : j = k
      · rw [e, pk_us]
      · rw [pk_un e]; exact hz j (by omega)
  have cnt : ∀ d k (sp : Nat → Int32), k + d = 49 → (∀ x, x < k → kg_ty (kx_g n rx ro cx co) (x / 7) (x % 7) = 1 → sp (ks_ct (kx_g n rx ro cx co) 1 x 0) = nI x) → wY_evaluate_13 post h_n h_phase (d + 1) (nI (ks_ct (kx_g n rx ro cx co) 1 k 0)) (nI k) b_cell b_old b_plain b_term b_next sp b_choice b_ends b_seen := by
    intro d
    induction d with
    | zero =>
      intro k sp hk hsp
      have e : k = 49 := by omega
      subst e
      have l := ks_ct_le (kx_g n rx ro cx co) 1 49
      exact pk_le 49 49 (fun _ => pk_le (ks_ct (kx_g n rx ro cx co) 1 49 0) 10 (fun le => yw_draw hn G C (fun en EN => ⟨130, clr sp en le EN hsp 129 0 b_plain rfl (fun j hj => by omega)⟩)) (fun gt => h1 gt sp)) (fun q => by omega)
    | succ d ih =>
      intro k sp hk hsp
      have l := ks_ct_le (kx_g n rx ro cx co) 1 k
      have a := ks_ct1 (kx_g n rx ro cx co) 1 k
      refine pk_le 49 k (fun q => by omega) (fun q => ⟨by decide, by decide, yw_crossk hn hp G C (by omega) (br_c (fun z => nm_r (nI_1 k) ?_) (fun z => ⟨pk_in (ks_ct (kx_g n rx ro cx co) 1 k 0) 49 (by omega), nm_e (nm_r (e' := nI (ks_ct (kx_g n rx ro cx co) 1 (k + 1) 0)) ?_ (nm_r (nI_1 k) (ih (k + 1) _ (by omega) (fun x hx ht => ?_))))⟩))⟩)
      · rw [kx_wt G] at z
        have a' : ks_ct (kx_g n rx ro cx co) 1 (k + 1) 0 = ks_ct (kx_g n rx ro cx co) 1 k 0 := by rw [ks_ct1, if_neg z]; rfl
        rw [← a']
        refine ih (k + 1) sp (by omega) (fun x hx ht => ?_)
        by_cases e : x = k
        · rw [e] at ht; exact absurd ht z
        · exact hsp x (by omega) ht
      · rw [kx_wt G, Classical.not_not] at z
        rw [if_pos z] at a
        rw [a]; exact nI_1 _
      · rw [kx_wt G, Classical.not_not] at z
        rw [pk_cl (ks_ct (kx_g n rx ro cx co) 1 k 0)]
        by_cases e : x = k
        · rw [e, pk_us]
        · rw [pk_un (fun q => e (ks_ct_inj _ ht z q))]
          exact hsp x (by omega) ht
  exact br_f hp ⟨50, cnt 49 0 b_spot rfl (fun x hx => by omega)⟩
/-- components: straight strands -/
theorem yw_comp {post : Int32 → SY → Prop} (hn : h_n = nI n) (hp : ¬ h_phase = 0) (G : kx_ok n rx ro cx co) (C : ky_C n rx ro b_cell)
    (h : ∀ (N : Nat) (ch : Nat → Nat) (cc en se : Nat → Int32), (∀ x, x < 49 → ch x = 0) → kr_N (kg_V (kx_g n rx ro cx co)) kg_nb (kg_pt (kx_g n rx ro cx co) ch) N → post (nI N) (h_n, h_phase, b_cell, b_old, b_plain, b_term, b_next, b_spot, cc, en, se)) : wpY_components post (h_n, h_phase, b_cell, b_old, b_plain, b_term, b_next, b_spot, b_choice, b_ends, b_seen) := by
  have ok := kx_gok G
  have clr : ∀ d k (cc : Nat → Int32), k + d = 49 → (∀ j, j < k → cc j = 0) → wY_components_11 post h_n h_phase (d + 1) (nI k) b_cell b_old b_plain b_term b_next b_spot cc b_ends b_seen := by
    intro d
    induction d with
    | zero =>
      intro k cc hk hz
      refine pk_le 49 k (fun _ => yw_draw hn G C (fun en EN => yw_loops (ch := ky_ch cc) ok EN (fun k _ => ky_chp cc k) (fun N se hN => h N (ky_ch cc) cc en se (fun x hx => ?_) hN))) (fun q => by omega)
      unfold ky_ch
      rw [hz x (by omega), if_neg (by decide), if_neg (by decide)]
    | succ d ih =>
      intro k cc hk hz
      refine pk_le 49 k (fun q => by omega) (fun q => ⟨pk_in k 49 (by omega), nm_e (nm_r (nI_1 k) (ih (k + 1) _ (by omega) (fun j hj => ?_)))⟩)
      rw [pk_cl k]
      by_cases e : j = k
      · rw [e, pk_us]
      · rw [pk_un e]; exact hz j (by omega)
  exact br_f hp ⟨50, clr 49 0 b_choice rfl (fun j hj => by omega)⟩
end
end
section
/-! the component's components -/
theorem kx_or {m r : Nat} (hr : r < 7) : nI m ||| ((1 : Int32) <<< (nI r &&& 31)) = nI (m ||| 2 ^ r) := by
  have l : 2 ^ r ≤ 2 ^ 6 := Nat.pow_le_pow_right (by omega) (by omega)
  rw [show (1 : Int32) = nI 1 from rfl, pk_shlN _ r (ky_s31 r (by omega)) (by omega), Nat.one_mul, kb_or]
theorem kx_orl {m r : Nat} (hm : m < 128) (hr : r < 7) : m ||| 2 ^ r < 128 :=
  Nat.or_lt_two_pow (n := 7) hm (Nat.pow_lt_pow_right (by omega) hr)
theorem kx_orv {m r v : Nat} : (m ||| 2 ^ r).testBit v = true ↔ (m.testBit v = true ∨ v = r) := by
  rw [Nat.testBit_or, Nat.testBit_two_pow, Bool.or_eq_true, decide_eq_true_iff]
  exact ⟨fun q => q.elim Or.inl (fun q => Or.inr q.symm), fun q => q.elim Or.inl (fun q => Or.inr q.symm)⟩
theorem kx_tst : ∀ m, m < 128 → ∀ r, r < 7 → ((nI m &&& ((1 : Int32) <<< (nI r &&& 31))) = 0 ↔ ¬ m.testBit r = true) := by
  intro m hm r hr
  have z := co_dec (N := 896) (P := fun x => ((nI (x / 7) &&& ((1 : Int32) <<< (nI (x % 7) &&& 31))) = 0 ↔ ¬ (x / 7).testBit (x % 7) = true)) (by decide +kernel) (i := m * 7 + r) (by omega)
  rw [show (m * 7 + r) / 7 = m from by omega, show (m * 7 + r) % 7 = r from by omega] at z
  exact z
section
variable {f_reach f_width f_capacity f_slots f_hand f_n f_phase f_bank f_stateCount f_spareCount : Int32} {a_rowX a_rowO a_colX a_colO a_nextX a_nextO a_rowTo a_colTo a_partner a_keys a_poly a_plain a_normal : Nat → Int32} {n : Nat} {rx ro cx co : Nat → Nat}
theorem xw_follow {post : Int32 → Prop} {m x : Nat} (G : kx_A n rx ro cx co a_rowX a_rowO a_colX a_colO) (hn : f_n = nI n) (hm : m < 128) (hx : x < n)
    (h : ∀ m', m' < 128 → (∀ v, m'.testBit v = true ↔ (m.testBit v = true ∨ ∃ i, i < n ∧ v = kx_it (fun r => cx (ro r)) i x)) → post (nI m')) : wpX_followCurve post (f_reach, f_width, f_capacity, f_slots, f_hand, f_n, f_phase, f_bank, f_stateCount, f_spareCount, a_rowX, a_rowO, a_colX, a_colO, a_nextX, a_nextO, a_rowTo, a_colTo, a_partner, a_keys, a_poly, a_plain, a_normal) (nI x) (nI m) := by
  have n7 := G.1.2.1
  have lt : ∀ i, kx_it (fun r => cx (ro r)) i x < n := by
    intro i
    induction i with
    | zero => exact hx
    | succ i ih => exact (kx_ff G.1 _ ih).1
  have loop : ∀ d i m', i + d = n → m' < 128 → (∀ v, m'.testBit v = true ↔ (m.testBit v = true ∨ ∃ j, j < i ∧ v = kx_it (fun r => cx (ro r)) j x)) → wX_followCurve_8 post f_reach f_width f_capacity f_slots f_hand f_n f_phase f_bank f_stateCount f_spareCount a_rowX a_rowO a_colX a_colO a_nextX a_nextO a_rowTo a_colTo a_partner a_keys a_poly a_plain a_normal (d + 1) (nI m') (nI (kx_it (fun r => cx (ro r)) i x)) (nI i) := by
    intro d
    induction d with
    | zero =>
      intro i m' hi hm' hb
      refine pk_le n i (fun _ => h m' hm' ?_) (fun q => by omega) hn
      rw [show n = i from by omega]; exact hb
    | succ d ih =>
      intro i m' hi hm' hb
      have li := lt i
      have ga := kx_at G li
      have gb := kx_at G (r := ro (kx_it (fun r => cx (ro r)) i x)) ga.2.2.2.2.2.2.2.2.2.2.1
      refine pk_le n i (fun q => by omega) (fun q => nm_r (kx_or (by omega)) ⟨pk_in (kx_it (fun r => cx (ro r)) i x) 7 (by omega), ?_⟩) hn
      rw [pk_cl (kx_it (fun r => cx (ro r)) i x), ga.2.2.1]
      refine ⟨pk_in (ro (kx_it (fun r => cx (ro r)) i x)) 7 (by omega), nm_r (e' := nI (kx_it (fun r => cx (ro r)) (i + 1) x)) ?_ (nm_r (nI_1 i) (ih (i + 1) _ (by omega) (kx_orl hm' (by omega)) (fun v => ?_)))⟩
      · rw [pk_cl (ro (kx_it (fun r => cx (ro r)) i x)), gb.2.2.2.1]; rfl
      · rw [kx_orv, hb]
        constructor
        · intro q
          rcases q with (q | ⟨j, hj, q⟩) | q
          · exact Or.inl q
          · exact Or.inr ⟨j, by omega, q⟩
          · exact Or.inr ⟨i, by omega, q⟩
        · intro q
          rcases q with q | ⟨j, hj, q⟩
          · exact Or.inl (Or.inl q)
          · by_cases e : j = i
            · rw [e] at q; exact Or.inr q
            · exact Or.inl (Or.inr ⟨j, by omega, q⟩)
  exact ⟨n + 1, loop n 0 m (by omega) hm (fun v => ⟨fun q => Or.inl q, fun q => q.elim id (fun ⟨j, hj, _⟩ => by omega)⟩)⟩
theorem xw_comp {post : Int32 → Prop} (G : kx_A n rx ro cx co a_rowX a_rowO a_colX a_colO) (hn : f_n = nI n) (hp : ¬ f_phase = 0)
    (h : ∀ l : List Nat, kr_T (fun r => r < n) (kr_R (fun r => r < n) (fun r => cx (ro r)) (fun r => co (rx r))) l → post (nI l.length)) : wpX_components post (f_reach, f_width, f_capacity, f_slots, f_hand, f_n, f_phase, f_bank, f_stateCount, f_spareCount, a_rowX, a_rowO, a_colX, a_colO, a_nextX, a_nextO, a_rowTo, a_colTo, a_partner, a_keys, a_poly, a_plain, a_normal) := by
  have n7 := G.1.2.1
  have ff := kx_ff G.1
  have loop : ∀ d x m (l : List Nat), x + d = n → m < 128 → kw_O (fun r => r < n) (fun r => cx (ro r)) (fun r => co (rx r)) x (fun v => m.testBit v = true) l → wX_components_15 post f_reach f_width f_capacity f_slots f_hand f_n f_phase f_bank f_stateCount f_spareCount a_rowX a_rowO a_colX a_colO a_nextX a_nextO a_rowTo a_colTo a_partner a_keys a_poly a_plain a_normal (d + 1) (nI m) (nI l.length) (nI x) := by
    intro d
    induction d with
    | zero =>
      intro x m l hx hm O
      refine pk_le n x (fun _ => h l ⟨O.1, O.2.1, fun v hv => ?_⟩) (fun q => by omega) hn
      exact ((O.2.2.1 v).mp (O.2.2.2 v (by omega) hv)).2
    | succ d ih =>
      intro x m l hx hm O
      have t := kx_tst m hm x (by omega)
      refine pk_le n x (fun q => by omega) (fun q => br_c (fun z => nm_r (nI_1 _) (xw_follow G hn hm (by omega) (fun m' hm' hb => nm_r (nI_1 x) (ih (x + 1) m' (x :: l) (by omega) hm' ?_)))) (fun z => nm_r (nI_1 x) (ih (x + 1) m l (by omega) hm (kw_On O (fun _ => ?_))))) hn
      · refine kw_Os2 ff O (by omega) (t.mp z) (fun v => ?_)
        rw [hb v, kx_orb ff (by omega)]
      · exact Classical.byContradiction fun q => z (t.mpr q)
  refine br_f hp ⟨n + 1, loop n 0 0 [] (by omega) (by omega) (kw_O0 (fun v q => ?_))⟩
  rw [Nat.zero_testBit] at q
  exact absurd q (by decide)
end
end
section
/-! the component's moves: carrying marks and installing a grid -/
theorem kx_sur {n : Nat} {f : Nat → Nat} (hf : ∀ r, r < n → f r < n) (inj : ∀ a b, a < n → b < n → f a = f b → a = b) {c : Nat} (hc : c < n) : ∃ r, r < n ∧ f r = c := by
  refine Classical.byContradiction fun q => ?_
  have z := kn_ph n ((List.range n).erase c) f (fun i hi => (List.mem_erase_of_ne (fun e => q ⟨i, hi, e⟩)).mpr (List.mem_range.mpr (hf i hi))) (fun i j hij hj e => by
    have := inj i j (by omega) hj e; omega)
  rw [List.length_erase_of_mem (List.mem_range.mpr hc), List.length_range] at z
  omega
theorem kx_inv {n : Nat} {f : Nat → Nat} (hf : ∀ r, r < n → f r < n) (inj : ∀ a b, a < n → b < n → f a = f b → a = b) : ∃ f' : Nat → Nat, ∀ r, r < n → f' r < n ∧ f' (f r) = r ∧ f (f' r) = r := by
  have S : ∀ c, ∃ r, c < n → r < n ∧ f r = c := fun c => by
    by_cases hc : c < n
    · obtain ⟨r, h⟩ := kx_sur hf inj hc
      exact ⟨r, fun _ => h⟩
    · exact ⟨0, fun q => absurd q hc⟩
  refine ⟨fun c => Classical.choose (S c), fun r hr => ?_⟩
  have a := Classical.choose_spec (S r) hr
  have b := Classical.choose_spec (S (f r)) (hf r hr)
  exact ⟨a.1, inj _ _ b.1 hr b.2, a.2⟩
theorem kx_mk {n : Nat} {rx ro : Nat → Nat} (n2 : 2 ≤ n) (n7 : n ≤ 7) (h : ∀ r, r < n → rx r < n ∧ ro r < n ∧ rx r ≠ ro r) (i1 : ∀ a b, a < n → b < n → rx a = rx b → a = b) (i2 : ∀ a b, a < n → b < n → ro a = ro b → a = b) :
    ∃ cx co, kx_ok n rx ro cx co := by
  obtain ⟨cx, hx⟩ := kx_inv (fun r hr => (h r hr).1) i1
  obtain ⟨co, ho⟩ := kx_inv (fun r hr => (h r hr).2.1) i2
  exact ⟨cx, co, n2, n7, fun r hr => ⟨(h r hr).1, (h r hr).2.1, (hx r hr).1, (ho r hr).1, (hx r hr).2.1, (hx r hr).2.2, (ho r hr).2.1, (ho r hr).2.2, (h r hr).2.2⟩⟩
section
variable {f_reach f_width f_capacity f_slots f_hand f_n f_phase f_bank f_stateCount f_spareCount : Int32} {a_rowX a_rowO a_colX a_colO a_nextX a_nextO a_rowTo a_colTo a_partner a_keys a_poly a_plain a_normal : Nat → Int32}
theorem xw_derive {post : SX → Prop} {n : Nat} {rx ro cx co : Nat → Nat} (hn : f_n = nI n) (G : kx_ok n rx ro cx co) (hA : ∀ r, r < n → a_rowX r = nI (rx r) ∧ a_rowO r = nI (ro r))
    (h : ∀ C D : Nat → Int32, kx_A n rx ro cx co a_rowX a_rowO C D → post (f_reach, f_width, f_capacity, f_slots, f_hand, f_n, f_phase, f_bank, f_stateCount, f_spareCount, a_rowX, a_rowO, C, D, a_nextX, a_nextO, a_rowTo, a_colTo, a_partner, a_keys, a_poly, a_plain, a_normal)) : wpX_deriveColumns post (f_reach, f_width, f_capacity, f_slots, f_hand, f_n, f_phase, f_bank, f_stateCount, f_spareCount, a_rowX, a_rowO, a_colX, a_colO, a_nextX, a_nextO, a_rowTo, a_colTo, a_partner, a_keys, a_poly, a_plain, a_normal) := by
  have n7 := G.2.1
  have loop : ∀ d r (C D : Nat → Int32), r + d = n → (∀ j, j < r → C (rx j) = nI j ∧ D (ro j) = nI j) → wX_deriveColumns_2 post f_reach f_width f_capacity f_slots f_hand f_n f_phase f_bank f_stateCount f_spareCount (d + 1) (nI r) a_rowX a_rowO C D a_nextX a_nextO a_rowTo a_colTo a_partner a_keys a_poly a_plain a_normal := by
    intro d
    induction d with
    | zero =>
      intro r C D hr hC
      refine pk_le n r (fun _ => h C D ⟨G, fun j hj => ⟨(hA j hj).1, (hA j hj).2, ?_, ?_⟩⟩) (fun q => by omega) hn
      · have a := G.2.2 j hj
        have z := (hC (cx j) (by omega)).1
        rwa [a.2.2.2.2.2.1] at z
      · have a := G.2.2 j hj
        have z := (hC (co j) (by omega)).2
        rwa [a.2.2.2.2.2.2.2.1] at z
    | succ d ih =>
      intro r C D hr hC
      have a := G.2.2 r (by omega)
      have b := hA r (by omega)
      refine pk_le n r (fun q => by omega) (fun q => ⟨pk_in r 7 (by omega), ?_⟩) hn
      rw [pk_cl r, b.1, b.2]
      refine ⟨pk_in (rx r) 7 (by omega), nm_e ⟨pk_in r 7 (by omega), ⟨pk_in (ro r) 7 (by omega), nm_e (nm_r (nI_1 r) ?_)⟩⟩⟩
      rw [pk_cl (rx r), pk_cl (ro r)]
      refine ih (r + 1) _ _ (by omega) (fun j hj => ?_)
      by_cases e : j = r
      · rw [e, pk_us, pk_us]; exact ⟨rfl, rfl⟩
      · have aj := G.2.2 j (by omega)
        have n1 : rx j ≠ rx r := fun q => e (by rw [← aj.2.2.2.2.1, q, a.2.2.2.2.1])
        have n2 : ro j ≠ ro r := fun q => e (by rw [← aj.2.2.2.2.2.2.1, q, a.2.2.2.2.2.2.1])
        rw [pk_un n1, pk_un n2]
        exact hC j (by omega)
  exact ⟨n + 1, loop n 0 a_colX a_colO (by omega) (fun j hj => by omega)⟩
theorem xw_install {post : SX → Prop} {n : Nat} {nx no cx co : Nat → Nat} (G : kx_ok n nx no cx co) (hN : ∀ i, i < n → a_nextX i = nI (nx i) ∧ a_nextO i = nI (no i))
    (h : ∀ A B C D : Nat → Int32, kx_A n nx no cx co A B C D → post (f_reach, f_width, f_capacity, f_slots, f_hand, nI n, 1, f_bank, f_stateCount, f_spareCount, A, B, C, D, a_nextX, a_nextO, a_rowTo, a_colTo, a_partner, a_keys, a_poly, a_plain, a_normal)) : wpX_install post (f_reach, f_width, f_capacity, f_slots, f_hand, f_n, f_phase, f_bank, f_stateCount, f_spareCount, a_rowX, a_rowO, a_colX, a_colO, a_nextX, a_nextO, a_rowTo, a_colTo, a_partner, a_keys, a_poly, a_plain, a_normal) (nI n) := by
  have n7 := G.2.1
  have loop : ∀ d i (A B : Nat → Int32), i + d = 7 → (∀ j, j < i → j < n → A j = nI (nx j) ∧ B j = nI (no j)) → wX_install_7 post (nI n) f_reach f_width f_capacity f_slots f_hand (nI n) f_phase f_bank f_stateCount f_spareCount (d + 1) (nI i) A B a_colX a_colO a_nextX a_nextO a_rowTo a_colTo a_partner a_keys a_poly a_plain a_normal := by
    intro d
    induction d with
    | zero =>
      intro i A B hi hA
      exact pk_le 7 i (fun _ => xw_derive rfl G (fun r hr => hA r (by omega) hr) (fun C D K => h A B C D K)) (fun q => by omega)
    | succ d ih =>
      intro i A B hi hA
      refine pk_le 7 i (fun q => by omega) (fun q => pk_le n i (fun c => ⟨pk_in i 7 (by omega), nm_e (pk_le n i (fun c2 => ⟨pk_in i 7 (by omega), nm_e (nm_r (nI_1 i) ?_)⟩) (fun c2 => by omega))⟩) (fun c => ⟨pk_in i 7 (by omega), ⟨pk_in i 7 (by omega), nm_e (pk_le n i (fun c2 => by omega) (fun c2 => ⟨pk_in i 7 (by omega), pk_in i 7 (by omega), nm_e (nm_r (nI_1 i) ?_)⟩))⟩⟩))
      · rw [pk_cl i]
        refine ih (i + 1) _ _ (by omega) (fun j hj hjn => ?_)
        rw [pk_un (by omega), pk_un (by omega)]; exact hA j (by omega) hjn
      · rw [pk_cl i]
        refine ih (i + 1) _ _ (by omega) (fun j hj hjn => ?_)
        by_cases e : j = i
        · rw [e, pk_us, pk_us]; exact hN i (by omega)
        · rw [pk_un e, pk_un e]; exact hA j (by omega) hjn
  exact ⟨8, loop 7 0 a_rowX a_rowO rfl (fun j hj => by omega)⟩
theorem xw_place {post : SX → Prop} {kd v : Int32} {i : Nat} (hi : i < 7) (h1 : kd = 1 → post (f_reach, f_width, f_capacity, f_slots, f_hand, f_n, f_phase, f_bank, f_stateCount, f_spareCount, a_rowX, a_rowO, a_colX, a_colO, upd a_nextX i v, a_nextO, a_rowTo, a_colTo, a_partner, a_keys, a_poly, a_plain, a_normal)) (h2 : ¬ kd = 1 → post (f_reach, f_width, f_capacity, f_slots, f_hand, f_n, f_phase, f_bank, f_stateCount, f_spareCount, a_rowX, a_rowO, a_colX, a_colO, a_nextX, upd a_nextO i v, a_rowTo, a_colTo, a_partner, a_keys, a_poly, a_plain, a_normal)) : wpX_place post (f_reach, f_width, f_capacity, f_slots, f_hand, f_n, f_phase, f_bank, f_stateCount, f_spareCount, a_rowX, a_rowO, a_colX, a_colO, a_nextX, a_nextO, a_rowTo, a_colTo, a_partner, a_keys, a_poly, a_plain, a_normal) kd (nI i) v := by
  refine br_f (nI_pos (by omega)) (pk_lt i 7 (fun _ => br_c (fun e => ⟨pk_in i 7 hi, nm_e ?_⟩) (fun e => ⟨pk_in i 7 hi, nm_e ?_⟩)) (fun q => by omega))
  · rw [pk_cl i]; exact h1 e
  · rw [pk_cl i]; exact h2 e
/-- the mark of a row is dropped, or goes where the target has it -/
def kx_K (rt ct : Nat → Int32) (r x : Nat) (nx : Nat → Nat) : Prop := rt r < 0 ∨ (¬ rt r < 0 ∧ ct x < 0) ∨ ∃ i, i < 7 ∧ rt r = nI i ∧ ∃ v, v < 2 ^ 31 ∧ ct x = nI v ∧ nx i = v
theorem xw_carry {post : SX → Prop} {kd : Int32} {r x : Nat} {nx : Nat → Nat} (hr : r < 7) (hx : x < 7) (K : kx_K a_rowTo a_colTo r x nx)
    (h0 : (a_rowTo r < 0 ∨ a_colTo x < 0) → post (f_reach, f_width, f_capacity, f_slots, f_hand, f_n, f_phase, f_bank, f_stateCount, f_spareCount, a_rowX, a_rowO, a_colX, a_colO, a_nextX, a_nextO, a_rowTo, a_colTo, a_partner, a_keys, a_poly, a_plain, a_normal)) (h1 : kd = 1 → ∀ i, i < 7 → a_rowTo r = nI i → post (f_reach, f_width, f_capacity, f_slots, f_hand, f_n, f_phase, f_bank, f_stateCount, f_spareCount, a_rowX, a_rowO, a_colX, a_colO, upd a_nextX i (nI (nx i)), a_nextO, a_rowTo, a_colTo, a_partner, a_keys, a_poly, a_plain, a_normal))
    (h2 : ¬ kd = 1 → ∀ i, i < 7 → a_rowTo r = nI i → post (f_reach, f_width, f_capacity, f_slots, f_hand, f_n, f_phase, f_bank, f_stateCount, f_spareCount, a_rowX, a_rowO, a_colX, a_colO, a_nextX, upd a_nextO i (nI (nx i)), a_rowTo, a_colTo, a_partner, a_keys, a_poly, a_plain, a_normal)) : wpX_carry post (f_reach, f_width, f_capacity, f_slots, f_hand, f_n, f_phase, f_bank, f_stateCount, f_spareCount, a_rowX, a_rowO, a_colX, a_colO, a_nextX, a_nextO, a_rowTo, a_colTo, a_partner, a_keys, a_poly, a_plain, a_normal) kd (nI r) (nI x) := by
  refine ⟨pk_in r 7 hr, ?_⟩
  rw [pk_cl r]
  rcases K with k | k | ⟨i, hi, e1, v, hv, e2, e3⟩
  · exact br_t k (h0 (Or.inl k))
  · refine br_f k.1 ⟨pk_in x 7 hx, ?_⟩
    rw [pk_cl x]
    exact br_t k.2 (h0 (Or.inr k.2))
  · refine br_f (by rw [e1]; exact nI_pos (by omega)) ⟨pk_in x 7 hx, ?_⟩
    rw [pk_cl x]
    refine br_f (by rw [e2]; exact nI_pos hv) ⟨pk_in r 7 hr, pk_in x 7 hx, ?_⟩
    rw [e2, ← e3]
    have z : wpX_place (fun u => match u with | (f_reach, f_width, f_capacity, f_slots, f_hand, f_n, f_phase, f_bank, f_stateCount, f_spareCount, a_rowX, a_rowO, a_colX, a_colO, a_nextX, a_nextO, a_rowTo, a_colTo, a_partner, a_keys, a_poly, a_plain, a_normal) => post (f_reach, f_width, f_capacity, f_slots, f_hand, f_n, f_phase, f_bank, f_stateCount, f_spareCount, a_rowX, a_rowO, a_colX, a_colO, a_nextX, a_nextO, a_rowTo, a_colTo, a_partner, a_keys, a_poly, a_plain, a_normal)) (f_reach, f_width, f_capacity, f_slots, f_hand, f_n, f_phase, f_bank, f_stateCount, f_spareCount, a_rowX, a_rowO, a_colX, a_colO, a_nextX, a_nextO, a_rowTo, a_colTo, a_partner, a_keys, a_poly, a_plain, a_normal) kd (nI i) (nI (nx i)) := xw_place hi (fun e => h1 e i hi e1) (fun e => h2 e i hi e1)
    rw [← e1] at z
    exact z
theorem xw_carryAll {post : SX → Prop} {n : Nat} {rx ro nx no : Nat → Nat} (hn : f_n = nI n) (n7 : n ≤ 7) (hA : ∀ r, r < n → a_rowX r = nI (rx r) ∧ a_rowO r = nI (ro r) ∧ rx r < 7 ∧ ro r < 7)
    (KX : ∀ r, r < n → kx_K a_rowTo a_colTo r (rx r) nx) (KO : ∀ r, r < n → kx_K a_rowTo a_colTo r (ro r) no)
    (h : ∀ NX NO : Nat → Int32, (∀ r i, r < n → i < 7 → a_rowTo r = nI i → ¬ a_colTo (rx r) < 0 → NX i = nI (nx i)) → (∀ r i, r < n → i < 7 → a_rowTo r = nI i → ¬ a_colTo (ro r) < 0 → NO i = nI (no i)) → post (f_reach, f_width, f_capacity, f_slots, f_hand, f_n, f_phase, f_bank, f_stateCount, f_spareCount, a_rowX, a_rowO, a_colX, a_colO, NX, NO, a_rowTo, a_colTo, a_partner, a_keys, a_poly, a_plain, a_normal)) : wpX_carryAll post (f_reach, f_width, f_capacity, f_slots, f_hand, f_n, f_phase, f_bank, f_stateCount, f_spareCount, a_rowX, a_rowO, a_colX, a_colO, a_nextX, a_nextO, a_rowTo, a_colTo, a_partner, a_keys, a_poly, a_plain, a_normal) := by
  have neg : ∀ i, i < 7 → ∀ v : Int32, v = nI i → ¬ v < 0 := fun i hi v e => by rw [e]; exact nI_pos (by omega)
  have loop : ∀ d q (NX NO : Nat → Int32), q + d = n → (∀ r i, r < q → i < 7 → a_rowTo r = nI i → ¬ a_colTo (rx r) < 0 → NX i = nI (nx i)) → (∀ r i, r < q → i < 7 → a_rowTo r = nI i → ¬ a_colTo (ro r) < 0 → NO i = nI (no i)) →
      wX_carryAll_2 post (d + 1) (nI q) f_reach f_width f_capacity f_slots f_hand f_n f_phase f_bank f_stateCount f_spareCount a_rowX a_rowO a_colX a_colO NX NO a_rowTo a_colTo a_partner a_keys a_poly a_plain a_normal := by
    intro d
    induction d with
    | zero =>
      intro q NX NO hq h1 h2
      refine pk_le n q (fun _ => h NX NO ?_ ?_) (fun q => by omega) hn
      · rw [show n = q from by omega]; exact h1
      · rw [show n = q from by omega]; exact h2
    | succ d ih =>
      intro q NX NO hq h1 h2
      have a := hA q (by omega)
      have second : ∀ NX' : Nat → Int32, (∀ r i, r < q + 1 → i < 7 → a_rowTo r = nI i → ¬ a_colTo (rx r) < 0 → NX' i = nI (nx i)) →
          wpX_carry (fun u => match u with | (f_reach, f_width, f_capacity, f_slots, f_hand, f_n, f_phase, f_bank, f_stateCount, f_spareCount, a_rowX, a_rowO, a_colX, a_colO, a_nextX, a_nextO, a_rowTo, a_colTo, a_partner, a_keys, a_poly, a_plain, a_normal) => ∀ x1 : Int32, x1 = nI q + 1 → wX_carryAll_2 post (d + 1) x1 f_reach f_width f_capacity f_slots f_hand f_n f_phase f_bank f_stateCount f_spareCount a_rowX a_rowO a_colX a_colO a_nextX a_nextO a_rowTo a_colTo a_partner a_keys a_poly a_plain a_normal) (f_reach, f_width, f_capacity, f_slots, f_hand, f_n, f_phase, f_bank, f_stateCount, f_spareCount, a_rowX, a_rowO, a_colX, a_colO, NX', NO, a_rowTo, a_colTo, a_partner, a_keys, a_poly, a_plain, a_normal) 2 (nI q) (nI (ro q)) := by
        intro NX' h1'
        refine xw_carry (nx := no) (by omega) a.2.2.2 (KO q (by omega)) (fun dr => nm_r (nI_1 q) (ih (q + 1) NX' NO (by omega) h1' (fun r i hr hi e1 e2 => ?_))) (fun e => absurd e (by decide)) (fun _ i hi e1 => nm_r (nI_1 q) (ih (q + 1) NX' _ (by omega) h1' (fun r j hr hj f1 f2 => ?_)))
        · by_cases e : r = q
          · rw [e] at e1 e2
            rcases dr with dr | dr
            · exact absurd dr (neg i hi _ e1)
            · exact absurd dr e2
          · exact h2 r i (by omega) hi e1 e2
        · by_cases e : j = i
          · rw [e, pk_us]
          · rw [pk_un e]
            by_cases e' : r = q
            · rw [e'] at f1
              exact absurd ((nI_eq (by omega) (by omega)).mp (f1.symm.trans e1)) e
            · exact h2 r j (by omega) hj f1 f2
      refine pk_le n q (fun q => by omega) (fun _ => ⟨pk_in q 7 (by omega), ?_⟩) hn
      rw [pk_cl q, a.1]
      refine xw_carry (nx := nx) (by omega) a.2.2.1 (KX q (by omega)) (fun dr => ⟨pk_in q 7 (by omega), ?_⟩) (fun _ i hi e1 => ⟨pk_in q 7 (by omega), ?_⟩) (fun e => absurd rfl e)
      · rw [a.2.1]
        refine second NX (fun r i hr hi e1 e2 => ?_)
        by_cases e : r = q
        · rw [e] at e1 e2
          rcases dr with dr | dr
          · exact absurd dr (neg i hi _ e1)
          · exact absurd dr e2
        · exact h1 r i (by omega) hi e1 e2
      · rw [a.2.1]
        refine second _ (fun r j hr hj f1 f2 => ?_)
        by_cases e : j = i
        · rw [e, pk_us]
        · rw [pk_un e]
          by_cases e' : r = q
          · rw [e'] at f1
            exact absurd ((nI_eq (by omega) (by omega)).mp (f1.symm.trans e1)) e
          · exact h1 r j (by omega) hj f1 f2
  exact ⟨n + 1, loop n 0 a_nextX a_nextO (by omega) (fun r i hr => by omega) (fun r i hr => by omega)⟩
end
end
section
/-! the relation -/
/-- the reference's cells hold the marks of the rows -/
def ky_M (n : Nat) (A B cell : Nat → Int32) : Prop := ∀ r c, r < 7 → c < 7 → cell (r * 7 + c) = if r < n ∧ c < n then (if A r = nI c then 1 else if B r = nI c then 2 else 0) else 0
theorem ky_MC {n : Nat} {rx ro cx co : Nat → Nat} {A B C D cell : Nat → Int32} (K : kx_A n rx ro cx co A B C D) : ky_M n A B cell ↔ ky_C n rx ro cell := by
  have key : ∀ r c, r < 7 → c < 7 → ((if r < n ∧ c < n then (if A r = nI c then 1 else if B r = nI c then 2 else 0) else 0 : Int32) = if r < n ∧ c < n then (if c = rx r then 1 else if c = ro r then 2 else 0) else 0) := by
    intro r c hr hc
    by_cases q : r < n ∧ c < n
    · rw [if_pos q, if_pos q]
      have a := kx_at K q.1
      have e1 : A r = nI c ↔ c = rx r := by
        rw [a.2.1, nI_eq (by omega) (by omega)]; exact ⟨Eq.symm, Eq.symm⟩
      have e2 : B r = nI c ↔ c = ro r := by
        rw [a.2.2.1, nI_eq (by omega) (by omega)]; exact ⟨Eq.symm, Eq.symm⟩
      by_cases c1 : c = rx r
      · rw [if_pos (e1.mpr c1), if_pos c1]
      · rw [if_neg (fun z => c1 (e1.mp z)), if_neg c1]
        by_cases c2 : c = ro r
        · rw [if_pos (e2.mpr c2), if_pos c2]
        · rw [if_neg (fun z => c2 (e2.mp z)), if_neg c2]
    · rw [if_neg q, if_neg q]
  constructor
  · intro h r c hr hc; rw [h r c hr hc]; exact key r c hr hc
  · intro h r c hr hc; rw [h r c hr hc]; exact (key r c hr hc).symm
def kz_D (n : Nat) (A B : Nat → Int32) : Prop := ∀ r, r < n → (A r = -1 ∧ B r = -1) ∨ ∃ x o, A r = nI x ∧ B r = nI o ∧ x < n ∧ o < n ∧ x ≠ o
def kz_R (fn fp : Int32) (A B C D plain normal : Nat → Int32) (hn hp : Int32) (cell bplain : Nat → Int32) : Prop :=
  ∃ n, 2 ≤ n ∧ n ≤ 7 ∧ fn = nI n ∧ hn = nI n ∧ hp = fp ∧ ky_M n A B cell ∧
    ((fp = 0 ∧ kz_D n A B) ∨ ((fp = 1 ∨ fp = 2) ∧ ∃ rx ro cx co, kx_A n rx ro cx co A B C D ∧
      (fp = 2 → (∀ j, j < 129 → plain j = bplain j) ∧ ∀ k, k < 129 → normal k = kx_nm (bx_sum (kx_w n rx ro cx co) 49) plain k)))
def i_Rel (k : Nat) (u : SX) (v : SY) : Prop := match u with
  | (f_reach, f_width, f_capacity, f_slots, f_hand, f_n, f_phase, f_bank, f_stateCount, f_spareCount, a_rowX, a_rowO, a_colX, a_colO, a_nextX, a_nextO, a_rowTo, a_colTo, a_partner, a_keys, a_poly, a_plain, a_normal) => match v with
    | (h_n, h_phase, b_cell, b_old, b_plain, b_term, b_next, b_spot, b_choice, b_ends, b_seen) => kz_R f_n f_phase a_rowX a_rowO a_colX a_colO a_plain a_normal h_n h_phase b_cell b_plain ∧ k = k
theorem i_up {k : Nat} {u : SX} {v : SY} (h : i_Rel k u v) : i_Rel (k + 4) u v := by
  obtain ⟨f_reach, f_width, f_capacity, f_slots, f_hand, f_n, f_phase, f_bank, f_stateCount, f_spareCount, a_rowX, a_rowO, a_colX, a_colO, a_nextX, a_nextO, a_rowTo, a_colTo, a_partner, a_keys, a_poly, a_plain, a_normal⟩ := u
  obtain ⟨h_n, h_phase, b_cell, b_old, b_plain, b_term, b_next, b_spot, b_choice, b_ends, b_seen⟩ := v
  exact ⟨h.1, rfl⟩
/-- a new grid, phase 1 -/
theorem kz_new {n : Nat} {rx ro cx co : Nat → Nat} {A B C D plain normal cell bplain : Nat → Int32} (K : kx_A n rx ro cx co A B C D) (hc : ky_C n rx ro cell) : kz_R (nI n) 1 A B C D plain normal (nI n) 1 cell bplain :=
  ⟨n, K.1.1, K.1.2.1, rfl, rfl, rfl, (ky_MC K).mpr hc, Or.inr ⟨Or.inl rfl, rx, ro, cx, co, K, fun q => absurd q (by decide)⟩⟩
def ky_t (n : Nat) (rx ro : Nat → Nat) (i j : Nat) : Int32 := if i < n ∧ j < n then (if j = rx i then 1 else if j = ro i then 2 else 0) else 0
theorem ky_t0 {n : Nat} {rx ro : Nat → Nat} {i j : Nat} (h : ¬ (i < n ∧ j < n)) : ky_t n rx ro i j = 0 := if_neg h
theorem ky_tX {n : Nat} {rx ro : Nat → Nat} {i j : Nat} (h : i < n ∧ j < n) (e : j = rx i) : ky_t n rx ro i j = 1 := by unfold ky_t; rw [if_pos h, if_pos e]
theorem ky_tO {n : Nat} {rx ro : Nat → Nat} {i j : Nat} (h : i < n ∧ j < n) (e1 : j ≠ rx i) (e : j = ro i) : ky_t n rx ro i j = 2 := by unfold ky_t; rw [if_pos h, if_neg e1, if_pos e]
theorem ky_tN {n : Nat} {rx ro : Nat → Nat} {i j : Nat} (e1 : j ≠ rx i) (e : j ≠ ro i) : ky_t n rx ro i j = 0 := by
  unfold ky_t
  by_cases h : i < n ∧ j < n
  · rw [if_pos h, if_neg e1, if_neg e]
  · rw [if_neg h]
/-- equal marks, equal cells -/
theorem ky_tt {n n' : Nat} {rx ro rx' ro' : Nat → Nat} {i j i' j' : Nat} (h : i < n ∧ j < n) (h' : i' < n' ∧ j' < n') (e1 : j = rx i ↔ j' = rx' i') (e2 : j = ro i ↔ j' = ro' i') : ky_t n rx ro i j = ky_t n' rx' ro' i' j' := by
  unfold ky_t
  rw [if_pos h, if_pos h']
  by_cases c1 : j = rx i
  · rw [if_pos c1, if_pos (e1.mp c1)]
  · rw [if_neg c1, if_neg (fun z => c1 (e1.mpr z))]
    by_cases c2 : j = ro i
    · rw [if_pos c2, if_pos (e2.mp c2)]
    · rw [if_neg c2, if_neg (fun z => c2 (e2.mpr z))]
theorem kx_conj {n : Nat} {rx ro cx co : Nat → Nat} (G : kx_ok n rx ro cx co) {p p' k k' : Nat → Nat} (hp : ∀ r, r < n → p r < n ∧ p' r < n ∧ p' (p r) = r ∧ p (p' r) = r) (hk : ∀ r, r < n → k r < n ∧ k' r < n ∧ k' (k r) = r ∧ k (k' r) = r) :
    kx_ok n (fun i => k (rx (p' i))) (fun i => k (ro (p' i))) (fun c => p (cx (k' c))) (fun c => p (co (k' c))) := by
  refine ⟨G.1, G.2.1, fun r hr => ?_⟩
  have a := hp r hr
  have b := hk r hr
  have ga := G.2.2 (p' r) a.2.1
  have gb := G.2.2 (k' r) b.2.1
  refine ⟨(hk _ ga.1).1, (hk _ ga.2.1).1, (hp _ gb.2.2.1).1, (hp _ gb.2.2.2.1).1, ?_, ?_, ?_, ?_, ?_⟩
  · show p (cx (k' (k (rx (p' r))))) = r
    rw [(hk _ ga.1).2.2.1, ga.2.2.2.2.1, a.2.2.2]
  · show k (rx (p' (p (cx (k' r))))) = r
    rw [(hp _ gb.2.2.1).2.2.1, gb.2.2.2.2.2.1, b.2.2.2]
  · show p (co (k' (k (ro (p' r))))) = r
    rw [(hk _ ga.2.1).2.2.1, ga.2.2.2.2.2.2.1, a.2.2.2]
  · show k (ro (p' (p (co (k' r))))) = r
    rw [(hp _ gb.2.2.2.1).2.2.1, gb.2.2.2.2.2.2.2.1, b.2.2.2]
  · show k (rx (p' r)) ≠ k (ro (p' r))
    intro e
    refine ga.2.2.2.2.2.2.2.2 ?_
    rw [← (hk _ ga.1).2.2.1, e, (hk _ ga.2.1).2.2.1]
section
variable {h_n h_phase : Int32} {b_cell b_old b_plain b_term b_next b_spot b_choice b_ends b_seen : Nat → Int32}
theorem yw_save {post : SY → Prop} (h : ∀ cl ol : Nat → Int32, (∀ k, k < 49 → ol k = b_cell k ∧ cl k = 0) → post (h_n, h_phase, cl, ol, b_plain, b_term, b_next, b_spot, b_choice, b_ends, b_seen)) : wpY_saveAndClear post (h_n, h_phase, b_cell, b_old, b_plain, b_term, b_next, b_spot, b_choice, b_ends, b_seen) := by
  have loop : ∀ d k (cl ol : Nat → Int32), k + d = 49 → (∀ j, j < k → ol j = b_cell j ∧ cl j = 0) → (∀ j, k ≤ j → cl j = b_cell j) → wY_saveAndClear_2 post h_n h_phase (d + 1) (nI k) cl ol b_plain b_term b_next b_spot b_choice b_ends b_seen := by
    intro d
    induction d with
    | zero =>
      intro k cl ol hk h1 h2
      exact pk_le 49 k (fun _ => h cl ol (fun j hj => h1 j (by omega))) (fun q => by omega)
    | succ d ih =>
      intro k cl ol hk h1 h2
      refine pk_le 49 k (fun q => by omega) (fun q => ⟨pk_in k 49 (by omega), pk_in k 49 (by omega), nm_e ⟨pk_in k 49 (by omega), nm_e (nm_r (nI_1 k) ?_)⟩⟩)
      rw [pk_cl k]
      refine ih (k + 1) _ _ (by omega) (fun j hj => ?_) (fun j hj => ?_)
      · by_cases e : j = k
        · rw [e, pk_us, pk_us]; exact ⟨h2 k (Nat.le_refl _), rfl⟩
        · rw [pk_un e, pk_un e]; exact h1 j (by omega)
      · rw [pk_un (by omega)]; exact h2 j (by omega)
  exact ⟨50, loop 49 0 b_cell b_old rfl (fun j hj => by omega) (fun j _ => rfl)⟩
theorem yw_put {post : SY → Prop} {r c : Nat} {v : Int32} (hr : r < 7) (hc : c < 7) (h : post (h_n, h_phase, upd b_cell (r * 7 + c) v, b_old, b_plain, b_term, b_next, b_spot, b_choice, b_ends, b_seen)) : wpY_put post (h_n, h_phase, b_cell, b_old, b_plain, b_term, b_next, b_spot, b_choice, b_ends, b_seen) (nI r) (nI c) v := by
  have e : nI r * 7 + nI c = nI (r * 7 + c) := ky_ix r c
  unfold wpY_put
  dsimp only
  rw [e]
  refine ⟨pk_in (r * 7 + c) 49 (by omega), nm_e ?_⟩
  rw [pk_cl (r * 7 + c)]
  exact h
end
end
section
/-! the small calls -/
theorem kz_n1 (c : Nat) (hc : c < 7) : (-1 : Int32) ≠ nI c := by
  intro e
  have z := congrArg Int32.toInt e
  rw [nI_toInt (by omega)] at z
  have y : (-1 : Int32).toInt = -1 := by decide
  omega
theorem kz_new0 {n : Nat} {A B C D plain normal cell bplain : Nat → Int32} (n2 : 2 ≤ n) (n7 : n ≤ 7) (hA : ∀ i, i < 7 → A i = -1 ∧ B i = -1) (hc : ∀ k, k < 49 → cell k = 0) : kz_R (nI n) 0 A B C D plain normal (nI n) 0 cell bplain := by
  refine ⟨n, n2, n7, rfl, rfl, rfl, fun r c hr hcc => ?_, Or.inl ⟨rfl, fun r hr => Or.inl (hA r (by omega))⟩⟩
  rw [hc _ (by omega), (hA r hr).1, (hA r hr).2, if_neg (kz_n1 c hcc), if_neg (kz_n1 c hcc), ite_self]
theorem kz_clamp (v : Int32) (h1 : ¬ v < 2) (h2 : v ≤ 7) : ∃ n, 2 ≤ n ∧ n ≤ 7 ∧ v = nI n := by
  have a : ¬ v.toInt < (2 : Int32).toInt := fun z => h1 (Int32.lt_iff_toInt_lt.mpr z)
  have b := Int32.le_iff_toInt_le.mp h2
  rw [show (2 : Int32).toInt = 2 from by decide] at a
  rw [show (7 : Int32).toInt = 7 from by decide] at b
  refine ⟨v.toInt.toNat, by omega, by omega, Int32.toInt_inj.mp ?_⟩
  rw [nI_toInt (by omega)]
  omega
theorem i_vc0 (k0 : Int32) : wpX_init (fun u => wpY_init (fun v => i_Rel 1 u v) k0) k0 := by
  have fin : ∀ n, 2 ≤ n → n ≤ 7 → ∀ A B : Nat → Int32, (∀ i, i < 7 → A i = -1 ∧ B i = -1) → kz_R (nI n) 0 A B (fun _ => 0) (fun _ => 0) (fun _ => 0) (fun _ => 0) (nI n) 0 (fun _ => 0) (fun _ => 0) ∧ 1 = 1 :=
    fun n n2 n7 A B h => ⟨kz_new0 n2 n7 h (fun _ _ => rfl), rfl⟩
  by_cases c2 : 2 ≤ k0
  · by_cases c7 : k0 ≤ 7
    · obtain ⟨n, n2, n7, rfl⟩ := kz_clamp k0 (Int32.not_lt.mpr c2) c7
      exact br_t c2 (br_t c7 (xw_reset (fun b1 b2 hb => br_t c2 (br_t c7 (fin n n2 n7 b1 b2 hb)))))
    · exact br_t c2 (br_f c7 (xw_reset (fun b1 b2 hb => br_t c2 (br_f c7 (fin 7 (by omega) (by omega) b1 b2 hb)))))
  · exact br_f c2 (br_t (by decide) (xw_reset (fun b1 b2 hb => br_f c2 (fin 2 (by omega) (by omega) b1 b2 hb))))
theorem i_vc_begin {k : Nat} {u : SX} {v : SY} (I : i_Rel k u v) (hk : k + 4 ≤ 2049) (v1 : Int32) : wpX_begin (fun r u' => wpY_begin (fun r' v' => r' = r ∧ i_Rel (k + 4) u' v') v v1) u v1 := by
  obtain ⟨f_reach, f_width, f_capacity, f_slots, f_hand, f_n, f_phase, f_bank, f_stateCount, f_spareCount, a_rowX, a_rowO, a_colX, a_colO, a_nextX, a_nextO, a_rowTo, a_colTo, a_partner, a_keys, a_poly, a_plain, a_normal⟩ := u
  obtain ⟨h_n, h_phase, b_cell, b_old, b_plain, b_term, b_next, b_spot, b_choice, b_ends, b_seen⟩ := v
  by_cases c2 : v1 < 2
  · exact br_t c2 (br_t c2 ⟨rfl, I.1, rfl⟩)
  · by_cases c7 : v1 ≤ 7
    · obtain ⟨n, n2, n7, rfl⟩ := kz_clamp v1 c2 c7
      exact br_f c2 (br_t c7 (xw_reset (fun b1 b2 hb => br_f c2 (br_t c7 (yw_save (fun cl ol hc => ⟨rfl, kz_new0 n2 n7 hb (fun k hk => (hc k hk).2), rfl⟩))))))
    · exact br_f c2 (br_f c7 (br_f c2 (br_f c7 ⟨rfl, I.1, rfl⟩)))
theorem i_vc_size {k : Nat} {u : SX} {v : SY} (I : i_Rel k u v) (hk : k + 4 ≤ 2049) : wpX_size (fun r => wpY_size (fun r' => r' = r ∧ i_Rel (k + 4) u v) v) u := by
  obtain ⟨f_reach, f_width, f_capacity, f_slots, f_hand, f_n, f_phase, f_bank, f_stateCount, f_spareCount, a_rowX, a_rowO, a_colX, a_colO, a_nextX, a_nextO, a_rowTo, a_colTo, a_partner, a_keys, a_poly, a_plain, a_normal⟩ := u
  obtain ⟨h_n, h_phase, b_cell, b_old, b_plain, b_term, b_next, b_spot, b_choice, b_ends, b_seen⟩ := v
  obtain ⟨⟨n, n2, n7, e1, e2, rest⟩, _⟩ := id I
  exact ⟨e2.trans e1.symm, I.1, rfl⟩
theorem i_vc_phase {k : Nat} {u : SX} {v : SY} (I : i_Rel k u v) (hk : k + 4 ≤ 2049) : wpX_phase (fun r => wpY_phase (fun r' => r' = r ∧ i_Rel (k + 4) u v) v) u := by
  obtain ⟨f_reach, f_width, f_capacity, f_slots, f_hand, f_n, f_phase, f_bank, f_stateCount, f_spareCount, a_rowX, a_rowO, a_colX, a_colO, a_nextX, a_nextO, a_rowTo, a_colTo, a_partner, a_keys, a_poly, a_plain, a_normal⟩ := u
  obtain ⟨h_n, h_phase, b_cell, b_old, b_plain, b_term, b_next, b_spot, b_choice, b_ends, b_seen⟩ := v
  obtain ⟨⟨n, n2, n7, e1, e2, e3, rest⟩, _⟩ := id I
  exact ⟨e3, I.1, rfl⟩
/-- the reference's own checks of an index -/
theorem yc_out {P Q : Prop} {v m : Int32} (h : v < 0 ∨ m ≤ v) (p : P) : (v < 0 → P) ∧ (¬ v < 0 → ((m ≤ v → P) ∧ (¬ m ≤ v → Q))) := by
  by_cases c : v < 0
  · exact br_t c p
  · rcases h with h | h
    · exact absurd h c
    · exact br_f c (br_t h p)
theorem yc_in {P Q : Prop} {m : Int32} {n r : Nat} (hm : m = nI n) (n7 : n ≤ 7) (hr : r < n) (q : Q) : (nI r < 0 → P) ∧ (¬ nI r < 0 → ((m ≤ nI r → P) ∧ (¬ m ≤ nI r → Q))) :=
  br_f (nI_pos (by omega)) (pk_le n r (fun z => by omega) (fun _ => q) hm)
theorem yc_out' {P Q : Prop} {v m : Int32} (h : v < 0 ∨ m ≤ v) (p : P) : (v < 0 → P) ∧ (¬ v < 0 → ((v < m → Q) ∧ (¬ v < m → P))) := by
  by_cases c : v < 0
  · exact br_t c p
  · rcases h with h | h
    · exact absurd h c
    · exact br_f c (br_f (Int32.not_lt.mpr h) p)
theorem yc_in' {P Q : Prop} {m : Int32} {n r : Nat} (hm : m = nI n) (n7 : n ≤ 7) (hr : r < n) (q : Q) : (nI r < 0 → P) ∧ (¬ nI r < 0 → ((nI r < m → Q) ∧ (¬ nI r < m → P))) :=
  br_f (nI_pos (by omega)) (pk_lt r n (fun _ => q) (fun z => by omega) rfl hm)
theorem i_vc_mark {k : Nat} {u : SX} {v : SY} (I : i_Rel k u v) (hk : k + 4 ≤ 2049) (v1 : Int32) (v2 : Int32) : wpX_mark (fun r => wpY_mark (fun r' => r' = r ∧ i_Rel (k + 4) u v) v v1 v2) u v1 v2 := by
  obtain ⟨f_reach, f_width, f_capacity, f_slots, f_hand, f_n, f_phase, f_bank, f_stateCount, f_spareCount, a_rowX, a_rowO, a_colX, a_colO, a_nextX, a_nextO, a_rowTo, a_colTo, a_partner, a_keys, a_poly, a_plain, a_normal⟩ := u
  obtain ⟨h_n, h_phase, b_cell, b_old, b_plain, b_term, b_next, b_spot, b_choice, b_ends, b_seen⟩ := v
  obtain ⟨⟨n, n2, n7, e1, e2, e3, M, rest⟩, _⟩ := id I
  have I' : ∀ r : Int32, r = r ∧ i_Rel (k + 4) (f_reach, f_width, f_capacity, f_slots, f_hand, f_n, f_phase, f_bank, f_stateCount, f_spareCount, a_rowX, a_rowO, a_colX, a_colO, a_nextX, a_nextO, a_rowTo, a_colTo, a_partner, a_keys, a_poly, a_plain, a_normal) (h_n, h_phase, b_cell, b_old, b_plain, b_term, b_next, b_spot, b_choice, b_ends, b_seen) := fun r => ⟨rfl, I.1, rfl⟩
  have E : h_n = f_n := e2.trans e1.symm
  unfold wpX_mark
  dsimp only
  refine xw_outv e1 n7 v1 (fun r hr er => br_t rfl (xw_outv e1 n7 v2 (fun c hc ec => br_t rfl ?_) (fun ho => br_f (by decide) ?_))) (fun ho => br_f (by decide) ?_)
  · subst er; subst ec
    refine ⟨pk_in r 7 (by omega), ?_⟩
    rw [pk_cl r]
    have m := M r c (by omega) (by omega)
    rw [if_pos ⟨hr, hc⟩] at m
    have fin : ∀ x : Int32, b_cell (r * 7 + c) = x → wpY_mark (fun r' => r' = x ∧ i_Rel (k + 4) (f_reach, f_width, f_capacity, f_slots, f_hand, f_n, f_phase, f_bank, f_stateCount, f_spareCount, a_rowX, a_rowO, a_colX, a_colO, a_nextX, a_nextO, a_rowTo, a_colTo, a_partner, a_keys, a_poly, a_plain, a_normal) (h_n, h_phase, b_cell, b_old, b_plain, b_term, b_next, b_spot, b_choice, b_ends, b_seen)) (h_n, h_phase, b_cell, b_old, b_plain, b_term, b_next, b_spot, b_choice, b_ends, b_seen) (nI r) (nI c) := by
      intro x hx
      refine yc_in e2 n7 hr (yc_in' e2 n7 hc ?_)
      rw [ky_ix]
      refine ⟨pk_in (r * 7 + c) 49 (by omega), ?_⟩
      rw [pk_cl (r * 7 + c)]
      exact ⟨hx, I.1, rfl⟩
    refine br_c (fun z => ?_) (fun z => ⟨pk_in r 7 (by omega), br_c (fun z2 => ?_) (fun z2 => ?_)⟩)
    · rw [if_pos z] at m; exact fin 1 m
    · rw [if_neg z, if_pos z2] at m; exact fin 2 m
    · rw [if_neg z, if_neg z2] at m; exact fin 0 m
  · subst er
    rw [← E] at ho
    exact yc_in e2 n7 hr (yc_out' ho (I' 0))
  · rw [← E] at ho
    exact yc_out ho (I' 0)
/-- the phase is not 0: a grid -/
theorem kz_grid {fn fp : Int32} {A B C D plain normal : Nat → Int32} {hn hp : Int32} {cell bplain : Nat → Int32} (R : kz_R fn fp A B C D plain normal hn hp cell bplain) (hz : ¬ fp = 0) :
    ∃ n rx ro cx co, fn = nI n ∧ hn = nI n ∧ hp = fp ∧ kx_A n rx ro cx co A B C D ∧ ky_C n rx ro cell ∧ (fp = 2 → (∀ j, j < 129 → plain j = bplain j) ∧ ∀ k, k < 129 → normal k = kx_nm (bx_sum (kx_w n rx ro cx co) 49) plain k) := by
  obtain ⟨n, n2, n7, e1, e2, e3, M, q | q⟩ := R
  · exact absurd q.1 hz
  · obtain ⟨_, rx, ro, cx, co, K, P⟩ := q
    exact ⟨n, rx, ro, cx, co, e1, e2, e3, K, (ky_MC K).mp M, P⟩
theorem i_vc_crossing {k : Nat} {u : SX} {v : SY} (I : i_Rel k u v) (hk : k + 4 ≤ 2049) (v1 : Int32) (v2 : Int32) : wpX_crossing (fun r => wpY_crossing (fun r' => r' = r ∧ i_Rel (k + 4) u v) v v1 v2) u v1 v2 := by
  obtain ⟨f_reach, f_width, f_capacity, f_slots, f_hand, f_n, f_phase, f_bank, f_stateCount, f_spareCount, a_rowX, a_rowO, a_colX, a_colO, a_nextX, a_nextO, a_rowTo, a_colTo, a_partner, a_keys, a_poly, a_plain, a_normal⟩ := u
  obtain ⟨h_n, h_phase, b_cell, b_old, b_plain, b_term, b_next, b_spot, b_choice, b_ends, b_seen⟩ := v
  have I' : ∀ r : Int32, r = r ∧ i_Rel (k + 4) (f_reach, f_width, f_capacity, f_slots, f_hand, f_n, f_phase, f_bank, f_stateCount, f_spareCount, a_rowX, a_rowO, a_colX, a_colO, a_nextX, a_nextO, a_rowTo, a_colTo, a_partner, a_keys, a_poly, a_plain, a_normal) (h_n, h_phase, b_cell, b_old, b_plain, b_term, b_next, b_spot, b_choice, b_ends, b_seen) := fun r => ⟨rfl, I.1, rfl⟩
  by_cases hz : f_phase = 0
  · obtain ⟨⟨n, n2, n7, e1, e2, e3, M, rest⟩, _⟩ := id I
    exact br_t hz (br_t (e3.trans hz) (I' 0))
  · obtain ⟨n, rx, ro, cx, co, e1, e2, e3, K, C, P⟩ := kz_grid I.1 hz
    have n7 := K.1.2.1
    have hz' : ¬ h_phase = 0 := by rw [e3]; exact hz
    have E : h_n = f_n := e2.trans e1.symm
    refine br_f hz (xw_outv e1 n7 v1 (fun r hr er => br_t rfl (xw_outv e1 n7 v2 (fun c hc ec => br_t rfl ?_) (fun ho => br_f (by decide) ?_))) (fun ho => br_f (by decide) ?_))
    · subst er; subst ec
      exact xw_sign K hr hc (yw_cross e2 hz' K.1 C hr hc (I' _))
    · subst er
      rw [← E] at ho
      exact br_f hz' (yc_in e2 n7 hr (yc_out' ho (I' 0)))
    · rw [← E] at ho
      exact br_f hz' (yc_out ho (I' 0))
section
variable {f_reach f_width f_capacity f_slots f_hand f_n f_phase f_bank f_stateCount f_spareCount : Int32} {a_rowX a_rowO a_colX a_colO a_nextX a_nextO a_rowTo a_colTo a_partner a_keys a_poly a_plain a_normal : Nat → Int32}
theorem xw_writhe0 {post : Int32 → Prop} {n : Nat} (hn : f_n = nI n) (n7 : n ≤ 7) (hp : f_phase = 0) (h : post 0) : wpX_writhe post (f_reach, f_width, f_capacity, f_slots, f_hand, f_n, f_phase, f_bank, f_stateCount, f_spareCount, a_rowX, a_rowO, a_colX, a_colO, a_nextX, a_nextO, a_rowTo, a_colTo, a_partner, a_keys, a_poly, a_plain, a_normal) := by
  have inner : ∀ (J : Int32 → Int32 → Prop) r, J 0 (nI (r + 1)) → ∀ d c, c + d = n → wX_writhe_14 post J (nI r) f_reach f_width f_capacity f_slots f_hand f_n f_phase f_bank f_stateCount f_spareCount a_rowX a_rowO a_colX a_colO a_nextX a_nextO a_rowTo a_colTo a_partner a_keys a_poly a_plain a_normal (d + 1) 0 (nI c) := by
    intro J r hJ d
    induction d with
    | zero =>
      intro c hc
      exact pk_le n c (fun _ => nm_r (nI_1 r) hJ) (fun q => by omega) hn
    | succ d ih =>
      intro c hc
      exact pk_le n c (fun q => by omega) (fun q => br_t hp (nm_r (e' := 0) (by decide) (nm_r (nI_1 c) (ih (c + 1) (by omega))))) hn
  have outer : ∀ d r, r + d = n → wX_writhe_4 post f_reach f_width f_capacity f_slots f_hand f_n f_phase f_bank f_stateCount f_spareCount a_rowX a_rowO a_colX a_colO a_nextX a_nextO a_rowTo a_colTo a_partner a_keys a_poly a_plain a_normal (d + 1) 0 (nI r) := by
    intro d
    induction d with
    | zero =>
      intro r hr
      exact pk_le n r (fun _ => h) (fun q => by omega) hn
    | succ d ih =>
      intro r hr
      exact pk_le n r (fun q => by omega) (fun q => ⟨n + 1, inner _ r (ih (r + 1) (by omega)) n 0 (by omega)⟩) hn
  exact ⟨n + 1, outer n 0 (by omega)⟩
end
section
variable {h_n h_phase : Int32} {b_cell b_old b_plain b_term b_next b_spot b_choice b_ends b_seen : Nat → Int32}
theorem yw_writhe0 {post : Int32 → Prop} (hp : h_phase = 0) (h : post 0) : wpY_writhe post (h_n, h_phase, b_cell, b_old, b_plain, b_term, b_next, b_spot, b_choice, b_ends, b_seen) := by
  have loop : ∀ d k, k + d = 49 → wY_writhe_4 post h_n h_phase b_cell b_old b_plain b_term b_next b_spot b_choice b_ends b_seen (d + 1) 0 (nI k) := by
    intro d
    induction d with
    | zero =>
      intro k hk
      exact pk_le 49 k (fun _ => h) (fun q => by omega)
    | succ d ih =>
      intro k hk
      exact pk_le 49 k (fun q => by omega) (fun q => ⟨by decide, by decide, br_t hp (nm_r (e' := 0) (by decide) (nm_r (nI_1 k) (ih (k + 1) (by omega))))⟩)
  exact ⟨50, loop 49 0 (by omega)⟩
end
theorem i_vc_writhe {k : Nat} {u : SX} {v : SY} (I : i_Rel k u v) (hk : k + 4 ≤ 2049) : wpX_writhe (fun r => wpY_writhe (fun r' => r' = r ∧ i_Rel (k + 4) u v) v) u := by
  obtain ⟨f_reach, f_width, f_capacity, f_slots, f_hand, f_n, f_phase, f_bank, f_stateCount, f_spareCount, a_rowX, a_rowO, a_colX, a_colO, a_nextX, a_nextO, a_rowTo, a_colTo, a_partner, a_keys, a_poly, a_plain, a_normal⟩ := u
  obtain ⟨h_n, h_phase, b_cell, b_old, b_plain, b_term, b_next, b_spot, b_choice, b_ends, b_seen⟩ := v
  have I' : ∀ r : Int32, r = r ∧ i_Rel (k + 4) (f_reach, f_width, f_capacity, f_slots, f_hand, f_n, f_phase, f_bank, f_stateCount, f_spareCount, a_rowX, a_rowO, a_colX, a_colO, a_nextX, a_nextO, a_rowTo, a_colTo, a_partner, a_keys, a_poly, a_plain, a_normal) (h_n, h_phase, b_cell, b_old, b_plain, b_term, b_next, b_spot, b_choice, b_ends, b_seen) := fun r => ⟨rfl, I.1, rfl⟩
  by_cases hz : f_phase = 0
  · obtain ⟨⟨n, n2, n7, e1, e2, e3, M, rest⟩, _⟩ := id I
    exact xw_writhe0 e1 n7 hz (yw_writhe0 (e3.trans hz) (I' 0))
  · obtain ⟨n, rx, ro, cx, co, e1, e2, e3, K, C, P⟩ := kz_grid I.1 hz
    have hz' : ¬ h_phase = 0 := by rw [e3]; exact hz
    exact xw_writhe K e1 hz (yw_writhe e2 hz' K.1 C (I' _))
theorem i_vc_components {k : Nat} {u : SX} {v : SY} (I : i_Rel k u v) (hk : k + 4 ≤ 2049) : wpX_components (fun r => wpY_components (fun r' v' => r' = r ∧ i_Rel (k + 4) u v') v) u := by
  obtain ⟨f_reach, f_width, f_capacity, f_slots, f_hand, f_n, f_phase, f_bank, f_stateCount, f_spareCount, a_rowX, a_rowO, a_colX, a_colO, a_nextX, a_nextO, a_rowTo, a_colTo, a_partner, a_keys, a_poly, a_plain, a_normal⟩ := u
  obtain ⟨h_n, h_phase, b_cell, b_old, b_plain, b_term, b_next, b_spot, b_choice, b_ends, b_seen⟩ := v
  by_cases hz : f_phase = 0
  · obtain ⟨⟨n, n2, n7, e1, e2, e3, M, rest⟩, _⟩ := id I
    exact br_t hz (br_t (e3.trans hz) ⟨rfl, I.1, rfl⟩)
  · obtain ⟨n, rx, ro, cx, co, e1, e2, e3, K, C, P⟩ := kz_grid I.1 hz
    have hz' : ¬ h_phase = 0 := by rw [e3]; exact hz
    have ok := kx_gok K.1
    refine xw_comp K e1 hz (fun l hl => yw_comp e2 hz' K.1 C (fun N ch cc en se h0 hN => ⟨?_, I.1, rfl⟩))
    rw [kr_Nuniq (kg_nb_inv ok).1 (kg_pt_inv ok _).1 hN (kx_comp K.1 h0 hl)]
theorem i_vc_evaluate {k : Nat} {u : SX} {v : SY} (I : i_Rel k u v) (hk : k + 4 ≤ 2049) : wpX_evaluate (fun r u' => wpY_evaluate (fun r' v' => r' = r ∧ i_Rel (k + 4) u' v') v) u := by
  obtain ⟨f_reach, f_width, f_capacity, f_slots, f_hand, f_n, f_phase, f_bank, f_stateCount, f_spareCount, a_rowX, a_rowO, a_colX, a_colO, a_nextX, a_nextO, a_rowTo, a_colTo, a_partner, a_keys, a_poly, a_plain, a_normal⟩ := u
  obtain ⟨h_n, h_phase, b_cell, b_old, b_plain, b_term, b_next, b_spot, b_choice, b_ends, b_seen⟩ := v
  by_cases hz : f_phase = 0
  · obtain ⟨⟨n, n2, n7, e1, e2, e3, M, rest⟩, _⟩ := id I
    exact br_t hz (br_t (e3.trans hz) ⟨rfl, I.1, rfl⟩)
  · obtain ⟨n, rx, ro, cx, co, e1, e2, e3, K, C, P⟩ := kz_grid I.1 hz
    have hz' : ¬ h_phase = 0 := by rw [e3]; exact hz
    refine xw_evaluate K e1 hz (fun gt => yw_evaluate e2 hz' K.1 C (fun _ sp => ⟨rfl, I.1, rfl⟩) (fun le => by omega)) (fun le bk sc pa keys poly plain normal h1 h2 => yw_evaluate e2 hz' K.1 C (fun gt => by omega) (fun _ pl tm nx sp cc en se h3 => ⟨rfl, ?_, rfl⟩))
    exact ⟨n, K.1.1, K.1.2.1, e1, e2, rfl, (ky_MC K).mpr C, Or.inr ⟨Or.inr rfl, rx, ro, cx, co, K, fun _ => ⟨fun j hj => (h1 j hj).trans (h3 j hj).symm, h2⟩⟩⟩
/-- the sum of the signs is small -/
theorem kx_wb {n : Nat} {rx ro cx co : Nat → Nat} : ∀ m, ∃ x, x ≤ 2 * m ∧ bx_sum (kx_w n rx ro cx co) m = nI x - nI m := by
  intro m
  induction m with
  | zero => exact ⟨0, by omega, rfl⟩
  | succ m ih =>
    obtain ⟨x, hx, e⟩ := ih
    have w : kx_w n rx ro cx co m = 0 ∨ kx_w n rx ro cx co m = 1 ∨ kx_w n rx ro cx co m = -1 := by
      unfold kx_w
      split
      · by_cases c : kx_cr rx ro cx co (m / 7) (m % 7)
        · by_cases c2 : co (m % 7) < cx (m % 7) ↔ rx (m / 7) < ro (m / 7)
          · exact Or.inr (Or.inl (kx_sgp c c2))
          · exact Or.inr (Or.inr (kx_sgm c c2))
        · exact Or.inl (kx_sg0 c)
      · exact Or.inl rfl
    have s : bx_sum (kx_w n rx ro cx co) (m + 1) = bx_sum (kx_w n rx ro cx co) m + kx_w n rx ro cx co m := rfl
    rcases w with w | w | w
    · refine ⟨x + 1, by omega, ?_⟩
      rw [s, w, e, ← nI_1, ← nI_1]; grind
    · refine ⟨x + 2, by omega, ?_⟩
      rw [s, w, e, ← nI_1 m, show nI (x + 2) = nI x + 2 from (nI_add x 2).symm]; grind
    · refine ⟨x, by omega, ?_⟩
      rw [s, w, e, ← nI_1]; grind
theorem kx_par : ∀ x, x < 99 → ((nI x - nI 49) &&& 1 = 0 ↔ (nI x - nI 49) - (nI x - nI 49) / 2 * 2 = 0) := by
  intro x hx
  exact co_dec (N := 99) (P := fun x => ((nI x - nI 49) &&& 1 = 0 ↔ (nI x - nI 49) - (nI x - nI 49) / 2 * 2 = 0)) (by decide +kernel) hx
theorem kz_64 (v : Int32) (h1 : ¬ v < -64) (h2 : v ≤ 64) : ∃ k, k < 129 ∧ v = nI k - nI 64 ∧ v + 64 = nI k := by
  have a : ¬ v.toInt < (-64 : Int32).toInt := fun z => h1 (Int32.lt_iff_toInt_lt.mpr z)
  have b := Int32.le_iff_toInt_le.mp h2
  rw [show (-64 : Int32).toInt = -64 from by decide] at a
  rw [show (64 : Int32).toInt = 64 from by decide] at b
  have e : v = nI (v.toInt + 64).toNat - nI 64 := by
    apply Int32.toInt_inj.mp
    rw [pk_sub_toInt (by omega) (by omega)]
    omega
  refine ⟨(v.toInt + 64).toNat, by omega, e, ?_⟩
  generalize (v.toInt + 64).toNat = q at e
  rw [e, show (64 : Int32) = nI 64 from rfl]
  grind
theorem i_vc_bracket {k : Nat} {u : SX} {v : SY} (I : i_Rel k u v) (hk : k + 4 ≤ 2049) (v1 : Int32) : wpX_bracket (fun r => wpY_bracket (fun r' => r' = r ∧ i_Rel (k + 4) u v) v v1) u v1 := by
  obtain ⟨f_reach, f_width, f_capacity, f_slots, f_hand, f_n, f_phase, f_bank, f_stateCount, f_spareCount, a_rowX, a_rowO, a_colX, a_colO, a_nextX, a_nextO, a_rowTo, a_colTo, a_partner, a_keys, a_poly, a_plain, a_normal⟩ := u
  obtain ⟨h_n, h_phase, b_cell, b_old, b_plain, b_term, b_next, b_spot, b_choice, b_ends, b_seen⟩ := v
  have I' : ∀ r : Int32, r = r ∧ i_Rel (k + 4) (f_reach, f_width, f_capacity, f_slots, f_hand, f_n, f_phase, f_bank, f_stateCount, f_spareCount, a_rowX, a_rowO, a_colX, a_colO, a_nextX, a_nextO, a_rowTo, a_colTo, a_partner, a_keys, a_poly, a_plain, a_normal) (h_n, h_phase, b_cell, b_old, b_plain, b_term, b_next, b_spot, b_choice, b_ends, b_seen) := fun r => ⟨rfl, I.1, rfl⟩
  by_cases hz : f_phase = 2
  · obtain ⟨n, rx, ro, cx, co, e1, e2, e3, K, C, P⟩ := kz_grid I.1 (by rw [hz]; decide)
    have hz' : h_phase = 2 := e3.trans hz
    by_cases c1 : v1 < -64
    · exact br_t hz (br_t c1 (br_t hz' (br_t c1 (I' 0))))
    · by_cases c2 : v1 ≤ 64
      · obtain ⟨q, hq, _, e64⟩ := kz_64 v1 c1 c2
        have hin : vp_in (v1 + 64) 129 := by rw [e64]; exact pk_in q 129 hq
        refine br_t hz (br_f c1 (br_t c2 ⟨hin, br_t hz' (br_f c1 (br_t c2 ⟨hin, ?_, I.1, rfl⟩))⟩))
        rw [e64, pk_cl q]
        exact ((P hz).1 q hq).symm
      · exact br_t hz (br_f c1 (br_f c2 (br_t hz' (br_f c1 (br_f c2 (I' 0))))))
  · obtain ⟨⟨n, n2, n7, e1, e2, e3, M, rest⟩, _⟩ := id I
    have hz' : ¬ h_phase = 2 := by rw [e3]; exact hz
    exact br_f hz (br_f hz' (I' 0))
theorem i_vc_coefficient {k : Nat} {u : SX} {v : SY} (I : i_Rel k u v) (hk : k + 4 ≤ 2049) (v1 : Int32) : wpX_coefficient (fun r => wpY_coefficient (fun r' => r' = r ∧ i_Rel (k + 4) u v) v v1) u v1 := by
  obtain ⟨f_reach, f_width, f_capacity, f_slots, f_hand, f_n, f_phase, f_bank, f_stateCount, f_spareCount, a_rowX, a_rowO, a_colX, a_colO, a_nextX, a_nextO, a_rowTo, a_colTo, a_partner, a_keys, a_poly, a_plain, a_normal⟩ := u
  obtain ⟨h_n, h_phase, b_cell, b_old, b_plain, b_term, b_next, b_spot, b_choice, b_ends, b_seen⟩ := v
  have I' : ∀ r : Int32, r = r ∧ i_Rel (k + 4) (f_reach, f_width, f_capacity, f_slots, f_hand, f_n, f_phase, f_bank, f_stateCount, f_spareCount, a_rowX, a_rowO, a_colX, a_colO, a_nextX, a_nextO, a_rowTo, a_colTo, a_partner, a_keys, a_poly, a_plain, a_normal) (h_n, h_phase, b_cell, b_old, b_plain, b_term, b_next, b_spot, b_choice, b_ends, b_seen) := fun r => ⟨rfl, I.1, rfl⟩
  by_cases hz : f_phase = 2
  · obtain ⟨n, rx, ro, cx, co, e1, e2, e3, K, C, P⟩ := kz_grid I.1 (by rw [hz]; decide)
    have hz' : h_phase = 2 := e3.trans hz
    have hp' : ¬ h_phase = 0 := by rw [hz']; decide
    by_cases c1 : v1 < -64
    · exact br_t hz (br_t c1 (br_t hz' (br_t c1 (I' 0))))
    · by_cases c2 : v1 ≤ 64
      · obtain ⟨q, hq, ev, e64⟩ := kz_64 v1 c1 c2
        have hin : vp_in (v1 + 64) 129 := by rw [e64]; exact pk_in q 129 hq
        refine br_t hz (br_f c1 (br_t c2 ⟨hin, br_t hz' (br_f c1 (br_t c2 (yw_writhe e2 hp' K.1 C ?_)))⟩))
        rw [e64, pk_cl q, (P hz).2 q hq]
        obtain ⟨x, hx, eW⟩ := kx_wb (n := n) (rx := rx) (ro := ro) (cx := cx) (co := co) 49
        have par := kx_par x (by omega)
        rw [← eW] at par
        generalize bx_sum (kx_w n rx ro cx co) 49 = W at eW par ⊢
        have e3W : (3 : Int32) * W = nI (3 * x) - nI 147 := by
          rw [eW, ← pk_mul, show nI 147 = nI 3 * nI 49 from by rw [pk_mul], show (3 : Int32) = nI 3 from rfl]
          grind
        have eB : v1 + 3 * W = nI (q + 3 * x) - nI 211 := by
          rw [e3W, ev, ← nI_add, show nI 211 = nI 64 + nI 147 from by rw [nI_add]]
          grind
        have eT : nI q + 3 * W = nI (q + 3 * x) - nI 147 := by
          rw [e3W, ← nI_add]
          grind
        have eTB : v1 + 3 * W + 64 = nI q + 3 * W := by rw [← e64]; grind
        have iB : (v1 + 3 * W).toInt = ((q + 3 * x : Nat) : Int) - (211 : Nat) := by rw [eB, pk_sub_toInt (by omega) (by omega)]
        have iT : (nI q + 3 * W).toInt = ((q + 3 * x : Nat) : Int) - (147 : Nat) := by rw [eT, pk_sub_toInt (by omega) (by omega)]
        have l1 : v1 + 3 * W < -64 ↔ nI q + 3 * W < 0 := by
          rw [Int32.lt_iff_toInt_lt, Int32.lt_iff_toInt_lt, iB, iT, show (-64 : Int32).toInt = -64 from by decide, show (0 : Int32).toInt = 0 from by decide]
          omega
        have l2 : v1 + 3 * W ≤ 64 ↔ ¬ 129 ≤ nI q + 3 * W := by
          rw [Int32.le_iff_toInt_le, Int32.le_iff_toInt_le, iB, iT, show (64 : Int32).toInt = 64 from by decide, show (129 : Int32).toInt = 129 from by decide]
          omega
        have fin : ∀ r : Int32, kx_nm W a_plain q = (if W &&& 1 = 0 then 1 else -1) * r → (((W - W / 2 * 2) = 0 → (r = kx_nm W a_plain q ∧ i_Rel (k + 4) (f_reach, f_width, f_capacity, f_slots, f_hand, f_n, f_phase, f_bank, f_stateCount, f_spareCount, a_rowX, a_rowO, a_colX, a_colO, a_nextX, a_nextO, a_rowTo, a_colTo, a_partner, a_keys, a_poly, a_plain, a_normal) (h_n, h_phase, b_cell, b_old, b_plain, b_term, b_next, b_spot, b_choice, b_ends, b_seen))) ∧ (¬ (W - W / 2 * 2) = 0 → (-r = kx_nm W a_plain q ∧ i_Rel (k + 4) (f_reach, f_width, f_capacity, f_slots, f_hand, f_n, f_phase, f_bank, f_stateCount, f_spareCount, a_rowX, a_rowO, a_colX, a_colO, a_nextX, a_nextO, a_rowTo, a_colTo, a_partner, a_keys, a_poly, a_plain, a_normal) (h_n, h_phase, b_cell, b_old, b_plain, b_term, b_next, b_spot, b_choice, b_ends, b_seen)))) := by
          intro r hr
          refine br_c (fun z => ⟨?_, I.1, rfl⟩) (fun z => ⟨?_, I.1, rfl⟩)
          · rw [hr, if_pos (par.mpr z)]; grind
          · rw [hr, if_neg (fun y => z (par.mp y))]; grind
        by_cases d1 : v1 + 3 * W < -64
        · refine br_t hz' (br_t d1 ⟨by decide, fin 0 ?_⟩)
          unfold kx_nm
          rw [if_pos (l1.mp d1)]; grind
        · by_cases d2 : v1 + 3 * W ≤ 64
          · have t1 : ¬ nI q + 3 * W < 0 := fun z => d1 (l1.mpr z)
            have t2 := l2.mp d2
            obtain ⟨j, hj, ej⟩ : ∃ j, j < 129 ∧ nI q + 3 * W = nI j := by
              refine ⟨(nI q + 3 * W).toInt.toNat, ?_, ?_⟩
              · have a : ¬ (nI q + 3 * W).toInt < (0 : Int32).toInt := fun z => t1 (Int32.lt_iff_toInt_lt.mpr z)
                have b : ¬ (129 : Int32).toInt ≤ (nI q + 3 * W).toInt := fun z => t2 (Int32.le_iff_toInt_le.mpr z)
                rw [show (0 : Int32).toInt = 0 from by decide] at a
                rw [show (129 : Int32).toInt = 129 from by decide] at b
                omega
              · have a : ¬ (nI q + 3 * W).toInt < (0 : Int32).toInt := fun z => t1 (Int32.lt_iff_toInt_lt.mpr z)
                rw [show (0 : Int32).toInt = 0 from by decide] at a
                apply Int32.toInt_inj.mp
                rw [nI_toInt (by omega)]
                omega
            have hin2 : vp_in (v1 + 3 * W + 64) 129 := by rw [eTB, ej]; exact pk_in j 129 hj
            refine br_t hz' (br_f d1 (br_t d2 ⟨hin2, ⟨by decide, ?_⟩⟩))
            rw [eTB]
            refine fin _ ?_
            unfold kx_nm
            rw [if_neg t1, if_neg t2, ej, pk_cl j, (P hz).1 j hj]
          · refine br_t hz' (br_f d1 (br_f d2 ⟨by decide, fin 0 ?_⟩))
            unfold kx_nm
            have t2 : 129 ≤ nI q + 3 * W := Classical.byContradiction fun z => d2 (l2.mpr z)
            rw [if_neg (fun z => d1 (l1.mpr z)), if_pos t2]; grind
      · exact br_t hz (br_f c1 (br_f c2 (br_t hz' (br_f c1 (br_f c2 (I' 0))))))
  · obtain ⟨⟨n, n2, n7, e1, e2, e3, M, rest⟩, _⟩ := id I
    have hz' : ¬ h_phase = 2 := by rw [e3]; exact hz
    exact br_f hz (br_f hz' (I' 0))
end
section
/-! setRow -/
section
variable {h_n h_phase : Int32} {b_cell b_old b_plain b_term b_next b_spot b_choice b_ends b_seen : Nat → Int32}
theorem yw_setRow {post : Int32 → SY → Prop} {n r x o : Nat} (hn : h_n = nI n) (n7 : n ≤ 7) (hr : r < n) (hx : x < n) (ho : o < n) (hxo : x ≠ o)
    (h : ∀ cl : Nat → Int32, (∀ i j, i < 7 → j < 7 → i ≠ r → cl (i * 7 + j) = b_cell (i * 7 + j)) → (∀ j, j < n → cl (r * 7 + j) = if j = x then 1 else if j = o then 2 else 0) → (∀ j, n ≤ j → j < 7 → cl (r * 7 + j) = b_cell (r * 7 + j)) → post 1 (h_n, h_phase, cl, b_old, b_plain, b_term, b_next, b_spot, b_choice, b_ends, b_seen)) :
    ∃ q, wY_setRow_56 post (nI r) (nI x) (nI o) q 0 h_n h_phase b_cell b_old b_plain b_term b_next b_spot b_choice b_ends b_seen := by
  have loop : ∀ d c (cl : Nat → Int32), c + d = n → (∀ i j, i < 7 → j < 7 → i ≠ r → cl (i * 7 + j) = b_cell (i * 7 + j)) → (∀ j, j < c → cl (r * 7 + j) = 0) → (∀ j, n ≤ j → j < 7 → cl (r * 7 + j) = b_cell (r * 7 + j)) →
      wY_setRow_56 post (nI r) (nI x) (nI o) (d + 1) (nI c) h_n h_phase cl b_old b_plain b_term b_next b_spot b_choice b_ends b_seen := by
    intro d
    induction d with
    | zero =>
      intro c cl hc h1 h2 h3
      refine pk_le n c (fun _ => yw_put (by omega) (by omega) (yw_put (by omega) (by omega) (h _ (fun i j hi hj hne => ?_) (fun j hj => ?_) (fun j hj hj7 => ?_)))) (fun q => by omega) hn
      · rw [pk_un (by omega), pk_un (by omega)]; exact h1 i j hi hj hne
      · by_cases e : j = o
        · rw [e, pk_us, if_neg (Ne.symm hxo), if_pos rfl]
        · rw [pk_un (by omega), if_neg e]
          by_cases e2 : j = x
          · rw [e2, pk_us, if_pos rfl]
          · rw [pk_un (by omega), if_neg e2]; exact h2 j (by omega)
      · rw [pk_un (by omega), pk_un (by omega)]; exact h3 j hj hj7
    | succ d ih =>
      intro c cl hc h1 h2 h3
      refine pk_le n c (fun q => by omega) (fun q => yw_put (by omega) (by omega) (nm_r (nI_1 c) (ih (c + 1) _ (by omega) (fun i j hi hj hne => ?_) (fun j hj => ?_) (fun j hj hj7 => ?_)))) hn
      · rw [pk_un (by omega)]; exact h1 i j hi hj hne
      · by_cases e : j = c
        · rw [e, pk_us]
        · rw [pk_un (by omega)]; exact h2 j (by omega)
      · rw [pk_un (by omega)]; exact h3 j hj hj7
  exact ⟨n + 1, loop n 0 b_cell (by omega) (fun i j _ _ _ => rfl) (fun j hj => by omega) (fun j _ _ => rfl)⟩
end
theorem i_vc_setRow {k : Nat} {u : SX} {v : SY} (I : i_Rel k u v) (hk : k + 4 ≤ 2049) (v1 : Int32) (v2 : Int32) (v3 : Int32) : wpX_setRow (fun r u' => wpY_setRow (fun r' v' => r' = r ∧ i_Rel (k + 4) u' v') v v1 v2 v3) u v1 v2 v3 := by
  obtain ⟨f_reach, f_width, f_capacity, f_slots, f_hand, f_n, f_phase, f_bank, f_stateCount, f_spareCount, a_rowX, a_rowO, a_colX, a_colO, a_nextX, a_nextO, a_rowTo, a_colTo, a_partner, a_keys, a_poly, a_plain, a_normal⟩ := u
  obtain ⟨h_n, h_phase, b_cell, b_old, b_plain, b_term, b_next, b_spot, b_choice, b_ends, b_seen⟩ := v
  have I' : ∀ r : Int32, r = r ∧ i_Rel (k + 4) (f_reach, f_width, f_capacity, f_slots, f_hand, f_n, f_phase, f_bank, f_stateCount, f_spareCount, a_rowX, a_rowO, a_colX, a_colO, a_nextX, a_nextO, a_rowTo, a_colTo, a_partner, a_keys, a_poly, a_plain, a_normal) (h_n, h_phase, b_cell, b_old, b_plain, b_term, b_next, b_spot, b_choice, b_ends, b_seen) := fun r => ⟨rfl, I.1, rfl⟩
  obtain ⟨⟨n, n2, n7, e1, e2, e3, M, dj⟩, _⟩ := id I
  have E : h_n = f_n := e2.trans e1.symm
  by_cases hz : f_phase = 0
  · have hz' : h_phase = 0 := e3.trans hz
    have D : kz_D n a_rowX a_rowO := by
      rcases dj with q | q
      · exact q.2
      · rcases q.1 with z | z
        · rw [hz] at z; exact absurd z (by decide)
        · rw [hz] at z; exact absurd z (by decide)
    refine br_t hz (xw_outv e1 n7 v1 (fun r hr er => br_t rfl (xw_outv e1 n7 v2 (fun x hx ex => br_t rfl (xw_outv e1 n7 v3 (fun o ho eo => br_t rfl ?_) (fun q => br_f (by decide) ?_))) (fun q => br_f (by decide) ?_))) (fun q => br_f (by decide) ?_))
    · subst er; subst ex; subst eo
      refine pk_eq x o (fun e => ?_) (fun e => ⟨pk_in r 7 (by omega), nm_e ⟨pk_in r 7 (by omega), nm_e ?_⟩⟩)
      · exact br_t hz' (yc_in e2 n7 hr (yc_in e2 n7 hx (yc_in e2 n7 ho (br_t (by rw [e]) (I' _)))))
      · rw [pk_cl r]
        have ne : ¬ nI x = nI o := fun q => e ((nI_eq (by omega) (by omega)).mp q)
        refine br_t hz' (yc_in e2 n7 hr (yc_in e2 n7 hx (yc_in e2 n7 ho (br_f ne (yw_setRow e2 n7 hr hx ho e (fun cl c1 c2 c3 => ⟨rfl, ?_, rfl⟩))))))
        refine ⟨n, n2, n7, e1, e2, e3, fun i j hi hj => ?_, Or.inl ⟨hz, fun i hi => ?_⟩⟩
        · by_cases q : i = r
          · rw [q, pk_us, pk_us]
            by_cases jn : j < n
            · rw [if_pos ⟨hr, jn⟩, c2 j jn]
              have f1 : (nI x = nI j) ↔ j = x := by rw [nI_eq (by omega) (by omega)]; exact ⟨Eq.symm, Eq.symm⟩
              have f2 : (nI o = nI j) ↔ j = o := by rw [nI_eq (by omega) (by omega)]; exact ⟨Eq.symm, Eq.symm⟩
              by_cases g1 : j = x
              · rw [if_pos g1, if_pos (f1.mpr g1)]
              · rw [if_neg g1, if_neg (fun z => g1 (f1.mp z))]
                by_cases g2 : j = o
                · rw [if_pos g2, if_pos (f2.mpr g2)]
                · rw [if_neg g2, if_neg (fun z => g2 (f2.mp z))]
            · rw [if_neg (fun z => jn z.2), c3 j (by omega) hj, M r j (by omega) hj, if_neg (fun z => jn z.2)]
          · rw [pk_un q, pk_un q, c1 i j hi hj q]; exact M i j hi hj
        · by_cases q : i = r
          · rw [q, pk_us, pk_us]; exact Or.inr ⟨x, o, rfl, rfl, hx, ho, e⟩
          · rw [pk_un q, pk_un q]; exact D i hi
    · subst er; subst ex
      rw [← E] at q
      exact br_t hz' (yc_in e2 n7 hr (yc_in e2 n7 hx (yc_out q (I' _))))
    · subst er
      rw [← E] at q
      exact br_t hz' (yc_in e2 n7 hr (yc_out q (I' _)))
    · rw [← E] at q
      exact br_t hz' (yc_out q (I' _))
  · have hz' : ¬ h_phase = 0 := by rw [e3]; exact hz
    exact br_f hz (br_f hz' (I' _))
/-! commit -/
def kc_n (f : Nat → Nat) (c : Nat) : Nat → Nat
  | 0 => 0
  | r + 1 => kc_n f c r + (if f r = c then 1 else 0)
theorem kc_le (f : Nat → Nat) (c : Nat) : ∀ m, kc_n f c m ≤ m := by
  intro m
  induction m with
  | zero => exact Nat.le_refl 0
  | succ m ih => show kc_n f c m + (if f m = c then 1 else 0) ≤ m + 1; split <;> omega
theorem kc_0 {f : Nat → Nat} {c : Nat} : ∀ m, (∀ r, r < m → f r ≠ c) → kc_n f c m = 0 := by
  intro m
  induction m with
  | zero => intro _; rfl
  | succ m ih =>
    intro h
    show kc_n f c m + (if f m = c then 1 else 0) = 0
    rw [ih (fun r hr => h r (by omega)), if_neg (h m (by omega))]
theorem kc_1 {f : Nat → Nat} {c : Nat} : ∀ m, (∀ a b, a < m → b < m → f a = f b → a = b) → (∃ r, r < m ∧ f r = c) → kc_n f c m = 1 := by
  intro m
  induction m with
  | zero => intro _ h; obtain ⟨r, hr, _⟩ := h; omega
  | succ m ih =>
    intro inj h
    show kc_n f c m + (if f m = c then 1 else 0) = 1
    by_cases e : f m = c
    · rw [if_pos e, kc_0 m (fun r hr q => by have := inj r m (by omega) (by omega) (q.trans e.symm); omega)]
    · rw [if_neg e]
      obtain ⟨r, hr, hf⟩ := h
      have rm : r ≠ m := fun q => e (by rw [← q]; exact hf)
      exact ih (fun a b ha hb => inj a b (by omega) (by omega)) ⟨r, by omega, hf⟩
theorem kc_ge {f : Nat → Nat} {c : Nat} : ∀ m, (∃ r, r < m ∧ f r = c) → 1 ≤ kc_n f c m := by
  intro m
  induction m with
  | zero => intro h; obtain ⟨r, hr, _⟩ := h; omega
  | succ m ih =>
    intro h
    show 1 ≤ kc_n f c m + (if f m = c then 1 else 0)
    by_cases e : f m = c
    · rw [if_pos e]; omega
    · obtain ⟨r, hr, hf⟩ := h
      have rm : r ≠ m := fun q => e (by rw [← q]; exact hf)
      have := ih ⟨r, by omega, hf⟩
      omega
theorem kc_2 {f : Nat → Nat} {c a b : Nat} (hab : a < b) (ha : f a = c) (hb : f b = c) : ∀ m, b < m → 2 ≤ kc_n f c m := by
  intro m
  induction m with
  | zero => intro h; omega
  | succ m ih =>
    intro h
    show 2 ≤ kc_n f c m + (if f m = c then 1 else 0)
    by_cases e : b = m
    · have z := kc_ge (f := f) (c := c) m ⟨a, by omega, ha⟩
      rw [← e, if_pos hb]
      rw [← e] at z; omega
    · have := ih (by omega); omega
/-- every column has one mark: the rows' marks differ -/
theorem kc_inj {f : Nat → Nat} {n : Nat} (hf : ∀ r, r < n → f r < n) (h : ∀ c, c < n → kc_n f c n = 1) : ∀ a b, a < n → b < n → f a = f b → a = b := by
  intro a b ha hb e
  rcases Nat.lt_trichotomy a b with l | l | l
  · have z := kc_2 l rfl e.symm n hb
    have y := h _ (hf a ha)
    omega
  · exact l
  · have z := kc_2 l rfl e n ha
    have y := h _ (hf b hb)
    omega
theorem kc_sur_inj {f : Nat → Nat} {n : Nat} (hf : ∀ r, r < n → f r < n) (h : ∀ c, c < n → ∃ r, r < n ∧ f r = c) : ∀ a b, a < n → b < n → f a = f b → a = b := by
  have S : ∀ c, ∃ r, c < n → r < n ∧ f r = c := fun c => by
    by_cases hc : c < n
    · obtain ⟨r, q⟩ := h c hc
      exact ⟨r, fun _ => q⟩
    · exact ⟨0, fun q => absurd q hc⟩
  have gs : ∀ c, c < n → Classical.choose (S c) < n ∧ f (Classical.choose (S c)) = c := fun c hc => Classical.choose_spec (S c) hc
  intro a b ha hb e
  have inj : ∀ x y, x < n → y < n → Classical.choose (S x) = Classical.choose (S y) → x = y := fun x y hx hy q => by
    rw [← (gs x hx).2, q, (gs y hy).2]
  obtain ⟨x, hx, ex⟩ := kx_sur (fun r hr => (gs r hr).1) inj ha
  obtain ⟨y, hy, ey⟩ := kx_sur (fun r hr => (gs r hr).1) inj hb
  have fx := (gs x hx).2
  have fy := (gs y hy).2
  rw [ex] at fx
  rw [ey] at fy
  rw [← ex, ← ey]
  have : x = y := by rw [← fx, ← fy, e]
  rw [this]
section
variable {f_reach f_width f_capacity f_slots f_hand f_n f_phase f_bank f_stateCount f_spareCount : Int32} {a_rowX a_rowO a_colX a_colO a_nextX a_nextO a_rowTo a_colTo a_partner a_keys a_poly a_plain a_normal : Nat → Int32}
/-- all rows set: the two masks -/
theorem xw_masks {post : Int32 → SX → Prop} {n : Nat} {rx ro : Nat → Nat} (hn : f_n = nI n) (n7 : n ≤ 7) (hA : ∀ r, r < n → a_rowX r = nI (rx r) ∧ a_rowO r = nI (ro r) ∧ rx r < n ∧ ro r < n)
    (h1 : (∀ c, c < n → ∃ r, r < n ∧ rx r = c) → (∀ c, c < n → ∃ r, r < n ∧ ro r = c) → wpX_deriveColumns (fun u => match u with | (f_reach, f_width, f_capacity, f_slots, f_hand, f_n, f_phase, f_bank, f_stateCount, f_spareCount, a_rowX, a_rowO, a_colX, a_colO, a_nextX, a_nextO, a_rowTo, a_colTo, a_partner, a_keys, a_poly, a_plain, a_normal) => post 1 (f_reach, f_width, f_capacity, f_slots, f_hand, f_n, 1, f_bank, f_stateCount, f_spareCount, a_rowX, a_rowO, a_colX, a_colO, a_nextX, a_nextO, a_rowTo, a_colTo, a_partner, a_keys, a_poly, a_plain, a_normal)) (f_reach, f_width, f_capacity, f_slots, f_hand, f_n, f_phase, f_bank, f_stateCount, f_spareCount, a_rowX, a_rowO, a_colX, a_colO, a_nextX, a_nextO, a_rowTo, a_colTo, a_partner, a_keys, a_poly, a_plain, a_normal))
    (h2 : ¬ ((∀ c, c < n → ∃ r, r < n ∧ rx r = c) ∧ (∀ c, c < n → ∃ r, r < n ∧ ro r = c)) → post (-4) (f_reach, f_width, f_capacity, f_slots, f_hand, f_n, f_phase, f_bank, f_stateCount, f_spareCount, a_rowX, a_rowO, a_colX, a_colO, a_nextX, a_nextO, a_rowTo, a_colTo, a_partner, a_keys, a_poly, a_plain, a_normal)) : ∃ q, wX_commit_15 post f_reach f_width f_capacity f_slots f_hand f_n f_phase f_bank f_stateCount f_spareCount a_rowX a_rowO a_colX a_colO a_nextX a_nextO a_rowTo a_colTo a_partner a_keys a_poly a_plain a_normal q 0 0 0 := by
  have full : ∀ (m : Nat) (f : Nat → Nat), m < 128 → (∀ r, r < n → f r < n) → (∀ w, m.testBit w = true ↔ ∃ r, r < n ∧ w = f r) → (nI m = nI (2 ^ n - 1) ↔ ∀ c, c < n → ∃ r, r < n ∧ f r = c) := by
    intro m f hm hf hb
    have l : 2 ^ n ≤ 2 ^ 7 := Nat.pow_le_pow_right (by omega) n7
    rw [nI_eq (by omega) (by omega)]
    constructor
    · intro e c hc
      have z : m.testBit c = true := by rw [e, Nat.testBit_two_pow_sub_one]; exact decide_eq_true hc
      obtain ⟨r, hr, q⟩ := (hb c).mp z
      exact ⟨r, hr, q.symm⟩
    · intro q
      apply Nat.eq_of_testBit_eq
      intro i
      rw [Nat.testBit_two_pow_sub_one]
      by_cases hi : i < n
      · obtain ⟨r, hr, e⟩ := q i hi
        rw [(hb i).mpr ⟨r, hr, e.symm⟩, decide_eq_true hi]
      · rw [decide_eq_false hi]
        apply Bool.eq_false_iff.mpr
        intro z
        obtain ⟨r, hr, e⟩ := (hb i).mp z
        have := hf r hr
        omega
  have loop : ∀ d r m1 m2, r + d = n → m1 < 128 → m2 < 128 → (∀ w, m1.testBit w = true ↔ ∃ j, j < r ∧ w = rx j) → (∀ w, m2.testBit w = true ↔ ∃ j, j < r ∧ w = ro j) → wX_commit_15 post f_reach f_width f_capacity f_slots f_hand f_n f_phase f_bank f_stateCount f_spareCount a_rowX a_rowO a_colX a_colO a_nextX a_nextO a_rowTo a_colTo a_partner a_keys a_poly a_plain a_normal (d + 1) (nI m1) (nI m2) (nI r) := by
    intro d
    induction d with
    | zero =>
      intro r m1 m2 hr l1 l2 b1 b2
      have er : r = n := by omega
      rw [er] at b1 b2
      have l : 2 ^ n ≤ 2 ^ 7 := Nat.pow_le_pow_right (by omega) n7
      have sh : ((1 : Int32) <<< (f_n &&& 31)) - 1 = nI (2 ^ n - 1) := by
        rw [hn, show (1 : Int32) = nI 1 from rfl, pk_shlN _ n (ky_s31 n (by omega)) (by omega), Nat.one_mul, pk_sub (Nat.one_le_two_pow)]
      have f1 := full m1 rx l1 (fun r hr => (hA r hr).2.2.1) b1
      have f2 := full m2 ro l2 (fun r hr => (hA r hr).2.2.2) b2
      exact pk_le n r (fun _ => nm_r sh (br_c (fun c1 => br_c (fun c2 => h1 (f1.mp c1) (f2.mp c2)) (fun c2 => h2 (fun q => c2 (f2.mpr q.2)))) (fun c1 => h2 (fun q => c1 (f1.mpr q.1))))) (fun q => by omega) hn
    | succ d ih =>
      intro r m1 m2 hr l1 l2 b1 b2
      have a := hA r (by omega)
      have st : ∀ (m : Nat) (f : Nat → Nat), (∀ w, m.testBit w = true ↔ ∃ j, j < r ∧ w = f j) → ∀ w, (m ||| 2 ^ f r).testBit w = true ↔ ∃ j, j < r + 1 ∧ w = f j := by
        intro m f hb w
        rw [kx_orv, hb]
        constructor
        · intro q
          rcases q with ⟨j, hj, q⟩ | q
          · exact ⟨j, by omega, q⟩
          · exact ⟨r, by omega, q⟩
        · intro q
          obtain ⟨j, hj, q⟩ := q
          by_cases e : j = r
          · rw [e] at q; exact Or.inr q
          · exact Or.inl ⟨j, by omega, q⟩
      refine pk_le n r (fun q => by omega) (fun q => ⟨pk_in r 7 (by omega), ?_⟩) hn
      rw [pk_cl r, a.1, a.2.1]
      exact br_t (nI_pos' (by omega)) ⟨pk_in r 7 (by omega), nm_r (kx_or (by omega)) ⟨pk_in r 7 (by omega), nm_r (kx_or (by omega)) (nm_r (nI_1 r) (ih (r + 1) _ _ (by omega) (kx_orl l1 (by omega)) (kx_orl l2 (by omega)) (st m1 rx b1) (st m2 ro b2)))⟩⟩
  exact ⟨n + 1, loop n 0 0 0 (by omega) (by omega) (by omega) (fun w => by rw [Nat.zero_testBit]; exact ⟨fun q => absurd q (by decide), fun ⟨j, hj, _⟩ => by omega⟩) (fun w => by rw [Nat.zero_testBit]; exact ⟨fun q => absurd q (by decide), fun ⟨j, hj, _⟩ => by omega⟩)⟩
/-- a row isn't set -/
theorem xw_inc {post : Int32 → SX → Prop} {n s : Nat} (hn : f_n = nI n) (n7 : n ≤ 7) (hs : s < n) (hA : ∀ r, r < s → ¬ a_rowX r < 0) (h0 : a_rowX s < 0) (h : post (-3) (f_reach, f_width, f_capacity, f_slots, f_hand, f_n, f_phase, f_bank, f_stateCount, f_spareCount, a_rowX, a_rowO, a_colX, a_colO, a_nextX, a_nextO, a_rowTo, a_colTo, a_partner, a_keys, a_poly, a_plain, a_normal)) : ∃ q, wX_commit_15 post f_reach f_width f_capacity f_slots f_hand f_n f_phase f_bank f_stateCount f_spareCount a_rowX a_rowO a_colX a_colO a_nextX a_nextO a_rowTo a_colTo a_partner a_keys a_poly a_plain a_normal q 0 0 0 := by
  have loop : ∀ d r (x1 x2 : Int32), r + d = s → wX_commit_15 post f_reach f_width f_capacity f_slots f_hand f_n f_phase f_bank f_stateCount f_spareCount a_rowX a_rowO a_colX a_colO a_nextX a_nextO a_rowTo a_colTo a_partner a_keys a_poly a_plain a_normal (d + 1) x1 x2 (nI r) := by
    intro d
    induction d with
    | zero =>
      intro r x1 x2 hr
      refine pk_le n r (fun q => by omega) (fun q => ⟨pk_in r 7 (by omega), ?_⟩) hn
      rw [pk_cl r, show r = s from by omega]
      exact br_f (Int32.not_le.mpr h0) h
    | succ d ih =>
      intro r x1 x2 hr
      refine pk_le n r (fun q => by omega) (fun q => ⟨pk_in r 7 (by omega), ?_⟩) hn
      rw [pk_cl r]
      exact br_t (Int32.not_lt.mp (hA r (by omega))) ⟨pk_in r 7 (by omega), nm_e ⟨pk_in r 7 (by omega), nm_e (nm_r (nI_1 r) (ih (r + 1) _ _ (by omega)))⟩⟩
  exact ⟨s + 1, loop s 0 0 0 (by omega)⟩
end
section
variable {h_n h_phase : Int32} {b_cell b_old b_plain b_term b_next b_spot b_choice b_ends b_seen : Nat → Int32}
theorem yw_rows {post : Int32 → SY → Prop} {n s : Nat} (hn : h_n = nI n) (n7 : n ≤ 7) (hs : s ≤ n) (hr : ∀ r, r < s → ∃ x, x < n ∧ b_cell (r * 7 + x) = 1 ∧ ∀ i, i < x → b_cell (r * 7 + i) ≠ 1)
    (h1 : s = n → ∃ q, wY_commit_42 post h_n h_phase b_cell b_old b_plain b_term b_next b_spot b_choice b_ends b_seen q 0) (h2 : s < n → (∀ i, i < n → b_cell (s * 7 + i) ≠ 1) ∧ post (-3) (h_n, h_phase, b_cell, b_old, b_plain, b_term, b_next, b_spot, b_choice, b_ends, b_seen)) : ∃ q, wY_commit_11 post h_n h_phase b_cell b_old b_plain b_term b_next b_spot b_choice b_ends b_seen q 0 := by
  have loop : ∀ d r, r + d = s → wY_commit_11 post h_n h_phase b_cell b_old b_plain b_term b_next b_spot b_choice b_ends b_seen (d + 1) (nI r) := by
    intro d
    induction d with
    | zero =>
      intro r e
      refine pk_le n r (fun q => h1 (by omega)) (fun q => ?_) hn
      have z := h2 (by omega)
      rw [show s = r from by omega] at z
      exact yw_pl0n hn n7 (by omega) z.1 (br_f (by decide) z.2)
    | succ d ih =>
      intro r e
      refine pk_le n r (fun q => by omega) (fun q => ?_) hn
      obtain ⟨x, hx, e1, e2⟩ := hr r (by omega)
      exact yw_pl0 hn n7 (by omega) hx e1 e2 (br_t (nI_pos' (by omega)) (nm_r (nI_1 r) (ih (r + 1) (by omega))))
  exact ⟨s + 1, loop s 0 (by omega)⟩
theorem yw_cols {post : Int32 → SY → Prop} {n : Nat} {rx ro : Nat → Nat} (hn : h_n = nI n) (n7 : n ≤ 7) (hc : ∀ r c, r < n → c < n → (b_cell (r * 7 + c) = 1 ↔ rx r = c) ∧ (b_cell (r * 7 + c) = 2 ↔ ro r = c))
    (h1 : (∀ c, c < n → kc_n rx c n = 1 ∧ kc_n ro c n = 1) → post 1 (h_n, 1, b_cell, b_old, b_plain, b_term, b_next, b_spot, b_choice, b_ends, b_seen)) (h2 : ¬ (∀ c, c < n → kc_n rx c n = 1 ∧ kc_n ro c n = 1) → post (-4) (h_n, h_phase, b_cell, b_old, b_plain, b_term, b_next, b_spot, b_choice, b_ends, b_seen)) : ∃ q, wY_commit_42 post h_n h_phase b_cell b_old b_plain b_term b_next b_spot b_choice b_ends b_seen q 0 := by
  have inner : ∀ (J : Int32 → Prop) c, c < n → (kc_n rx c n = 1 ∧ kc_n ro c n = 1 → J (nI (c + 1))) → ∀ d r, r + d = n → wY_commit_57 post J (nI c) h_n h_phase b_cell b_old b_plain b_term b_next b_spot b_choice b_ends b_seen (d + 1) (nI (kc_n rx c r)) (nI (kc_n ro c r)) (nI r) := by
    intro J c hcn hJ d
    induction d with
    | zero =>
      intro r hr
      have er : r = n := by omega
      rw [er]
      have l1 := kc_le rx c n
      have l2 := kc_le ro c n
      exact pk_le n n (fun _ => pk_eq (kc_n rx c n) 1 (fun q1 => pk_eq (kc_n ro c n) 1 (fun q2 => nm_r (nI_1 c) (hJ ⟨q1, q2⟩)) (fun q2 => h2 (fun z => q2 (z c hcn).2))) (fun q1 => h2 (fun z => q1 (z c hcn).1))) (fun q => by omega) hn
    | succ d ih =>
      intro r hr
      have cc := hc r c (by omega) hcn
      have s1 : kc_n rx c (r + 1) = kc_n rx c r + (if rx r = c then 1 else 0) := rfl
      have s2 : kc_n ro c (r + 1) = kc_n ro c r + (if ro r = c then 1 else 0) := rfl
      have second : wY_commit_85 post J (wY_commit_57 post J (nI c) h_n h_phase b_cell b_old b_plain b_term b_next b_spot b_choice b_ends b_seen (d + 1)) (nI c) (nI (kc_n rx c (r + 1))) (nI (kc_n ro c r)) (nI r) h_n h_phase b_cell b_old b_plain b_term b_next b_spot b_choice b_ends b_seen := by
        unfold wY_commit_85
        rw [ky_ix]
        refine ⟨pk_in (r * 7 + c) 49 (by omega), ?_⟩
        rw [pk_cl (r * 7 + c)]
        refine br_c (fun z => nm_r (e' := nI (kc_n ro c (r + 1))) ?_ (nm_r (nI_1 r) (ih (r + 1) (by omega)))) (fun z => nm_r (nI_1 r) ?_)
        · rw [s2, if_pos (cc.2.mp z)]; exact nI_1 _
        · have y := ih (r + 1) (by omega)
          rw [s2, if_neg (fun q => z (cc.2.mpr q)), Nat.add_zero] at y
          exact y
      refine pk_le n r (fun q => by omega) (fun q => ?_) hn
      rw [ky_ix]
      refine ⟨pk_in (r * 7 + c) 49 (by omega), ?_⟩
      rw [pk_cl (r * 7 + c)]
      refine br_c (fun z => nm_r (e' := nI (kc_n rx c (r + 1))) ?_ second) (fun z => ?_)
      · rw [s1, if_pos (cc.1.mp z)]; exact nI_1 _
      · rw [s1, if_neg (fun q => z (cc.1.mpr q)), Nat.add_zero] at second
        exact second
  have outer : ∀ d c, c + d = n → (∀ c', c' < c → kc_n rx c' n = 1 ∧ kc_n ro c' n = 1) → wY_commit_42 post h_n h_phase b_cell b_old b_plain b_term b_next b_spot b_choice b_ends b_seen (d + 1) (nI c) := by
    intro d
    induction d with
    | zero =>
      intro c e hg
      exact pk_le n c (fun _ => h1 (fun c' hc' => hg c' (by omega))) (fun q => by omega) hn
    | succ d ih =>
      intro c e hg
      refine pk_le n c (fun q => by omega) (fun q => ⟨n + 1, inner _ c (by omega) (fun good => ih (c + 1) (by omega) (fun c' hc' => ?_)) n 0 (by omega)⟩) hn
      by_cases q' : c' = c
      · rw [q']; exact good
      · exact hg c' (by omega)
  exact ⟨n + 1, outer n 0 (by omega) (fun c' hc' => by omega)⟩
end
theorem i_vc_commit {k : Nat} {u : SX} {v : SY} (I : i_Rel k u v) (hk : k + 4 ≤ 2049) : wpX_commit (fun r u' => wpY_commit (fun r' v' => r' = r ∧ i_Rel (k + 4) u' v') v) u := by
  obtain ⟨f_reach, f_width, f_capacity, f_slots, f_hand, f_n, f_phase, f_bank, f_stateCount, f_spareCount, a_rowX, a_rowO, a_colX, a_colO, a_nextX, a_nextO, a_rowTo, a_colTo, a_partner, a_keys, a_poly, a_plain, a_normal⟩ := u
  obtain ⟨h_n, h_phase, b_cell, b_old, b_plain, b_term, b_next, b_spot, b_choice, b_ends, b_seen⟩ := v
  have I' : ∀ r : Int32, r = r ∧ i_Rel (k + 4) (f_reach, f_width, f_capacity, f_slots, f_hand, f_n, f_phase, f_bank, f_stateCount, f_spareCount, a_rowX, a_rowO, a_colX, a_colO, a_nextX, a_nextO, a_rowTo, a_colTo, a_partner, a_keys, a_poly, a_plain, a_normal) (h_n, h_phase, b_cell, b_old, b_plain, b_term, b_next, b_spot, b_choice, b_ends, b_seen) := fun r => ⟨rfl, I.1, rfl⟩
  obtain ⟨⟨n, n2, n7, e1, e2, e3, M, dj⟩, _⟩ := id I
  by_cases hz : f_phase = 0
  · have hz' : h_phase = 0 := e3.trans hz
    have D : kz_D n a_rowX a_rowO := by
      rcases dj with q | q
      · exact q.2
      · rcases q.1 with z | z
        · rw [hz] at z; exact absurd z (by decide)
        · rw [hz] at z; exact absurd z (by decide)
    have set : ∀ r, r < n → ¬ a_rowX r < 0 → ∃ x, x < n ∧ b_cell (r * 7 + x) = 1 ∧ ∀ i, i < x → b_cell (r * 7 + i) ≠ 1 := by
      intro r hr hs
      rcases D r hr with q | ⟨x, o, q1, q2, q3, q4, q5⟩
      · rw [q.1] at hs; exact absurd (by decide) hs
      · refine ⟨x, q3, ?_, fun i hi => ?_⟩
        · rw [M r x (by omega) (by omega), if_pos ⟨hr, q3⟩, if_pos q1]
        · rw [M r i (by omega) (by omega), if_pos ⟨hr, by omega⟩, if_neg (by rw [q1]; intro z; have := (nI_eq (by omega) (by omega)).mp z; omega)]
          split <;> decide
    by_cases inc : ∃ r, r < n ∧ a_rowX r < 0
    · obtain ⟨s, hs, hm⟩ := pk_least _ inc
      have hA : ∀ r, r < s → ¬ a_rowX r < 0 := fun r hr q => hm r hr ⟨by omega, q⟩
      refine br_t hz (xw_inc e1 n7 hs.1 hA hs.2 (br_t hz' (yw_rows (s := s) e2 n7 (by omega) (fun r hr => set r (by omega) (hA r hr)) (fun e => by omega) (fun _ => ⟨fun i hi => ?_, I' _⟩))))
      rcases D s hs.1 with q | ⟨x, o, q1, q2, q3, q4, q5⟩
      · rw [M s i (by omega) (by omega), if_pos ⟨hs.1, hi⟩, q.1, q.2, if_neg (kz_n1 i (by omega)), if_neg (kz_n1 i (by omega))]
        decide
      · have z := hs.2
        rw [q1] at z
        exact absurd z (nI_pos (by omega))
    · have all : ∀ r, r < n → ∃ x o, a_rowX r = nI x ∧ a_rowO r = nI o ∧ x < n ∧ o < n ∧ x ≠ o := fun r hr => by
        rcases D r hr with q | q
        · exact absurd ⟨r, hr, by rw [q.1]; decide⟩ inc
        · exact q
      have S : ∀ r, ∃ p : Nat × Nat, r < n → a_rowX r = nI p.1 ∧ a_rowO r = nI p.2 ∧ p.1 < n ∧ p.2 < n ∧ p.1 ≠ p.2 := fun r => by
        by_cases hr : r < n
        · obtain ⟨x, o, q⟩ := all r hr
          exact ⟨(x, o), fun _ => q⟩
        · exact ⟨(0, 0), fun q => absurd q hr⟩
      have sp : ∀ r, r < n → a_rowX r = nI (Classical.choose (S r)).1 ∧ a_rowO r = nI (Classical.choose (S r)).2 ∧ (Classical.choose (S r)).1 < n ∧ (Classical.choose (S r)).2 < n ∧ (Classical.choose (S r)).1 ≠ (Classical.choose (S r)).2 := fun r hr => Classical.choose_spec (S r) hr
      obtain ⟨rx, ro, F⟩ : ∃ rx ro : Nat → Nat, ∀ r, r < n → a_rowX r = nI (rx r) ∧ a_rowO r = nI (ro r) ∧ rx r < n ∧ ro r < n ∧ rx r ≠ ro r := ⟨fun r => (Classical.choose (S r)).1, fun r => (Classical.choose (S r)).2, sp⟩
      have cc : ∀ r c, r < n → c < n → (b_cell (r * 7 + c) = 1 ↔ rx r = c) ∧ (b_cell (r * 7 + c) = 2 ↔ ro r = c) := by
        intro r c hr hc
        have f := F r hr
        rw [M r c (by omega) (by omega), if_pos ⟨hr, hc⟩, f.1, f.2.1]
        have g1 : nI (rx r) = nI c ↔ rx r = c := nI_eq (by omega) (by omega)
        have g2 : nI (ro r) = nI c ↔ ro r = c := nI_eq (by omega) (by omega)
        by_cases q1 : rx r = c
        · rw [if_pos (g1.mpr q1)]
          exact ⟨⟨fun _ => q1, fun _ => rfl⟩, ⟨fun z => absurd z (by decide), fun z => absurd (q1.trans z.symm) f.2.2.2.2⟩⟩
        · rw [if_neg (fun z => q1 (g1.mp z))]
          by_cases q2 : ro r = c
          · rw [if_pos (g2.mpr q2)]
            exact ⟨⟨fun z => absurd z (by decide), fun z => absurd z q1⟩, ⟨fun _ => q2, fun _ => rfl⟩⟩
          · rw [if_neg (fun z => q2 (g2.mp z))]
            exact ⟨⟨fun z => absurd z (by decide), fun z => absurd z q1⟩, ⟨fun z => absurd z (by decide), fun z => absurd z q2⟩⟩
      have rows : ∀ post : Int32 → SY → Prop, (∃ q, wY_commit_42 post h_n h_phase b_cell b_old b_plain b_term b_next b_spot b_choice b_ends b_seen q 0) → wpY_commit post (h_n, h_phase, b_cell, b_old, b_plain, b_term, b_next, b_spot, b_choice, b_ends, b_seen) := fun post hq =>
        br_t hz' (yw_rows (s := n) e2 n7 (Nat.le_refl _) (fun r hr => set r hr (fun q => inc ⟨r, hr, q⟩)) (fun _ => hq) (fun q => by omega))
      refine br_t hz (xw_masks (rx := rx) (ro := ro) e1 n7 (fun r hr => ⟨(F r hr).1, (F r hr).2.1, (F r hr).2.2.1, (F r hr).2.2.2.1⟩) (fun s1 s2 => ?_) (fun ns => ?_))
      · have i1 := kc_sur_inj (fun r hr => (F r hr).2.2.1) s1
        have i2 := kc_sur_inj (fun r hr => (F r hr).2.2.2.1) s2
        obtain ⟨cx, co, G⟩ := kx_mk n2 n7 (fun r hr => ⟨(F r hr).2.2.1, (F r hr).2.2.2.1, (F r hr).2.2.2.2⟩) i1 i2
        refine xw_derive e1 G (fun r hr => ⟨(F r hr).1, (F r hr).2.1⟩) (fun C D' K => rows _ (yw_cols e2 n7 cc (fun _ => ⟨rfl, ?_, rfl⟩) (fun q => absurd (fun c hc => ⟨kc_1 n i1 (s1 c hc), kc_1 n i2 (s2 c hc)⟩) q)))
        exact ⟨n, n2, n7, e1, e2, rfl, M, Or.inr ⟨Or.inl rfl, rx, ro, cx, co, K, fun q => absurd q (by decide)⟩⟩
      · refine rows _ (yw_cols e2 n7 cc (fun good => absurd ?_ ns) (fun _ => I' _))
        exact ⟨fun c hc => kx_sur (fun r hr => (F r hr).2.2.1) (kc_inj (fun r hr => (F r hr).2.2.1) (fun c hc => (good c hc).1)) hc, fun c hc => kx_sur (fun r hr => (F r hr).2.2.2.1) (kc_inj (fun r hr => (F r hr).2.2.2.1) (fun c hc => (good c hc).2)) hc⟩
  · have hz' : ¬ h_phase = 0 := by rw [e3]; exact hz
    exact br_f hz (br_f hz' (I' _))
end
section
/-! shift -/
def kv_w (n x : Nat) : Nat := if x < n then x else x - n
theorem kv_inv {n d : Nat} (hd : d < n) : ∀ r, r < n → kv_w n (r + d) < n ∧ kv_w n (r + (n - d)) < n ∧ kv_w n (kv_w n (r + d) + (n - d)) = r ∧ kv_w n (kv_w n (r + (n - d)) + d) = r := by
  intro r hr
  have e : ∀ x, (x < n ∧ kv_w n x = x) ∨ (n ≤ x ∧ kv_w n x = x - n) := fun x => by
    unfold kv_w
    by_cases h : x < n
    · rw [if_pos h]; exact Or.inl ⟨h, rfl⟩
    · rw [if_neg h]; exact Or.inr ⟨by omega, rfl⟩
  have a := e (r + d)
  have b := e (r + (n - d))
  have c := e (kv_w n (r + d) + (n - d))
  have f := e (kv_w n (r + (n - d)) + d)
  omega
def kv_d (n d : Nat) : Nat := if d = 0 then n - 1 else if d = 1 then 1 else 0
def kv_r (n d : Nat) : Nat := if d = 2 then n - 1 else if d = 3 then 1 else 0
theorem kv_lt {n d : Nat} (n2 : 2 ≤ n) : kv_d n d < n ∧ kv_r n d < n := by
  unfold kv_d kv_r
  constructor
  · split
    · omega
    · split <;> omega
  · split
    · omega
    · split <;> omega
section
variable {f_reach f_width f_capacity f_slots f_hand f_n f_phase f_bank f_stateCount f_spareCount : Int32} {a_rowX a_rowO a_colX a_colO a_nextX a_nextO a_rowTo a_colTo a_partner a_keys a_poly a_plain a_normal : Nat → Int32}
theorem xw_sh73 {post : Int32 → SX → Prop} {n dn rt : Nat} (hn : f_n = nI n) (n7 : n ≤ 7) (hd : dn < n) (hr : rt < n)
    (h : ∀ RT CT : Nat → Int32, (∀ i, i < n → RT i = nI (kv_w n (i + dn)) ∧ CT i = nI (kv_w n (i + rt))) → wpX_carryAll (fun u => match u with | (f_reach, f_width, f_capacity, f_slots, f_hand, f_n, f_phase, f_bank, f_stateCount, f_spareCount, a_rowX, a_rowO, a_colX, a_colO, a_nextX, a_nextO, a_rowTo, a_colTo, a_partner, a_keys, a_poly, a_plain, a_normal) => wpX_install (fun u => match u with | (f_reach, f_width, f_capacity, f_slots, f_hand, f_n, f_phase, f_bank, f_stateCount, f_spareCount, a_rowX, a_rowO, a_colX, a_colO, a_nextX, a_nextO, a_rowTo, a_colTo, a_partner, a_keys, a_poly, a_plain, a_normal) => post 1 (f_reach, f_width, f_capacity, f_slots, f_hand, f_n, f_phase, f_bank, f_stateCount, f_spareCount, a_rowX, a_rowO, a_colX, a_colO, a_nextX, a_nextO, a_rowTo, a_colTo, a_partner, a_keys, a_poly, a_plain, a_normal)) (f_reach, f_width, f_capacity, f_slots, f_hand, f_n, f_phase, f_bank, f_stateCount, f_spareCount, a_rowX, a_rowO, a_colX, a_colO, a_nextX, a_nextO, a_rowTo, a_colTo, a_partner, a_keys, a_poly, a_plain, a_normal) f_n) (f_reach, f_width, f_capacity, f_slots, f_hand, f_n, f_phase, f_bank, f_stateCount, f_spareCount, a_rowX, a_rowO, a_colX, a_colO, a_nextX, a_nextO, RT, CT, a_partner, a_keys, a_poly, a_plain, a_normal)) :
    ∃ q, wX_shift_73 post (nI dn) (nI rt) f_reach f_width f_capacity f_slots f_hand f_n f_phase f_bank f_stateCount f_spareCount q 0 a_rowX a_rowO a_colX a_colO a_nextX a_nextO a_rowTo a_colTo a_partner a_keys a_poly a_plain a_normal := by
  have loop : ∀ d i (RT CT : Nat → Int32), i + d = n → (∀ j, j < i → RT j = nI (kv_w n (j + dn)) ∧ CT j = nI (kv_w n (j + rt))) → wX_shift_73 post (nI dn) (nI rt) f_reach f_width f_capacity f_slots f_hand f_n f_phase f_bank f_stateCount f_spareCount (d + 1) (nI i) a_rowX a_rowO a_colX a_colO a_nextX a_nextO RT CT a_partner a_keys a_poly a_plain a_normal := by
    intro d
    induction d with
    | zero =>
      intro i RT CT hi hz
      exact pk_le n i (fun _ => h RT CT (fun j hj => hz j (by omega))) (fun q => by omega) hn
    | succ d ih =>
      intro i RT CT hi hz
      refine pk_le n i (fun q => by omega) (fun q => ?_) hn
      rw [nI_add, nI_add]
      refine xw_wrap hn n7 (by omega) ⟨pk_in i 7 (by omega), nm_e (xw_wrap hn n7 (by omega) ⟨pk_in i 7 (by omega), nm_e (nm_r (nI_1 i) ?_)⟩)⟩
      rw [pk_cl i]
      refine ih (i + 1) _ _ (by omega) (fun j hj => ?_)
      by_cases e : j = i
      · rw [e, pk_us, pk_us]; exact ⟨rfl, rfl⟩
      · rw [pk_un e, pk_un e]; exact hz j (by omega)
  exact ⟨n + 1, loop n 0 a_rowTo a_colTo (by omega) (fun j hj => by omega)⟩
/-- carry all marks by two bijections, install -/
theorem xw_move {post : SX → Prop} {n : Nat} {rx ro cx co : Nat → Nat} {p p' kk k' : Nat → Nat} (hn : f_n = nI n) (G : kx_A n rx ro cx co a_rowX a_rowO a_colX a_colO)
    (hp : ∀ r, r < n → p r < n ∧ p' r < n ∧ p' (p r) = r ∧ p (p' r) = r) (hk : ∀ r, r < n → kk r < n ∧ k' r < n ∧ k' (kk r) = r ∧ kk (k' r) = r) (hT : ∀ i, i < n → a_rowTo i = nI (p i) ∧ a_colTo i = nI (kk i))
    (h : ∀ NX NO A B C D : Nat → Int32, kx_A n (fun i => kk (rx (p' i))) (fun i => kk (ro (p' i))) (fun c => p (cx (k' c))) (fun c => p (co (k' c))) A B C D → post (f_reach, f_width, f_capacity, f_slots, f_hand, nI n, 1, f_bank, f_stateCount, f_spareCount, A, B, C, D, NX, NO, a_rowTo, a_colTo, a_partner, a_keys, a_poly, a_plain, a_normal)) :
    wpX_carryAll (fun u => match u with | (f_reach, f_width, f_capacity, f_slots, f_hand, f_n, f_phase, f_bank, f_stateCount, f_spareCount, a_rowX, a_rowO, a_colX, a_colO, a_nextX, a_nextO, a_rowTo, a_colTo, a_partner, a_keys, a_poly, a_plain, a_normal) => wpX_install post (f_reach, f_width, f_capacity, f_slots, f_hand, f_n, f_phase, f_bank, f_stateCount, f_spareCount, a_rowX, a_rowO, a_colX, a_colO, a_nextX, a_nextO, a_rowTo, a_colTo, a_partner, a_keys, a_poly, a_plain, a_normal) f_n) (f_reach, f_width, f_capacity, f_slots, f_hand, f_n, f_phase, f_bank, f_stateCount, f_spareCount, a_rowX, a_rowO, a_colX, a_colO, a_nextX, a_nextO, a_rowTo, a_colTo, a_partner, a_keys, a_poly, a_plain, a_normal) := by
  have n7 := G.1.2.1
  have W : ∀ (f : Nat → Nat), (∀ r, r < n → f r < n) → ∀ r, r < n → kx_K a_rowTo a_colTo r (f r) (fun i => kk (f (p' i))) := by
    intro f hf r hr
    have a := hp r hr
    have b := hk (f r) (hf r hr)
    refine Or.inr (Or.inr ⟨p r, by omega, (hT r hr).1, kk (f r), by omega, (hT _ (hf r hr)).2, ?_⟩)
    show kk (f (p' (p r))) = kk (f r)
    rw [a.2.2.1]
  refine xw_carryAll (nx := fun i => kk (rx (p' i))) (no := fun i => kk (ro (p' i))) hn n7 (fun r hr => ?_) (W rx (fun r hr => (G.1.2.2 r hr).1)) (W ro (fun r hr => (G.1.2.2 r hr).2.1)) (fun NX NO h1 h2 => ?_)
  · have a := kx_at G hr
    exact ⟨a.2.1, a.2.2.1, a.2.2.2.2.2.1, a.2.2.2.2.2.2.1⟩
  · have G' := kx_conj G.1 hp hk
    have fin : wpX_install post (f_reach, f_width, f_capacity, f_slots, f_hand, f_n, f_phase, f_bank, f_stateCount, f_spareCount, a_rowX, a_rowO, a_colX, a_colO, NX, NO, a_rowTo, a_colTo, a_partner, a_keys, a_poly, a_plain, a_normal) (nI n) := by
      refine xw_install G' (fun i hi => ?_) (fun A B C D K => h NX NO A B C D K)
      have a := hp i hi
      have e : a_rowTo (p' i) = nI i := by rw [(hT _ a.2.1).1, a.2.2.2]
      have g := G.1.2.2 (p' i) a.2.1
      refine ⟨h1 (p' i) i a.2.1 (by omega) e ?_, h2 (p' i) i a.2.1 (by omega) e ?_⟩
      · rw [(hT _ g.1).2]; exact nI_pos (by have := (hk _ g.1).1; omega)
      · rw [(hT _ g.2.1).2]; exact nI_pos (by have := (hk _ g.2.1).1; omega)
    rw [← hn] at fin
    exact fin
end
section
variable {h_n h_phase : Int32} {b_cell b_old b_plain b_term b_next b_spot b_choice b_ends b_seen : Nat → Int32}
theorem yw_sh1 {post : Int32 → SY → Prop} {n d r c q : Nat} {J27 : Int32 → Int32 → Int32 → (Nat → Int32) → (Nat → Int32) → (Nat → Int32) → (Nat → Int32) → (Nat → Int32) → (Nat → Int32) → (Nat → Int32) → (Nat → Int32) → (Nat → Int32) → Prop}
    (hn : h_n = nI n) (n2 : 2 ≤ n) (n7 : n ≤ 7) (hd : d < 4) (hr : r < n) (hc : c < n)
    (h : wY_shift_144 post J27 (wY_shift_37 post J27 (nI d) (nI r) q) (nI d) (nI r) (nI c) (nI (kv_w n (r + kv_d n d))) (nI (kv_w n (c + kv_r n d))) h_n h_phase b_cell b_old b_plain b_term b_next b_spot b_choice b_ends b_seen) : wY_shift_37 post J27 (nI d) (nI r) (q + 1) (nI c) h_n h_phase b_cell b_old b_plain b_term b_next b_spot b_choice b_ends b_seen := by
  have e1 : h_n - 1 = nI (n - 1) := by rw [hn, show (1 : Int32) = nI 1 from rfl, pk_sub (by omega)]
  refine pk_le n c (fun z => by omega) (fun z => ?_) hn
  have d4 : d = 0 ∨ d = 1 ∨ d = 2 ∨ d = 3 := by omega
  have id0 : ∀ x, x < n → kv_w n (x + 0) = x := fun x hx => by unfold kv_w; rw [if_pos (by omega), Nat.add_zero]
  have upd1 : ∀ x, x < n → kv_w n (x + (n - 1)) = if x = 0 then n - 1 else x - 1 := fun x hx => by
    unfold kv_w
    by_cases q : x = 0
    · rw [if_pos q, if_pos (by omega)]; omega
    · rw [if_neg q, if_neg (by omega)]; omega
  have dnd1 : ∀ x, x < n → kv_w n (x + 1) = if x = n - 1 then 0 else x + 1 := fun x hx => by
    unfold kv_w
    by_cases q : x = n - 1
    · rw [if_pos q, if_neg (by omega)]; omega
    · rw [if_neg q, if_pos (by omega)]
  rcases d4 with rfl | rfl | rfl | rfl
  · rw [show kv_d n 0 = n - 1 from rfl, show kv_r n 0 = 0 from rfl, id0 c hc, upd1 r hr] at h
    refine br_t rfl (pk_eq r 0 (fun e => ?_) (fun e => ?_))
    · rw [if_pos e] at h
      rw [e1]
      exact br_f (by decide) (br_f (by decide) (br_f (by decide) h))
    · rw [if_neg e] at h
      rw [show (nI r - 1 : Int32) = nI (r - 1) from pk_sub (b := 1) (by omega)]
      exact br_f (by decide) (br_f (by decide) (br_f (by decide) h))
  · rw [show kv_d n 1 = 1 from rfl, show kv_r n 1 = 0 from rfl, id0 c hc, dnd1 r hr] at h
    refine br_f (by decide) (br_t rfl (pk_eq r (n - 1) (fun e => ?_) (fun e => ?_) rfl e1))
    · rw [if_pos e] at h
      exact br_f (by decide) (br_f (by decide) h)
    · rw [if_neg e] at h
      rw [nI_1]
      exact br_f (by decide) (br_f (by decide) h)
  · rw [show kv_d n 2 = 0 from rfl, show kv_r n 2 = n - 1 from rfl, id0 r hr, upd1 c hc] at h
    refine br_f (by decide) (br_f (by decide) (br_t rfl (pk_eq c 0 (fun e => ?_) (fun e => ?_))))
    · rw [if_pos e] at h
      rw [e1]
      exact br_f (by decide) h
    · rw [if_neg e] at h
      rw [show (nI c - 1 : Int32) = nI (c - 1) from pk_sub (b := 1) (by omega)]
      exact br_f (by decide) h
  · rw [show kv_d n 3 = 0 from rfl, show kv_r n 3 = 1 from rfl, id0 r hr, dnd1 c hc] at h
    refine br_f (by decide) (br_f (by decide) (br_f (by decide) (br_t rfl (pk_eq c (n - 1) (fun e => ?_) (fun e => ?_) rfl e1))))
    · rw [if_pos e] at h
      exact h
    · rw [if_neg e] at h
      rw [nI_1]
      exact h
theorem yw_shift {post : Int32 → SY → Prop} {n d : Nat} {tgt : Nat → Nat → Int32} (hn : h_n = nI n) (n2 : 2 ≤ n) (n7 : n ≤ 7) (hd : d < 4) (h0 : ∀ k, k < 49 → b_cell k = 0)
    (hw : ∀ r c, r < n → c < n → b_old (r * 7 + c) = tgt (kv_w n (r + kv_d n d)) (kv_w n (c + kv_r n d)))
    (h : ∀ cl : Nat → Int32, (∀ i j, i < 7 → j < 7 → cl (i * 7 + j) = tgt i j ∨ cl (i * 7 + j) = 0) → (∀ r c, r < n → c < n → cl (kv_w n (r + kv_d n d) * 7 + kv_w n (c + kv_r n d)) = tgt (kv_w n (r + kv_d n d)) (kv_w n (c + kv_r n d))) → post 1 (h_n, 1, cl, b_old, b_plain, b_term, b_next, b_spot, b_choice, b_ends, b_seen)) :
    ∃ q, wY_shift_27 post (nI d) q 0 h_n h_phase b_cell b_old b_plain b_term b_next b_spot b_choice b_ends b_seen := by
  have lt := kv_lt (d := d) n2
  have inner : ∀ (J : Int32 → Int32 → Int32 → (Nat → Int32) → (Nat → Int32) → (Nat → Int32) → (Nat → Int32) → (Nat → Int32) → (Nat → Int32) → (Nat → Int32) → (Nat → Int32) → (Nat → Int32) → Prop) r, r < n →
      (∀ cl : Nat → Int32, (∀ i j, i < 7 → j < 7 → cl (i * 7 + j) = tgt i j ∨ cl (i * 7 + j) = 0) → (∀ r' c, r' < r + 1 → c < n → cl (kv_w n (r' + kv_d n d) * 7 + kv_w n (c + kv_r n d)) = tgt (kv_w n (r' + kv_d n d)) (kv_w n (c + kv_r n d))) → J (nI (r + 1)) h_n h_phase cl b_old b_plain b_term b_next b_spot b_choice b_ends b_seen) →
      ∀ e c (cl : Nat → Int32), c + e = n → (∀ i j, i < 7 → j < 7 → cl (i * 7 + j) = tgt i j ∨ cl (i * 7 + j) = 0) → (∀ r' c', (r' < r ∧ c' < n) ∨ (r' = r ∧ c' < c) → cl (kv_w n (r' + kv_d n d) * 7 + kv_w n (c' + kv_r n d)) = tgt (kv_w n (r' + kv_d n d)) (kv_w n (c' + kv_r n d))) →
        wY_shift_37 post J (nI d) (nI r) (e + 1) (nI c) h_n h_phase cl b_old b_plain b_term b_next b_spot b_choice b_ends b_seen := by
    intro J r hr hJ e
    induction e with
    | zero =>
      intro c cl hc t1 t2
      exact pk_le n c (fun _ => nm_r (nI_1 r) (hJ cl t1 (fun r' c' h1 h2 => t2 r' c' (by omega)))) (fun q => by omega) hn
    | succ e ih =>
      intro c cl hc t1 t2
      have a := (kv_inv lt.1 r hr).1
      have b := (kv_inv lt.2 c (by omega)).1
      refine yw_sh1 hn n2 n7 hd hr (by omega) ?_
      unfold wY_shift_144
      rw [ky_ix]
      refine ⟨pk_in (r * 7 + c) 49 (by omega), ?_⟩
      rw [pk_cl (r * 7 + c), hw r c hr (by omega)]
      refine yw_put (by omega) (by omega) (nm_r (nI_1 c) (ih (c + 1) _ (by omega) (fun i j hi hj => ?_) (fun r' c' hh => ?_)))
      · by_cases q : i = kv_w n (r + kv_d n d) ∧ j = kv_w n (c + kv_r n d)
        · rw [q.1, q.2, pk_us]; exact Or.inl rfl
        · rw [pk_un (by omega)]; exact t1 i j hi hj
      · have a' : kv_w n (r' + kv_d n d) < n := by
          rcases hh with hh | hh
          · exact (kv_inv lt.1 r' (by omega)).1
          · rw [hh.1]; exact a
        have b' : kv_w n (c' + kv_r n d) < n := by
          rcases hh with hh | hh
          · exact (kv_inv lt.2 c' hh.2).1
          · exact (kv_inv lt.2 c' (by omega)).1
        by_cases q : kv_w n (r' + kv_d n d) = kv_w n (r + kv_d n d) ∧ kv_w n (c' + kv_r n d) = kv_w n (c + kv_r n d)
        · rw [q.1, q.2, pk_us]
        · rw [pk_un (by omega)]
          refine t2 r' c' ?_
          rcases hh with hh | hh
          · exact Or.inl hh
          · by_cases z : c' = c
            · exfalso; rw [hh.1, z] at q; exact q ⟨rfl, rfl⟩
            · exact Or.inr ⟨hh.1, by omega⟩
  have outer : ∀ e r (cl : Nat → Int32), r + e = n → (∀ i j, i < 7 → j < 7 → cl (i * 7 + j) = tgt i j ∨ cl (i * 7 + j) = 0) → (∀ r' c, r' < r → c < n → cl (kv_w n (r' + kv_d n d) * 7 + kv_w n (c + kv_r n d)) = tgt (kv_w n (r' + kv_d n d)) (kv_w n (c + kv_r n d))) →
      wY_shift_27 post (nI d) (e + 1) (nI r) h_n h_phase cl b_old b_plain b_term b_next b_spot b_choice b_ends b_seen := by
    intro e
    induction e with
    | zero =>
      intro r cl hr t1 t2
      exact pk_le n r (fun _ => h cl t1 (fun r' c h1 h2 => t2 r' c (by omega) h2)) (fun q => by omega) hn
    | succ e ih =>
      intro r cl hr t1 t2
      exact pk_le n r (fun q => by omega) (fun q => ⟨n + 1, inner _ r (by omega) (fun cl' s1 s2 => ih (r + 1) cl' (by omega) s1 s2) n 0 cl (by omega) t1 (fun r' c' hh => t2 r' c' (by omega) (by omega))⟩) hn
  exact ⟨n + 1, outer n 0 b_cell (by omega) (fun i j hi hj => Or.inr (h0 _ (by omega))) (fun r' c hr => by omega)⟩
end
theorem i_vc_shift {k : Nat} {u : SX} {v : SY} (I : i_Rel k u v) (hk : k + 4 ≤ 2049) (v1 : Int32) : wpX_shift (fun r u' => wpY_shift (fun r' v' => r' = r ∧ i_Rel (k + 4) u' v') v v1) u v1 := by
  obtain ⟨f_reach, f_width, f_capacity, f_slots, f_hand, f_n, f_phase, f_bank, f_stateCount, f_spareCount, a_rowX, a_rowO, a_colX, a_colO, a_nextX, a_nextO, a_rowTo, a_colTo, a_partner, a_keys, a_poly, a_plain, a_normal⟩ := u
  obtain ⟨h_n, h_phase, b_cell, b_old, b_plain, b_term, b_next, b_spot, b_choice, b_ends, b_seen⟩ := v
  have I' : ∀ r : Int32, r = r ∧ i_Rel (k + 4) (f_reach, f_width, f_capacity, f_slots, f_hand, f_n, f_phase, f_bank, f_stateCount, f_spareCount, a_rowX, a_rowO, a_colX, a_colO, a_nextX, a_nextO, a_rowTo, a_colTo, a_partner, a_keys, a_poly, a_plain, a_normal) (h_n, h_phase, b_cell, b_old, b_plain, b_term, b_next, b_spot, b_choice, b_ends, b_seen) := fun r => ⟨rfl, I.1, rfl⟩
  by_cases hz : f_phase = 0
  · obtain ⟨⟨n, n2, n7, e1, e2, e3, M, rest⟩, _⟩ := id I
    exact br_t hz (br_t (e3.trans hz) (I' _))
  · obtain ⟨n, rx, ro, cx, co, e1, e2, e3, K, C, P⟩ := kz_grid I.1 hz
    have hz' : ¬ h_phase = 0 := by rw [e3]; exact hz
    have n2 := K.1.1
    have n7 := K.1.2.1
    by_cases c0 : v1 < 0
    · exact br_f hz (br_t c0 (br_f hz' (br_t c0 (I' _))))
    · by_cases c3 : v1 ≤ 3
      · obtain ⟨d, hd, rfl⟩ := nI_of2 (M := 3) (n := 3) (by decide) c0 c3
        have lt := kv_lt (n := n) (d := d) n2
        have ip := kv_inv lt.1
        have ik := kv_inv lt.2
        have e1n : f_n - 1 = nI (n - 1) := by rw [e1, show (1 : Int32) = nI 1 from rfl, pk_sub (by omega)]
        have main : ∃ q, wX_shift_73 (fun r u' => wpY_shift (fun r' v' => r' = r ∧ i_Rel (k + 4) u' v') (h_n, h_phase, b_cell, b_old, b_plain, b_term, b_next, b_spot, b_choice, b_ends, b_seen) (nI d)) (nI (kv_d n d)) (nI (kv_r n d)) f_reach f_width f_capacity f_slots f_hand f_n f_phase f_bank f_stateCount f_spareCount q 0 a_rowX a_rowO a_colX a_colO a_nextX a_nextO a_rowTo a_colTo a_partner a_keys a_poly a_plain a_normal := by
          refine xw_sh73 e1 n7 lt.1 lt.2 (fun RT CT hT => xw_move (p := fun r => kv_w n (r + kv_d n d)) (p' := fun r => kv_w n (r + (n - kv_d n d))) (kk := fun r => kv_w n (r + kv_r n d)) (k' := fun r => kv_w n (r + (n - kv_r n d))) e1 K ip ik hT (fun NX NO A B C' D K' => ?_))
          refine br_f hz' (br_f c0 (br_t c3 (yw_save (fun cl ol hc => yw_shift (tgt := ky_t n (fun i => kv_w n (rx (kv_w n (i + (n - kv_d n d))) + kv_r n d)) (fun i => kv_w n (ro (kv_w n (i + (n - kv_d n d))) + kv_r n d))) e2 n2 n7 (by omega) (fun k hk => (hc k hk).2) (fun r c hr hcc => ?_) (fun cl' t1 t2 => ⟨rfl, ?_, rfl⟩)))))
          · rw [(hc (r * 7 + c) (by omega)).1, C r c (by omega) (by omega)]
            have a := ip r hr
            have b := ik c hcc
            have g := K.1.2.2 r hr
            refine ky_tt ⟨hr, hcc⟩ ⟨a.1, b.1⟩ ?_ ?_
            · rw [a.2.2.1]
              exact ⟨fun e => by rw [e], fun e => by rw [← b.2.2.1, e, (ik _ g.1).2.2.1]⟩
            · rw [a.2.2.1]
              exact ⟨fun e => by rw [e], fun e => by rw [← b.2.2.1, e, (ik _ g.2.1).2.2.1]⟩
          · rw [e2]
            refine kz_new K' (fun i j hi hj => ?_)
            show cl' (i * 7 + j) = ky_t n (fun i => kv_w n (rx (kv_w n (i + (n - kv_d n d))) + kv_r n d)) (fun i => kv_w n (ro (kv_w n (i + (n - kv_d n d))) + kv_r n d)) i j
            by_cases q : i < n ∧ j < n
            · have z := t2 (kv_w n (i + (n - kv_d n d))) (kv_w n (j + (n - kv_r n d))) (ip i q.1).2.1 (ik j q.2).2.1
              rw [(ip i q.1).2.2.2, (ik j q.2).2.2.2] at z
              exact z
            · rcases t1 i j hi hj with z | z
              · exact z
              · rw [z, ky_t0 q]
        have s44 : ∀ z0 : Int32, z0 = nI (kv_d n d) → wX_shift_44 (fun r u' => wpY_shift (fun r' v' => r' = r ∧ i_Rel (k + 4) u' v') (h_n, h_phase, b_cell, b_old, b_plain, b_term, b_next, b_spot, b_choice, b_ends, b_seen) (nI d)) (nI d) z0 f_reach f_width f_capacity f_slots f_hand f_n f_phase f_bank f_stateCount f_spareCount a_rowX a_rowO a_colX a_colO a_nextX a_nextO a_rowTo a_colTo a_partner a_keys a_poly a_plain a_normal := by
          intro z0 hz0
          rw [hz0]
          refine pk_eq d 2 (fun e => nm_r e1n ?_) (fun e => pk_eq d 3 (fun e' => ?_) (fun e' => ?_))
          · rw [show n - 1 = kv_r n d from by unfold kv_r; rw [if_pos e]]; exact main
          · rw [show kv_r n d = 1 from by unfold kv_r; rw [if_neg e, if_pos e']] at main; exact main
          · rw [show kv_r n d = 0 from by unfold kv_r; rw [if_neg e, if_neg e']] at main; exact main
        refine br_f hz (br_f c0 (br_t c3 (pk_eq d 0 (fun e => s44 _ ?_) (fun e => pk_eq d 1 (fun e' => s44 _ ?_) (fun e' => s44 _ ?_)))))
        · rw [e1n]; unfold kv_d; rw [if_pos e]
        · unfold kv_d; rw [if_neg e, if_pos e']; rfl
        · unfold kv_d; rw [if_neg e, if_neg e']; rfl
      · exact br_f hz (br_f c0 (br_f c3 (br_f hz' (br_f c0 (br_f c3 (I' _))))))
end
section
/-! commute -/
def kx_E (a b c d : Nat) : Prop := b < c ∨ d < a ∨ (a < c ∧ d < b) ∨ (c < a ∧ b < d)
def kv_s (x i : Nat) : Nat := if i = x then x + 1 else if i = x + 1 then x else i
theorem kv_s1 (x i : Nat) : (i = x ∧ kv_s x i = x + 1) ∨ (i = x + 1 ∧ kv_s x i = x) ∨ (i ≠ x ∧ i ≠ x + 1 ∧ kv_s x i = i) := by
  unfold kv_s
  by_cases h : i = x
  · rw [if_pos h]; exact Or.inl ⟨h, rfl⟩
  · rw [if_neg h]
    by_cases h2 : i = x + 1
    · rw [if_pos h2]; exact Or.inr (Or.inl ⟨h2, rfl⟩)
    · rw [if_neg h2]; exact Or.inr (Or.inr ⟨h, h2, rfl⟩)
theorem kv_si {n x : Nat} (hx : x + 1 < n) : ∀ r, r < n → kv_s x r < n ∧ kv_s x r < n ∧ kv_s x (kv_s x r) = r ∧ kv_s x (kv_s x r) = r := by
  intro r hr
  have a := kv_s1 x r
  have b := kv_s1 x (kv_s x r)
  omega
section
variable {f_reach f_width f_capacity f_slots f_hand f_n f_phase f_bank f_stateCount f_spareCount : Int32} {a_rowX a_rowO a_colX a_colO a_nextX a_nextO a_rowTo a_colTo a_partner a_keys a_poly a_plain a_normal : Nat → Int32}
theorem xw_ex61 {post : Int32 → Prop} {a b c d : Nat} (l1 : a < 7) (l2 : b < 7) (l3 : c < 7) (l4 : d < 7) (h1 : (c < a ∧ b < d) → post 1) (h0 : ¬ (c < a ∧ b < d) → post 0) : wX_exchangeable_61 post (nI a) (nI b) (nI c) (nI d) f_reach f_width f_capacity f_slots f_hand f_n f_phase f_bank f_stateCount f_spareCount a_rowX a_rowO a_colX a_colO a_nextX a_nextO a_rowTo a_colTo a_partner a_keys a_poly a_plain a_normal :=
  pk_le a c (fun q => h0 (by omega)) (fun q => pk_le d b (fun q' => h0 (by omega)) (fun q' => h1 (by omega)))
theorem xw_exc {post : Int32 → Prop} {a b c d : Nat} (l1 : a < 7) (l2 : b < 7) (l3 : c < 7) (l4 : d < 7) (h1 : kx_E a b c d → post 1) (h0 : ¬ kx_E a b c d → post 0) :
    (((nI b < nI c → post 1) ∧ (¬ nI b < nI c → (((nI d < nI a → post 1) ∧ (¬ nI d < nI a → (((nI c ≤ nI a → wX_exchangeable_61 post (nI a) (nI b) (nI c) (nI d) f_reach f_width f_capacity f_slots f_hand f_n f_phase f_bank f_stateCount f_spareCount a_rowX a_rowO a_colX a_colO a_nextX a_nextO a_rowTo a_colTo a_partner a_keys a_poly a_plain a_normal) ∧ (¬ nI c ≤ nI a → (((nI d < nI b → post 1) ∧ (¬ nI d < nI b → wX_exchangeable_61 post (nI a) (nI b) (nI c) (nI d) f_reach f_width f_capacity f_slots f_hand f_n f_phase f_bank f_stateCount f_spareCount a_rowX a_rowO a_colX a_colO a_nextX a_nextO a_rowTo a_colTo a_partner a_keys a_poly a_plain a_normal)))))))))))) := by
  unfold kx_E at h1 h0
  exact pk_lt b c (fun q => h1 (by omega)) (fun q => pk_lt d a (fun q2 => h1 (by omega)) (fun q2 => pk_le c a (fun q3 => xw_ex61 l1 l2 l3 l4 (fun z => h1 (by omega)) (fun z => h0 (by omega))) (fun q3 => pk_lt d b (fun q4 => h1 (by omega)) (fun q4 => xw_ex61 l1 l2 l3 l4 (fun z => h1 (by omega)) (fun z => h0 (by omega))))))
theorem xw_exch0 {post : Int32 → Prop} {x p q r s : Nat} (hx : x + 1 < 7) (e1 : a_rowX x = nI p) (e2 : a_rowO x = nI q) (e3 : a_rowX (x + 1) = nI r) (e4 : a_rowO (x + 1) = nI s) (l1 : p < 7) (l2 : q < 7) (l3 : r < 7) (l4 : s < 7)
    (h1 : kx_E (kx_lo p q) (kx_hi p q) (kx_lo r s) (kx_hi r s) → post 1) (h0 : ¬ kx_E (kx_lo p q) (kx_hi p q) (kx_lo r s) (kx_hi r s) → post 0) : wpX_exchangeable post (f_reach, f_width, f_capacity, f_slots, f_hand, f_n, f_phase, f_bank, f_stateCount, f_spareCount, a_rowX, a_rowO, a_colX, a_colO, a_nextX, a_nextO, a_rowTo, a_colTo, a_partner, a_keys, a_poly, a_plain, a_normal) 0 (nI x) := by
  have a := kx_lh p q
  have b := kx_lh r s
  unfold wpX_exchangeable
  dsimp only
  rw [nI_1 x]
  refine xw_first0 (by omega) e1 e2 l1 l2 (xw_last0 (by omega) e1 e2 l1 l2 (xw_first0 hx e3 e4 l3 l4 (xw_last0 hx e3 e4 l3 l4 ?_)))
  exact xw_exc (by omega) (by omega) (by omega) (by omega) h1 h0
theorem xw_exch1 {post : Int32 → Prop} {x p q r s : Nat} (hx : x + 1 < 7) (e1 : a_colX x = nI p) (e2 : a_colO x = nI q) (e3 : a_colX (x + 1) = nI r) (e4 : a_colO (x + 1) = nI s) (l1 : p < 7) (l2 : q < 7) (l3 : r < 7) (l4 : s < 7)
    (h1 : kx_E (kx_lo p q) (kx_hi p q) (kx_lo r s) (kx_hi r s) → post 1) (h0 : ¬ kx_E (kx_lo p q) (kx_hi p q) (kx_lo r s) (kx_hi r s) → post 0) : wpX_exchangeable post (f_reach, f_width, f_capacity, f_slots, f_hand, f_n, f_phase, f_bank, f_stateCount, f_spareCount, a_rowX, a_rowO, a_colX, a_colO, a_nextX, a_nextO, a_rowTo, a_colTo, a_partner, a_keys, a_poly, a_plain, a_normal) 1 (nI x) := by
  have a := kx_lh p q
  have b := kx_lh r s
  unfold wpX_exchangeable
  dsimp only
  rw [nI_1 x]
  refine xw_first1 (by omega) e1 e2 l1 l2 (xw_last1 (by omega) e1 e2 l1 l2 (xw_first1 hx e3 e4 l3 l4 (xw_last1 hx e3 e4 l3 l4 ?_)))
  exact xw_exc (by omega) (by omega) (by omega) (by omega) h1 h0
theorem xw_cm {post : Int32 → SX → Prop} {n x a : Nat} (hn : f_n = nI n) (n7 : n ≤ 7) (hx : x + 1 < n) (ha : a < 2)
    (h : ∀ RT CT : Nat → Int32, (∀ i, i < n → RT i = nI (if a = 0 then kv_s x i else i) ∧ CT i = nI (if a = 0 then i else kv_s x i)) → wpX_carryAll (fun u => match u with | (f_reach, f_width, f_capacity, f_slots, f_hand, f_n, f_phase, f_bank, f_stateCount, f_spareCount, a_rowX, a_rowO, a_colX, a_colO, a_nextX, a_nextO, a_rowTo, a_colTo, a_partner, a_keys, a_poly, a_plain, a_normal) => wpX_install (fun u => match u with | (f_reach, f_width, f_capacity, f_slots, f_hand, f_n, f_phase, f_bank, f_stateCount, f_spareCount, a_rowX, a_rowO, a_colX, a_colO, a_nextX, a_nextO, a_rowTo, a_colTo, a_partner, a_keys, a_poly, a_plain, a_normal) => post 1 (f_reach, f_width, f_capacity, f_slots, f_hand, f_n, f_phase, f_bank, f_stateCount, f_spareCount, a_rowX, a_rowO, a_colX, a_colO, a_nextX, a_nextO, a_rowTo, a_colTo, a_partner, a_keys, a_poly, a_plain, a_normal)) (f_reach, f_width, f_capacity, f_slots, f_hand, f_n, f_phase, f_bank, f_stateCount, f_spareCount, a_rowX, a_rowO, a_colX, a_colO, a_nextX, a_nextO, a_rowTo, a_colTo, a_partner, a_keys, a_poly, a_plain, a_normal) f_n) (f_reach, f_width, f_capacity, f_slots, f_hand, f_n, f_phase, f_bank, f_stateCount, f_spareCount, a_rowX, a_rowO, a_colX, a_colO, a_nextX, a_nextO, RT, CT, a_partner, a_keys, a_poly, a_plain, a_normal)) :
    ∃ q, wX_commute_49 post (nI a) (nI x) f_reach f_width f_capacity f_slots f_hand f_n f_phase f_bank f_stateCount f_spareCount q 0 a_rowX a_rowO a_colX a_colO a_nextX a_nextO a_rowTo a_colTo a_partner a_keys a_poly a_plain a_normal := by
  have loop : ∀ d i (RT CT : Nat → Int32), i + d = n → (∀ j, j < i → RT j = nI (if a = 0 then kv_s x j else j) ∧ CT j = nI (if a = 0 then j else kv_s x j)) → wX_commute_49 post (nI a) (nI x) f_reach f_width f_capacity f_slots f_hand f_n f_phase f_bank f_stateCount f_spareCount (d + 1) (nI i) a_rowX a_rowO a_colX a_colO a_nextX a_nextO RT CT a_partner a_keys a_poly a_plain a_normal := by
    intro d
    induction d with
    | zero =>
      intro i RT CT hi hz
      exact pk_le n i (fun _ => h RT CT (fun j hj => hz j (by omega))) (fun q => by omega) hn
    | succ d ih =>
      intro i RT CT hi hz
      have fin : ∀ z0 : Int32, z0 = nI (kv_s x i) → wX_commute_80 post (wX_commute_49 post (nI a) (nI x) f_reach f_width f_capacity f_slots f_hand f_n f_phase f_bank f_stateCount f_spareCount (d + 1)) (nI a) (nI x) (nI i) z0 f_reach f_width f_capacity f_slots f_hand f_n f_phase f_bank f_stateCount f_spareCount a_rowX a_rowO a_colX a_colO a_nextX a_nextO RT CT a_partner a_keys a_poly a_plain a_normal := by
        intro z0 hz0
        rw [hz0]
        have st : ∀ v w : Int32, v = nI (if a = 0 then kv_s x i else i) → w = nI (if a = 0 then i else kv_s x i) → ∀ j, j < i + 1 → upd RT i v j = nI (if a = 0 then kv_s x j else j) ∧ upd CT i w j = nI (if a = 0 then j else kv_s x j) := by
          intro v w hv hw j hj
          by_cases e : j = i
          · rw [e, pk_us, pk_us]; exact ⟨hv, hw⟩
          · rw [pk_un e, pk_un e]; exact hz j (by omega)
        refine pk_eq a 0 (fun e => ⟨pk_in i 7 (by omega), nm_e (pk_eq a 1 (fun e2 => by omega) (fun e2 => ⟨pk_in i 7 (by omega), nm_e (nm_r (nI_1 i) ?_)⟩))⟩) (fun e => ⟨pk_in i 7 (by omega), nm_e (pk_eq a 1 (fun e2 => ⟨pk_in i 7 (by omega), nm_e (nm_r (nI_1 i) ?_)⟩) (fun e2 => by omega))⟩)
        · rw [pk_cl i]
          exact ih (i + 1) _ _ (by omega) (st _ _ (by rw [if_pos e]) (by rw [if_pos e]))
        · rw [pk_cl i]
          exact ih (i + 1) _ _ (by omega) (st _ _ (by rw [if_neg e]) (by rw [if_neg e]))
      have ex1 : (nI x + 1 : Int32) = nI (x + 1) := nI_1 x
      refine pk_le n i (fun q => by omega) (fun q => pk_eq i x (fun e => fin _ ?_) (fun e => pk_eq i (x + 1) (fun e2 => fin _ ?_) (fun e2 => fin _ ?_) rfl ex1)) hn
      · rw [ex1]; unfold kv_s; rw [if_pos e]
      · unfold kv_s; rw [if_neg e, if_pos e2]
      · unfold kv_s; rw [if_neg e, if_neg e2]
  exact ⟨n + 1, loop n 0 a_rowTo a_colTo (by omega) (fun j hj => by omega)⟩
end
section
variable {h_n h_phase : Int32} {b_cell b_old b_plain b_term b_next b_spot b_choice b_ends b_seen : Nat → Int32}
theorem yw_cE {post : Int32 → SY → Prop} {x1 x2 : Int32} {a b c d : Nat} (l1 : a < 7) (l2 : b < 7) (l3 : c < 7) (l4 : d < 7) (h1 : kx_E a b c d → ∃ q, wY_commute_182 post x1 x2 h_n h_phase q 0 b_cell b_old b_plain b_term b_next b_spot b_choice b_ends b_seen) (h0 : ¬ kx_E a b c d → post (-5) (h_n, h_phase, b_cell, b_old, b_plain, b_term, b_next, b_spot, b_choice, b_ends, b_seen)) :
    wY_commute_132 post x1 x2 (nI a) (nI b) (nI c) (nI d) h_n h_phase b_cell b_old b_plain b_term b_next b_spot b_choice b_ends b_seen := by
  unfold kx_E at h1 h0
  have f : ¬ (b < c ∨ d < a ∨ (a < c ∧ d < b)) → wY_commute_162 post x1 x2 (nI a) (nI b) (nI c) (nI d) h_n h_phase b_cell b_old b_plain b_term b_next b_spot b_choice b_ends b_seen := fun z =>
    pk_le a c (fun q => h0 (by omega)) (fun q => pk_lt b d (fun q' => h1 (by omega)) (fun q' => h0 (by omega)))
  exact pk_lt b c (fun q => h1 (by omega)) (fun q => pk_lt d a (fun q2 => h1 (by omega)) (fun q2 => pk_le c a (fun q3 => f (by omega)) (fun q3 => pk_lt d b (fun q4 => h1 (by omega)) (fun q4 => f (by omega)))))
theorem yw_cP {post : Int32 → SY → Prop} {x1 x2 : Int32} {p q r s : Nat} (l1 : p < 7) (l2 : q < 7) (l3 : r < 7) (l4 : s < 7)
    (h1 : kx_E (kx_lo p q) (kx_hi p q) (kx_lo r s) (kx_hi r s) → ∃ q, wY_commute_182 post x1 x2 h_n h_phase q 0 b_cell b_old b_plain b_term b_next b_spot b_choice b_ends b_seen) (h0 : ¬ kx_E (kx_lo p q) (kx_hi p q) (kx_lo r s) (kx_hi r s) → post (-5) (h_n, h_phase, b_cell, b_old, b_plain, b_term, b_next, b_spot, b_choice, b_ends, b_seen)) :
    (nI q ≤ nI p → wY_commute_86 post x1 x2 (nI p) (nI q) (nI r) (nI s) (nI q) h_n h_phase b_cell b_old b_plain b_term b_next b_spot b_choice b_ends b_seen) ∧ (¬ nI q ≤ nI p → wY_commute_86 post x1 x2 (nI p) (nI q) (nI r) (nI s) (nI p) h_n h_phase b_cell b_old b_plain b_term b_next b_spot b_choice b_ends b_seen) := by
  have e1 := kx_lh p q
  have e2 := kx_lh r s
  have fin : wY_commute_132 post x1 x2 (nI (kx_lo p q)) (nI (kx_hi p q)) (nI (kx_lo r s)) (nI (kx_hi r s)) h_n h_phase b_cell b_old b_plain b_term b_next b_spot b_choice b_ends b_seen := yw_cE (by omega) (by omega) (by omega) (by omega) h1 h0
  have f2 : wY_commute_100 post x1 x2 (nI r) (nI s) (nI (kx_lo p q)) (nI (kx_hi p q)) h_n h_phase b_cell b_old b_plain b_term b_next b_spot b_choice b_ends b_seen := by
    refine pk_le s r (fun z => pk_le s r (fun z2 => ?_) (fun z2 => by omega)) (fun z => pk_le s r (fun z2 => by omega) (fun z2 => ?_))
    · have y := fin
      rw [show kx_lo r s = s from by omega, show kx_hi r s = r from by omega] at y; exact y
    · have y := fin
      rw [show kx_lo r s = r from by omega, show kx_hi r s = s from by omega] at y; exact y
  refine pk_le q p (fun z => pk_le q p (fun z2 => ?_) (fun z2 => by omega)) (fun z => pk_le q p (fun z2 => by omega) (fun z2 => ?_))
  · rw [show kx_lo p q = q from by omega, show kx_hi p q = p from by omega] at f2; exact f2
  · rw [show kx_lo p q = p from by omega, show kx_hi p q = q from by omega] at f2; exact f2
theorem yw_sw0 {post : Int32 → SY → Prop} {n x : Nat} (hn : h_n = nI n) (n7 : n ≤ 7) (hx : x + 1 < n) (h : ∀ cl : Nat → Int32, (∀ r c, r < 7 → c < 7 → cl (r * 7 + c) = if c < n then b_cell (kv_s x r * 7 + c) else b_cell (r * 7 + c)) → post 1 (h_n, 1, cl, b_old, b_plain, b_term, b_next, b_spot, b_choice, b_ends, b_seen)) :
    ∃ q, wY_commute_182 post 0 (nI x) h_n h_phase q 0 b_cell b_old b_plain b_term b_next b_spot b_choice b_ends b_seen := by
  have loop : ∀ d i (cl : Nat → Int32), i + d = n → (∀ r c, r < 7 → c < 7 → cl (r * 7 + c) = if c < i then b_cell (kv_s x r * 7 + c) else b_cell (r * 7 + c)) → wY_commute_182 post 0 (nI x) h_n h_phase (d + 1) (nI i) cl b_old b_plain b_term b_next b_spot b_choice b_ends b_seen := by
    intro d
    induction d with
    | zero =>
      intro i cl hi hc
      rw [show i = n from by omega] at hc
      exact pk_le n i (fun _ => h cl hc) (fun q => by omega) hn
    | succ d ih =>
      intro i cl hi hc
      refine pk_le n i (fun q => by omega) (fun q => br_t rfl (br_t rfl ?_)) hn
      rw [nI_1 x, ky_ix, ky_ix]
      refine ⟨pk_in (x * 7 + i) 49 (by omega), nm_e ⟨pk_in ((x + 1) * 7 + i) 49 (by omega), pk_in (x * 7 + i) 49 (by omega), nm_e ⟨pk_in ((x + 1) * 7 + i) 49 (by omega), nm_e (nm_r (nI_1 i) ?_)⟩⟩⟩
      rw [pk_cl (x * 7 + i), pk_cl ((x + 1) * 7 + i)]
      refine ih (i + 1) _ (by omega) (fun r c hr hcc => ?_)
      have s := kv_s1 x r
      by_cases ec : c = i
      · rw [ec, if_pos (by omega)]
        by_cases er : r = x + 1
        · rw [er, pk_us, hc x i (by omega) (by omega), if_neg (by omega)]
          rw [show kv_s x (x + 1) = x from by have := kv_s1 x (x + 1); omega]
        · rw [pk_un (by omega)]
          by_cases er2 : r = x
          · rw [er2, pk_us, hc (x + 1) i (by omega) (by omega), if_neg (by omega)]
            rw [show kv_s x x = x + 1 from by have := kv_s1 x x; omega]
          · rw [pk_un (by omega), hc r i hr (by omega), if_neg (by omega), show kv_s x r = r from by omega]
      · rw [pk_un (by omega), pk_un (by omega), hc r c hr hcc]
        by_cases l : c < i
        · rw [if_pos l, if_pos (by omega)]
        · rw [if_neg l, if_neg (by omega)]
  exact ⟨n + 1, loop n 0 b_cell (by omega) (fun r c _ _ => by rw [if_neg (Nat.not_lt_zero _)])⟩
theorem yw_sw1 {post : Int32 → SY → Prop} {n x : Nat} (hn : h_n = nI n) (n7 : n ≤ 7) (hx : x + 1 < n) (h : ∀ cl : Nat → Int32, (∀ r c, r < 7 → c < 7 → cl (r * 7 + c) = if r < n then b_cell (r * 7 + kv_s x c) else b_cell (r * 7 + c)) → post 1 (h_n, 1, cl, b_old, b_plain, b_term, b_next, b_spot, b_choice, b_ends, b_seen)) :
    ∃ q, wY_commute_182 post 1 (nI x) h_n h_phase q 0 b_cell b_old b_plain b_term b_next b_spot b_choice b_ends b_seen := by
  have loop : ∀ d i (cl : Nat → Int32), i + d = n → (∀ r c, r < 7 → c < 7 → cl (r * 7 + c) = if r < i then b_cell (r * 7 + kv_s x c) else b_cell (r * 7 + c)) → wY_commute_182 post 1 (nI x) h_n h_phase (d + 1) (nI i) cl b_old b_plain b_term b_next b_spot b_choice b_ends b_seen := by
    intro d
    induction d with
    | zero =>
      intro i cl hi hc
      rw [show i = n from by omega] at hc
      exact pk_le n i (fun _ => h cl hc) (fun q => by omega) hn
    | succ d ih =>
      intro i cl hi hc
      refine pk_le n i (fun q => by omega) (fun q => br_f (by decide) (br_f (by decide) ?_)) hn
      rw [ky_ix, nI_1 (i * 7 + x)]
      refine ⟨pk_in (i * 7 + x) 49 (by omega), nm_e ⟨pk_in (i * 7 + x + 1) 49 (by omega), pk_in (i * 7 + x) 49 (by omega), nm_e ⟨pk_in (i * 7 + x + 1) 49 (by omega), nm_e (nm_r (nI_1 i) ?_)⟩⟩⟩
      rw [pk_cl (i * 7 + x), pk_cl (i * 7 + x + 1)]
      refine ih (i + 1) _ (by omega) (fun r c hr hcc => ?_)
      have s := kv_s1 x c
      by_cases er : r = i
      · rw [er, if_pos (by omega)]
        by_cases ec : c = x + 1
        · rw [ec, show i * 7 + (x + 1) = i * 7 + x + 1 from by omega, pk_us, hc i x (by omega) (by omega), if_neg (by omega)]
          rw [show kv_s x (x + 1) = x from by have := kv_s1 x (x + 1); omega]
        · rw [pk_un (by omega)]
          by_cases ec2 : c = x
          · rw [ec2, pk_us, show i * 7 + x + 1 = i * 7 + (x + 1) from by omega, hc i (x + 1) (by omega) (by omega), if_neg (by omega)]
            rw [show kv_s x x = x + 1 from by have := kv_s1 x x; omega]
          · rw [pk_un (by omega), hc i c (by omega) hcc, if_neg (by omega), show kv_s x c = c from by omega]
      · rw [pk_un (by omega), pk_un (by omega), hc r c hr hcc]
        by_cases l : r < i
        · rw [if_pos l, if_pos (by omega)]
        · rw [if_neg l, if_neg (by omega)]
  exact ⟨n + 1, loop n 0 b_cell (by omega) (fun r c _ _ => by rw [if_neg (Nat.not_lt_zero _)])⟩
end
theorem i_vc_commute {k : Nat} {u : SX} {v : SY} (I : i_Rel k u v) (hk : k + 4 ≤ 2049) (v1 : Int32) (v2 : Int32) : wpX_commute (fun r u' => wpY_commute (fun r' v' => r' = r ∧ i_Rel (k + 4) u' v') v v1 v2) u v1 v2 := by
  obtain ⟨f_reach, f_width, f_capacity, f_slots, f_hand, f_n, f_phase, f_bank, f_stateCount, f_spareCount, a_rowX, a_rowO, a_colX, a_colO, a_nextX, a_nextO, a_rowTo, a_colTo, a_partner, a_keys, a_poly, a_plain, a_normal⟩ := u
  obtain ⟨h_n, h_phase, b_cell, b_old, b_plain, b_term, b_next, b_spot, b_choice, b_ends, b_seen⟩ := v
  have I' : ∀ r : Int32, r = r ∧ i_Rel (k + 4) (f_reach, f_width, f_capacity, f_slots, f_hand, f_n, f_phase, f_bank, f_stateCount, f_spareCount, a_rowX, a_rowO, a_colX, a_colO, a_nextX, a_nextO, a_rowTo, a_colTo, a_partner, a_keys, a_poly, a_plain, a_normal) (h_n, h_phase, b_cell, b_old, b_plain, b_term, b_next, b_spot, b_choice, b_ends, b_seen) := fun r => ⟨rfl, I.1, rfl⟩
  by_cases hz : f_phase = 0
  · obtain ⟨⟨n, n2, n7, e1, e2, e3, M, rest⟩, _⟩ := id I
    exact br_t hz (br_t (e3.trans hz) (I' _))
  · obtain ⟨n, rx, ro, cx, co, e1, e2, e3, K, C, P⟩ := kz_grid I.1 hz
    have hz' : ¬ h_phase = 0 := by rw [e3]; exact hz
    have n2 := K.1.1
    have n7 := K.1.2.1
    have f2 : f_n - 2 = nI (n - 2) := by rw [e1, show (2 : Int32) = nI 2 from rfl, pk_sub (by omega)]
    have g2 : h_n - 2 = nI (n - 2) := by rw [e2, show (2 : Int32) = nI 2 from rfl, pk_sub (by omega)]
    have gi := K.1.2.2
    have body : ∀ a, a < 2 → wX_commute_18 (fun r u' => wY_commute_18 (fun r' v' => r' = r ∧ i_Rel (k + 4) u' v') (nI a) v2 h_n h_phase b_cell b_old b_plain b_term b_next b_spot b_choice b_ends b_seen) (nI a) v2 f_reach f_width f_capacity f_slots f_hand f_n f_phase f_bank f_stateCount f_spareCount a_rowX a_rowO a_colX a_colO a_nextX a_nextO a_rowTo a_colTo a_partner a_keys a_poly a_plain a_normal := by
      intro a ha
      by_cases c0 : v2 < 0
      · exact br_t c0 (br_t c0 (I' _))
      · obtain ⟨x, hx, rfl⟩ := nI_of c0
        by_cases cx' : x + 1 < n
        · have le1 : nI x ≤ f_n - 2 := by rw [f2]; exact nI_le (by omega) (by omega)
          have le2 : nI x ≤ h_n - 2 := by rw [g2]; exact nI_le (by omega) (by omega)
          have ka := kx_at K (r := x) (by omega)
          have kb := kx_at K (r := x + 1) cx'
          have sw := kv_si cx'
          have ide : ∀ r, r < n → (fun i => i) r < n ∧ (fun i => i) r < n ∧ (fun i : Nat => i) ((fun i => i) r) = r ∧ (fun i : Nat => i) ((fun i => i) r) = r := fun r hr => ⟨hr, hr, rfl, rfl⟩
          have ex1 : (nI x + 1 : Int32) = nI (x + 1) := nI_1 x
          rcases (by omega : a = 0 ∨ a = 1) with rfl | rfl
          · have lh1 := kx_lh (rx x) (ro x)
            have lh2 := kx_lh (rx (x + 1)) (ro (x + 1))
            have Y : ∀ post : Int32 → SY → Prop, (kx_E (kx_lo (rx x) (ro x)) (kx_hi (rx x) (ro x)) (kx_lo (rx (x + 1)) (ro (x + 1))) (kx_hi (rx (x + 1)) (ro (x + 1))) → ∃ q, wY_commute_182 post (nI 0) (nI x) h_n h_phase q 0 b_cell b_old b_plain b_term b_next b_spot b_choice b_ends b_seen) →
                (¬ kx_E (kx_lo (rx x) (ro x)) (kx_hi (rx x) (ro x)) (kx_lo (rx (x + 1)) (ro (x + 1))) (kx_hi (rx (x + 1)) (ro (x + 1))) → post (-5) (h_n, h_phase, b_cell, b_old, b_plain, b_term, b_next, b_spot, b_choice, b_ends, b_seen)) → wY_commute_18 post (nI 0) (nI x) h_n h_phase b_cell b_old b_plain b_term b_next b_spot b_choice b_ends b_seen := by
              intro post h1 h0
              refine br_f c0 (br_t le2 ?_)
              rw [ex1]
              exact yw_rX e2 K.1 C (by omega) (yw_rO e2 K.1 C (by omega) (yw_rX e2 K.1 C cx' (yw_rO e2 K.1 C cx' (yw_cP (by omega) (by omega) (by omega) (by omega) h1 h0))))
            refine br_f c0 (br_t le1 ?_)
            refine xw_exch0 (by omega) ka.2.1 ka.2.2.1 kb.2.1 kb.2.2.1 (by omega) (by omega) (by omega) (by omega) (fun yes => br_f (by decide) ?_) (fun no => br_t rfl (Y _ (fun z => absurd z no) (fun _ => I' _)))
            refine xw_cm e1 n7 cx' (by omega) (fun RT CT hT => xw_move (p := kv_s x) (p' := kv_s x) (kk := fun i => i) (k' := fun i => i) e1 K sw ide (fun i hi => by have := hT i hi; rw [if_pos rfl, if_pos rfl] at this; exact this) (fun NX NO A B C' D K' => ?_))
            refine Y _ (fun _ => yw_sw0 e2 n7 cx' (fun cl hc => ⟨rfl, ?_, rfl⟩)) (fun z => absurd yes z)
            rw [e2]
            refine kz_new K' (fun r c hr hcc => ?_)
            rw [hc r c hr hcc]
            have s := kv_s1 x r
            by_cases q : c < n
            · rw [if_pos q, C (kv_s x r) c (by omega) hcc]
              by_cases rn : r < n
              · rw [if_pos (show kv_s x r < n ∧ c < n from ⟨(sw r rn).1, q⟩), if_pos (show r < n ∧ c < n from ⟨rn, q⟩)]
              · rw [if_neg (by omega), if_neg (by omega)]
            · rw [if_neg q, C r c hr hcc, if_neg (by omega), if_neg (by omega)]
          · have lh1 := kx_lh (cx x) (co x)
            have lh2 := kx_lh (cx (x + 1)) (co (x + 1))
            have Y : ∀ post : Int32 → SY → Prop, (kx_E (kx_lo (cx x) (co x)) (kx_hi (cx x) (co x)) (kx_lo (cx (x + 1)) (co (x + 1))) (kx_hi (cx (x + 1)) (co (x + 1))) → ∃ q, wY_commute_182 post (nI 1) (nI x) h_n h_phase q 0 b_cell b_old b_plain b_term b_next b_spot b_choice b_ends b_seen) →
                (¬ kx_E (kx_lo (cx x) (co x)) (kx_hi (cx x) (co x)) (kx_lo (cx (x + 1)) (co (x + 1))) (kx_hi (cx (x + 1)) (co (x + 1))) → post (-5) (h_n, h_phase, b_cell, b_old, b_plain, b_term, b_next, b_spot, b_choice, b_ends, b_seen)) → wY_commute_18 post (nI 1) (nI x) h_n h_phase b_cell b_old b_plain b_term b_next b_spot b_choice b_ends b_seen := by
              intro post h1 h0
              refine br_f c0 (br_t le2 ?_)
              rw [ex1]
              exact yw_cX e2 K.1 C (by omega) (yw_cO e2 K.1 C (by omega) (yw_cX e2 K.1 C cx' (yw_cO e2 K.1 C cx' (yw_cP (by omega) (by omega) (by omega) (by omega) h1 h0))))
            refine br_f c0 (br_t le1 ?_)
            refine xw_exch1 (by omega) ka.2.2.2.1 ka.2.2.2.2.1 kb.2.2.2.1 kb.2.2.2.2.1 (by omega) (by omega) (by omega) (by omega) (fun yes => br_f (by decide) ?_) (fun no => br_t rfl (Y _ (fun z => absurd z no) (fun _ => I' _)))
            refine xw_cm e1 n7 cx' (by omega) (fun RT CT hT => xw_move (p := fun i => i) (p' := fun i => i) (kk := kv_s x) (k' := kv_s x) e1 K ide sw (fun i hi => by have := hT i hi; rw [if_neg (by omega), if_neg (by omega)] at this; exact this) (fun NX NO A B C' D K' => ?_))
            refine Y _ (fun _ => yw_sw1 e2 n7 cx' (fun cl hc => ⟨rfl, ?_, rfl⟩)) (fun z => absurd yes z)
            rw [e2]
            refine kz_new K' (fun r c hr hcc => ?_)
            rw [hc r c hr hcc]
            have s := kv_s1 x c
            by_cases q : r < n
            · rw [if_pos q, C r (kv_s x c) hr (by omega)]
              have g := gi r q
              have i1 : kv_s x c = rx r ↔ c = kv_s x (rx r) := by
                have t := kv_s1 x (rx r)
                have t2 := kv_s1 x c
                omega
              have i2 : kv_s x c = ro r ↔ c = kv_s x (ro r) := by
                have t := kv_s1 x (ro r)
                have t2 := kv_s1 x c
                omega
              by_cases cn : c < n
              · rw [if_pos (show r < n ∧ kv_s x c < n from ⟨q, (sw c cn).1⟩), if_pos (show r < n ∧ c < n from ⟨q, cn⟩)]
                by_cases y1 : kv_s x c = rx r
                · rw [if_pos y1, if_pos (i1.mp y1)]
                · rw [if_neg y1, if_neg (fun z => y1 (i1.mpr z))]
                  by_cases y2 : kv_s x c = ro r
                  · rw [if_pos y2, if_pos (i2.mp y2)]
                  · rw [if_neg y2, if_neg (fun z => y2 (i2.mpr z))]
              · rw [if_neg (by omega), if_neg (by omega)]
            · rw [if_neg q, C r c hr hcc, if_neg (by omega), if_neg (by omega)]
        · have le1 : ¬ nI x ≤ f_n - 2 := by rw [f2]; exact nI_ge (by omega) (by omega)
          have le2 : ¬ nI x ≤ h_n - 2 := by rw [g2]; exact nI_ge (by omega) (by omega)
          exact br_f c0 (br_f le1 (br_f c0 (br_f le2 (I' _))))
    refine br_f hz (br_c (fun a0 => ?_) (fun a0 => br_c (fun a1 => ?_) (fun a1 => br_f hz' (br_f a0 (br_f a1 (I' _))))))
    · subst a0
      have z := body 0 (by omega)
      have w : ∀ post : Int32 → SY → Prop, wY_commute_18 post (nI 0) v2 h_n h_phase b_cell b_old b_plain b_term b_next b_spot b_choice b_ends b_seen → wpY_commute post (h_n, h_phase, b_cell, b_old, b_plain, b_term, b_next, b_spot, b_choice, b_ends, b_seen) 0 v2 := fun post q => br_f hz' (br_t rfl q)
      have z2 : wX_commute_18 (fun r u' => wpY_commute (fun r' v' => r' = r ∧ i_Rel (k + 4) u' v') (h_n, h_phase, b_cell, b_old, b_plain, b_term, b_next, b_spot, b_choice, b_ends, b_seen) 0 v2) (nI 0) v2 f_reach f_width f_capacity f_slots f_hand f_n f_phase f_bank f_stateCount f_spareCount a_rowX a_rowO a_colX a_colO a_nextX a_nextO a_rowTo a_colTo a_partner a_keys a_poly a_plain a_normal := by
        have e : (fun (r : Int32) (u' : SX) => wpY_commute (fun r' v' => r' = r ∧ i_Rel (k + 4) u' v') (h_n, h_phase, b_cell, b_old, b_plain, b_term, b_next, b_spot, b_choice, b_ends, b_seen) 0 v2) = fun r u' => wY_commute_18 (fun r' v' => r' = r ∧ i_Rel (k + 4) u' v') (nI 0) v2 h_n h_phase b_cell b_old b_plain b_term b_next b_spot b_choice b_ends b_seen := by
          funext r u'
          apply propext
          exact ⟨fun q => (q.2 hz').1 rfl, fun q => w _ q⟩
        rw [e]; exact z
      exact z2
    · subst a1
      have z := body 1 (by omega)
      have w : ∀ post : Int32 → SY → Prop, wY_commute_18 post (nI 1) v2 h_n h_phase b_cell b_old b_plain b_term b_next b_spot b_choice b_ends b_seen → wpY_commute post (h_n, h_phase, b_cell, b_old, b_plain, b_term, b_next, b_spot, b_choice, b_ends, b_seen) 1 v2 := fun post q => br_f hz' (br_f (by decide) (br_t rfl q))
      have z2 : wX_commute_18 (fun r u' => wpY_commute (fun r' v' => r' = r ∧ i_Rel (k + 4) u' v') (h_n, h_phase, b_cell, b_old, b_plain, b_term, b_next, b_spot, b_choice, b_ends, b_seen) 1 v2) (nI 1) v2 f_reach f_width f_capacity f_slots f_hand f_n f_phase f_bank f_stateCount f_spareCount a_rowX a_rowO a_colX a_colO a_nextX a_nextO a_rowTo a_colTo a_partner a_keys a_poly a_plain a_normal := by
        have e : (fun (r : Int32) (u' : SX) => wpY_commute (fun r' v' => r' = r ∧ i_Rel (k + 4) u' v') (h_n, h_phase, b_cell, b_old, b_plain, b_term, b_next, b_spot, b_choice, b_ends, b_seen) 1 v2) = fun r u' => wY_commute_18 (fun r' v' => r' = r ∧ i_Rel (k + 4) u' v') (nI 1) v2 h_n h_phase b_cell b_old b_plain b_term b_next b_spot b_choice b_ends b_seen := by
          funext r u'
          apply propext
          exact ⟨fun q => ((q.2 hz').2 (by decide)).1 rfl, fun q => w _ q⟩
        rw [e]; exact z
      exact z2
end
section
/-! stabilise -/
def kt_p (w r : Nat) : Nat := if r < w then r else r + 1
def kt_q (w i : Nat) : Nat := if i < w then i else i - 1
theorem kt_p1 (w r : Nat) : (r < w ∧ kt_p w r = r) ∨ (w ≤ r ∧ kt_p w r = r + 1) := by
  unfold kt_p
  by_cases h : r < w
  · rw [if_pos h]; exact Or.inl ⟨h, rfl⟩
  · rw [if_neg h]; exact Or.inr ⟨by omega, rfl⟩
theorem kt_q1 (w r : Nat) : (r < w ∧ kt_q w r = r) ∨ (w ≤ r ∧ kt_q w r = r - 1) := by
  unfold kt_q
  by_cases h : r < w
  · rw [if_pos h]; exact Or.inl ⟨h, rfl⟩
  · rw [if_neg h]; exact Or.inr ⟨by omega, rfl⟩
theorem kt_qp {w r : Nat} : kt_q w (kt_p w r) = r := by
  have a := kt_p1 w r
  have b := kt_q1 w (kt_p w r)
  omega
/-- the new marks of the kind, and of the other -/
def kt_a (a : Nat → Nat) (w c p t i : Nat) : Nat := if i = w + p then c + 1 - t else if i = w + 1 - p then c + t else kt_p c (a (kt_q w i))
def kt_b (b : Nat → Nat) (w c p t i : Nat) : Nat := if i = w + p then c + t else if i = w + 1 - p then kt_p c (b w) else if b (kt_q w i) = c then c + 1 - t else kt_p c (b (kt_q w i))
section
variable {n w c p t : Nat} {a b : Nat → Nat}
theorem kt_D (i : Nat) : (i = w + p ∧ kt_a a w c p t i = c + 1 - t ∧ kt_b b w c p t i = c + t) ∨ (i ≠ w + p ∧ i = w + 1 - p ∧ kt_a a w c p t i = c + t ∧ kt_b b w c p t i = kt_p c (b w)) ∨
    (i ≠ w + p ∧ i ≠ w + 1 - p ∧ kt_a a w c p t i = kt_p c (a (kt_q w i)) ∧ ((b (kt_q w i) = c ∧ kt_b b w c p t i = c + 1 - t) ∨ (b (kt_q w i) ≠ c ∧ kt_b b w c p t i = kt_p c (b (kt_q w i))))) := by
  unfold kt_a kt_b
  by_cases h : i = w + p
  · rw [if_pos h, if_pos h]; exact Or.inl ⟨h, rfl, rfl⟩
  · rw [if_neg h, if_neg h]
    by_cases h2 : i = w + 1 - p
    · rw [if_pos h2, if_pos h2]; exact Or.inr (Or.inl ⟨h, h2, rfl, rfl⟩)
    · rw [if_neg h2, if_neg h2]
      refine Or.inr (Or.inr ⟨h, h2, rfl, ?_⟩)
      by_cases h3 : b (kt_q w i) = c
      · rw [if_pos h3]; exact Or.inl ⟨h3, rfl⟩
      · rw [if_neg h3]; exact Or.inr ⟨h3, rfl⟩
theorem kt_ok (n6 : n < 7) (hp : p < 2) (ht : t < 2) (hw : w < n) (ha : ∀ r, r < n → a r < n) (hb : ∀ r, r < n → b r < n) (hab : ∀ r, r < n → a r ≠ b r) (ia : ∀ x y, x < n → y < n → a x = a y → x = y) (ib : ∀ x y, x < n → y < n → b x = b y → x = y) (hc : a w = c) :
    (∀ i, i < n + 1 → kt_a a w c p t i < n + 1 ∧ kt_b b w c p t i < n + 1 ∧ kt_a a w c p t i ≠ kt_b b w c p t i) ∧
    (∀ x y, x < n + 1 → y < n + 1 → kt_a a w c p t x = kt_a a w c p t y → x = y) ∧ (∀ x y, x < n + 1 → y < n + 1 → kt_b b w c p t x = kt_b b w c p t y → x = y) := by
  have hcn : c < n := by rw [← hc]; exact ha w hw
  have bw : b w ≠ c := fun e => hab w hw (by rw [hc, e])
  have bwn := hb w hw
  have kb := kt_p1 c (b w)
  have gen : ∀ i, i < n + 1 → i ≠ w + p → i ≠ w + 1 - p → kt_q w i < n ∧ kt_q w i ≠ w ∧ a (kt_q w i) < n ∧ b (kt_q w i) < n ∧ a (kt_q w i) ≠ b (kt_q w i) ∧ a (kt_q w i) ≠ c ∧ b (kt_q w i) ≠ b w := by
    intro i hi h1 h2
    have q := kt_q1 w i
    have l : kt_q w i < n := by omega
    have ne : kt_q w i ≠ w := by omega
    exact ⟨l, ne, ha _ l, hb _ l, hab _ l, fun e => ne (ia _ _ l hw (by rw [e, hc])), fun e => ne (ib _ _ l hw e)⟩
  refine ⟨fun i hi => ?_, fun x y hx hy e => ?_, fun x y hx hy e => ?_⟩
  · rcases kt_D (a := a) (b := b) (w := w) (c := c) (p := p) (t := t) i with d | d | d
    · omega
    · omega
    · have g := gen i hi d.1 d.2.1
      have k1 := kt_p1 c (a (kt_q w i))
      have k2 := kt_p1 c (b (kt_q w i))
      omega
  · rcases kt_D (a := a) (b := b) (w := w) (c := c) (p := p) (t := t) x with d | d | d <;> rcases kt_D (a := a) (b := b) (w := w) (c := c) (p := p) (t := t) y with d' | d' | d'
    · omega
    · omega
    · have g := gen y hy d'.1 d'.2.1
      have k1 := kt_p1 c (a (kt_q w y))
      omega
    · omega
    · omega
    · have g := gen y hy d'.1 d'.2.1
      have k1 := kt_p1 c (a (kt_q w y))
      omega
    · have g := gen x hx d.1 d.2.1
      have k1 := kt_p1 c (a (kt_q w x))
      omega
    · have g := gen x hx d.1 d.2.1
      have k1 := kt_p1 c (a (kt_q w x))
      omega
    · have g := gen x hx d.1 d.2.1
      have g' := gen y hy d'.1 d'.2.1
      have k1 := kt_p1 c (a (kt_q w x))
      have k2 := kt_p1 c (a (kt_q w y))
      have e2 : a (kt_q w x) = a (kt_q w y) := by omega
      have e3 := ia _ _ g.1 g'.1 e2
      have q1 := kt_q1 w x
      have q2 := kt_q1 w y
      omega
  · rcases kt_D (a := a) (b := b) (w := w) (c := c) (p := p) (t := t) x with d | d | d <;> rcases kt_D (a := a) (b := b) (w := w) (c := c) (p := p) (t := t) y with d' | d' | d'
    · omega
    · omega
    · have g := gen y hy d'.1 d'.2.1
      have k1 := kt_p1 c (b (kt_q w y))
      omega
    · omega
    · omega
    · have g := gen y hy d'.1 d'.2.1
      have k1 := kt_p1 c (b (kt_q w y))
      omega
    · have g := gen x hx d.1 d.2.1
      have k1 := kt_p1 c (b (kt_q w x))
      omega
    · have g := gen x hx d.1 d.2.1
      have k1 := kt_p1 c (b (kt_q w x))
      omega
    · have g := gen x hx d.1 d.2.1
      have g' := gen y hy d'.1 d'.2.1
      have k1 := kt_p1 c (b (kt_q w x))
      have k2 := kt_p1 c (b (kt_q w y))
      have e2 : b (kt_q w x) = b (kt_q w y) := by omega
      have e3 := ib _ _ g.1 g'.1 e2
      have q1 := kt_q1 w x
      have q2 := kt_q1 w y
      omega
/-- an old row other than w -/
theorem kt_old (hp : p < 2) {r : Nat} (hr : r ≠ w) : kt_p w r ≠ w + p ∧ kt_p w r ≠ w + 1 - p ∧ kt_a a w c p t (kt_p w r) = kt_p c (a r) ∧ ((b r = c ∧ kt_b b w c p t (kt_p w r) = c + 1 - t) ∨ (b r ≠ c ∧ kt_b b w c p t (kt_p w r) = kt_p c (b r))) := by
  have k := kt_p1 w r
  have d := kt_D (a := a) (b := b) (w := w) (c := c) (p := p) (t := t) (kt_p w r)
  rw [kt_qp] at d
  have n1 : kt_p w r ≠ w + p := by omega
  have n2 : kt_p w r ≠ w + 1 - p := by omega
  rcases d with d | d | d
  · exact absurd d.1 n1
  · exact absurd d.2.1 n2
  · exact ⟨n1, n2, d.2.2.1, d.2.2.2⟩
/-- a new row is new, or an old one's -/
theorem kt_new (hp : p < 2) (hw : w < n) {i : Nat} (hi : i < n + 1) (h1 : i ≠ w + p) (h2 : i ≠ w + 1 - p) : ∃ r, r < n ∧ r ≠ w ∧ i = kt_p w r := by
  refine ⟨kt_q w i, ?_, ?_, ?_⟩
  · have q := kt_q1 w i; omega
  · have q := kt_q1 w i; omega
  · have q := kt_q1 w i
    have k := kt_p1 w (kt_q w i)
    omega
end
end
section
section
variable {f_reach f_width f_capacity f_slots f_hand f_n f_phase f_bank f_stateCount f_spareCount : Int32} {a_rowX a_rowO a_colX a_colO a_nextX a_nextO a_rowTo a_colTo a_partner a_keys a_poly a_plain a_normal : Nat → Int32}
theorem xw_spl1 {post : SX → Prop} {n w c p t u v : Nat} {a b : Nat → Nat} (hn : f_n = nI n) (n6 : n < 7) (hp : p < 2) (ht : t < 2) (hw : w < n) (ha : ∀ r, r < n → a r < n) (hb : ∀ r, r < n → b r < n) (hab : ∀ r, r < n → a r ≠ b r)
    (ia : ∀ x y, x < n → y < n → a x = a y → x = y) (ib : ∀ x y, x < n → y < n → b x = b y → x = y) (hc : a w = c) (hu : b w = u) (hv : v < n) (hbv : b v = c) (hA : ∀ r, r < n → a_rowX r = nI (a r) ∧ a_rowO r = nI (b r))
    {cx co : Nat → Nat} (G : kx_ok (n + 1) (fun i => kt_a a w c p t i) (fun i => kt_b b w c p t i) cx co)
    (h : ∀ RT CT NX NO A B C D : Nat → Int32, kx_A (n + 1) (fun i => kt_a a w c p t i) (fun i => kt_b b w c p t i) cx co A B C D → post (f_reach, f_width, f_capacity, f_slots, f_hand, nI (n + 1), 1, f_bank, f_stateCount, f_spareCount, A, B, C, D, NX, NO, RT, CT, a_partner, a_keys, a_poly, a_plain, a_normal)) :
    ∃ q, wX_split_86 post (nI w) 1 2 (nI c) (nI u) (nI v) (nI p) (nI t) f_reach f_width f_capacity f_slots f_hand f_n f_phase f_bank f_stateCount f_spareCount q 0 a_rowX a_rowO a_colX a_colO a_nextX a_nextO a_rowTo a_colTo a_partner a_keys a_poly a_plain a_normal := by
  have hcn : c < n := by rw [← hc]; exact ha w hw
  have un : u < n := by rw [← hu]; exact hb w hw
  have uc : u ≠ c := fun e => hab w hw (by rw [hc, hu, e])
  have vw : v ≠ w := fun e => hab w hw (by rw [hc, ← hbv, e])
  have loop : ∀ d i (RT CT : Nat → Int32), i + d = n → (∀ j, j < i → RT j = nI (kt_p w j) ∧ CT j = nI (kt_p c j)) → wX_split_86 post (nI w) 1 2 (nI c) (nI u) (nI v) (nI p) (nI t) f_reach f_width f_capacity f_slots f_hand f_n f_phase f_bank f_stateCount f_spareCount (d + 1) (nI i) a_rowX a_rowO a_colX a_colO a_nextX a_nextO RT CT a_partner a_keys a_poly a_plain a_normal := by
    intro d
    induction d with
    | zero =>
      intro i RT CT hi hz
      have hT : ∀ j, j < n → RT j = nI (kt_p w j) ∧ CT j = nI (kt_p c j) := fun j hj => hz j (by omega)
      refine pk_le n i (fun _ => ⟨pk_in w 7 (by omega), nm_e ⟨pk_in c 7 (by omega), nm_e ?_⟩⟩) (fun q => by omega) hn
      have cw : (nI w).toNatClampNeg = w := nI_clamp (by omega)
      have cc : (nI c).toNatClampNeg = c := nI_clamp (by omega)
      have cu : (nI u).toNatClampNeg = u := nI_clamp (by omega)
      have cv : (nI v).toNatClampNeg = v := nI_clamp (by omega)
      rw [cw, cc]
      have m1 : (-1 : Int32) < 0 := by decide
      have rw1 : upd RT w (-1) w = -1 := pk_us
      have KA : ∀ r, r < n → kx_K (upd RT w (-1)) (upd CT c (-1)) r (a r) (fun i => kt_a a w c p t i) := by
        intro r hr
        by_cases e : r = w
        · rw [e]; exact Or.inl (by rw [pk_us]; exact m1)
        · have ac : a r ≠ c := fun q => e (ia _ _ hr hw (by rw [q, hc]))
          have k1 := kt_p1 w r
          have k2 := kt_p1 c (a r)
          have l := ha r hr
          exact Or.inr (Or.inr ⟨kt_p w r, by omega, by rw [pk_un e]; exact (hT r hr).1, kt_p c (a r), by omega, by rw [pk_un ac]; exact (hT _ l).2, (kt_old (b := b) hp e).2.2.1⟩)
      have KB : ∀ r, r < n → kx_K (upd RT w (-1)) (upd CT c (-1)) r (b r) (fun i => kt_b b w c p t i) := by
        intro r hr
        by_cases e : r = w
        · rw [e]; exact Or.inl (by rw [pk_us]; exact m1)
        · have k1 := kt_p1 w r
          by_cases bc : b r = c
          · exact Or.inr (Or.inl ⟨by rw [pk_un e, (hT r hr).1]; exact nI_pos (by omega), by rw [bc, pk_us]; exact m1⟩)
          · have k2 := kt_p1 c (b r)
            have l := hb r hr
            refine Or.inr (Or.inr ⟨kt_p w r, by omega, by rw [pk_un e]; exact (hT r hr).1, kt_p c (b r), by omega, by rw [pk_un bc]; exact (hT _ l).2, ?_⟩)
            rcases (kt_old (a := a) (b := b) (c := c) (t := t) hp e).2.2.2 with z | z
            · exact absurd z.1 bc
            · exact z.2
      refine xw_carryAll (rx := a) (ro := b) (nx := (fun i => kt_a a w c p t i)) (no := (fun i => kt_b b w c p t i)) hn (by omega) (fun r hr => ⟨(hA r hr).1, (hA r hr).2, by have := ha r hr; have := hb r hr; omega, by have := ha r hr; have := hb r hr; omega⟩) KA KB (fun NX NO hX hO => ?_)
      refine ⟨pk_in u 7 (by omega), ?_⟩
      rw [cu, pk_un uc, (hT u un).2]
      have kv := kt_p1 w v
      have e1 : (nI w + 1 - nI p : Int32) = nI (w + 1 - p) := by rw [nI_1, pk_sub (by omega)]
      have e2 : (nI c + 1 - nI t : Int32) = nI (c + 1 - t) := by rw [nI_1, pk_sub (by omega)]
      have e3 : (nI w + nI p : Int32) = nI (w + p) := nI_add w p
      have e4 : (nI c + nI t : Int32) = nI (c + t) := nI_add c t
      have e5 : f_n + 1 = nI (n + 1) := by rw [hn]; exact nI_1 n
      rw [e1, e2, e3, e4]
      refine xw_place (by omega) (fun e => absurd e (by decide)) (fun _ => ⟨pk_in v 7 (by omega), ?_⟩)
      rw [cv, pk_un vw, (hT v hv).1]
      refine xw_place (by omega) (fun e => absurd e (by decide)) (fun _ => xw_place (by omega) (fun e => absurd e (by decide)) (fun _ => xw_place (by omega) (fun _ => xw_place (by omega) (fun _ => ?_) (fun e => absurd rfl e)) (fun e => absurd rfl e)))
      have fin : wpX_install post (f_reach, f_width, f_capacity, f_slots, f_hand, f_n, f_phase, f_bank, f_stateCount, f_spareCount, a_rowX, a_rowO, a_colX, a_colO, upd (upd NX (w + p) (nI (c + 1 - t))) (w + 1 - p) (nI (c + t)), upd (upd (upd NO (w + 1 - p) (nI (kt_p c u))) (kt_p w v) (nI (c + 1 - t))) (w + p) (nI (c + t)), upd RT w (-1), upd CT c (-1), a_partner, a_keys, a_poly, a_plain, a_normal) (nI (n + 1)) := by
        refine xw_install G (fun i hi => ?_) (fun A B C D K => h _ _ _ _ A B C D K)
        have AA : upd (upd NX (w + p) (nI (c + 1 - t))) (w + 1 - p) (nI (c + t)) i = nI (kt_a a w c p t i) := by
          by_cases i1 : i = w + 1 - p
          · rw [i1, pk_us]
            rcases kt_D (a := a) (b := b) (w := w) (c := c) (p := p) (t := t) (w + 1 - p) with d | d | d
            · omega
            · rw [d.2.2.1]
            · exact absurd rfl d.2.1
          · rw [pk_un i1]
            by_cases i2 : i = w + p
            · rw [i2, pk_us]
              rcases kt_D (a := a) (b := b) (w := w) (c := c) (p := p) (t := t) (w + p) with d | d | d
              · rw [d.2.1]
              · exact absurd rfl d.1
              · exact absurd rfl d.1
            · rw [pk_un i2]
              obtain ⟨r, hr, rw', er⟩ := kt_new hp hw hi i2 i1
              have ac : a r ≠ c := fun q => rw' (ia _ _ hr hw (by rw [q, hc]))
              have k1 := kt_p1 w r
              have k2 := kt_p1 c (a r)
              have l := ha r hr
              exact hX r i hr (by omega) (by rw [pk_un rw', (hT r hr).1, er]) (by rw [pk_un ac, (hT _ l).2]; exact nI_pos (by omega))
        have BB : upd (upd (upd NO (w + 1 - p) (nI (kt_p c u))) (kt_p w v) (nI (c + 1 - t))) (w + p) (nI (c + t)) i = nI (kt_b b w c p t i) := by
          by_cases i2 : i = w + p
          · rw [i2, pk_us]
            rcases kt_D (a := a) (b := b) (w := w) (c := c) (p := p) (t := t) (w + p) with d | d | d
            · rw [d.2.2]
            · exact absurd rfl d.1
            · exact absurd rfl d.1
          · rw [pk_un i2]
            by_cases i3 : i = kt_p w v
            · rw [i3, pk_us]
              rcases (kt_old (a := a) (b := b) (c := c) (t := t) hp vw).2.2.2 with z | z
              · rw [z.2]
              · exact absurd hbv z.1
            · rw [pk_un i3]
              by_cases i1 : i = w + 1 - p
              · rw [i1, pk_us]
                rcases kt_D (a := a) (b := b) (w := w) (c := c) (p := p) (t := t) (w + 1 - p) with d | d | d
                · omega
                · rw [d.2.2.2, hu]
                · exact absurd rfl d.2.1
              · rw [pk_un i1]
                obtain ⟨r, hr, rw', er⟩ := kt_new hp hw hi i2 i1
                have bc : b r ≠ c := fun q => i3 (by rw [er, ib r v hr hv (by rw [q, hbv])])
                have k2 := kt_p1 c (b r)
                have l := hb r hr
                exact hO r i hr (by omega) (by rw [pk_un rw', (hT r hr).1, er]) (by rw [pk_un bc, (hT _ l).2]; exact nI_pos (by omega))
        exact ⟨AA, BB⟩
      rw [← e5] at fin
      exact fin
    | succ d ih =>
      intro i RT CT hi hz
      have st : ∀ x y : Int32, x = nI (kt_p w i) → y = nI (kt_p c i) → ∀ j, j < i + 1 → upd RT i x j = nI (kt_p w j) ∧ upd CT i y j = nI (kt_p c j) := by
        intro x y hx hy j hj
        by_cases e : j = i
        · rw [e, pk_us, pk_us]; exact ⟨hx, hy⟩
        · rw [pk_un e, pk_un e]; exact hz j (by omega)
      have k1 := kt_p1 w i
      have k2 := kt_p1 c i
      have fin : ∀ z0 : Int32, z0 = nI (kt_p w i) → wX_split_116 post (wX_split_86 post (nI w) 1 2 (nI c) (nI u) (nI v) (nI p) (nI t) f_reach f_width f_capacity f_slots f_hand f_n f_phase f_bank f_stateCount f_spareCount (d + 1)) (nI w) 1 2 (nI c) (nI u) (nI v) (nI p) (nI t) (nI i) z0 (nI i) f_reach f_width f_capacity f_slots f_hand f_n f_phase f_bank f_stateCount f_spareCount a_rowX a_rowO a_colX a_colO a_nextX a_nextO RT CT a_partner a_keys a_poly a_plain a_normal := by
        intro z0 hz0
        refine ⟨pk_in i 7 (by omega), nm_e (pk_le c i (fun q => ⟨pk_in i 7 (by omega), nm_e (nm_r (nI_1 i) ?_)⟩) (fun q => ⟨pk_in i 7 (by omega), nm_e (nm_r (nI_1 i) ?_)⟩))⟩
        · rw [pk_cl i]
          exact ih (i + 1) _ _ (by omega) (st _ _ hz0 (by rw [nI_1, show kt_p c i = i + 1 from by omega]))
        · rw [pk_cl i]
          exact ih (i + 1) _ _ (by omega) (st _ _ hz0 (by rw [show kt_p c i = i from by omega]))
      refine pk_le n i (fun q => by omega) (fun q => pk_le w i (fun q2 => fin _ ?_) (fun q2 => fin _ ?_)) hn
      · rw [nI_1, show kt_p w i = i + 1 from by omega]
      · rw [show kt_p w i = i from by omega]
  exact ⟨n + 1, loop n 0 a_rowTo a_colTo (by omega) (fun j hj => by omega)⟩
end
section
variable {f_reach f_width f_capacity f_slots f_hand f_n f_phase f_bank f_stateCount f_spareCount : Int32} {a_rowX a_rowO a_colX a_colO a_nextX a_nextO a_rowTo a_colTo a_partner a_keys a_poly a_plain a_normal : Nat → Int32}
theorem xw_spl2 {post : SX → Prop} {n w c p t u v : Nat} {a b : Nat → Nat} (hn : f_n = nI n) (n6 : n < 7) (hp : p < 2) (ht : t < 2) (hw : w < n) (ha : ∀ r, r < n → a r < n) (hb : ∀ r, r < n → b r < n) (hab : ∀ r, r < n → a r ≠ b r)
    (ia : ∀ x y, x < n → y < n → a x = a y → x = y) (ib : ∀ x y, x < n → y < n → b x = b y → x = y) (hc : a w = c) (hu : b w = u) (hv : v < n) (hbv : b v = c) (hA : ∀ r, r < n → a_rowO r = nI (a r) ∧ a_rowX r = nI (b r))
    {cx co : Nat → Nat} (G : kx_ok (n + 1) (fun i => kt_b b w c p t i) (fun i => kt_a a w c p t i) cx co)
    (h : ∀ RT CT NX NO A B C D : Nat → Int32, kx_A (n + 1) (fun i => kt_b b w c p t i) (fun i => kt_a a w c p t i) cx co A B C D → post (f_reach, f_width, f_capacity, f_slots, f_hand, nI (n + 1), 1, f_bank, f_stateCount, f_spareCount, A, B, C, D, NX, NO, RT, CT, a_partner, a_keys, a_poly, a_plain, a_normal)) :
    ∃ q, wX_split_86 post (nI w) 2 1 (nI c) (nI u) (nI v) (nI p) (nI t) f_reach f_width f_capacity f_slots f_hand f_n f_phase f_bank f_stateCount f_spareCount q 0 a_rowX a_rowO a_colX a_colO a_nextX a_nextO a_rowTo a_colTo a_partner a_keys a_poly a_plain a_normal := by
  have hcn : c < n := by rw [← hc]; exact ha w hw
  have un : u < n := by rw [← hu]; exact hb w hw
  have uc : u ≠ c := fun e => hab w hw (by rw [hc, hu, e])
  have vw : v ≠ w := fun e => hab w hw (by rw [hc, ← hbv, e])
  have loop : ∀ d i (RT CT : Nat → Int32), i + d = n → (∀ j, j < i → RT j = nI (kt_p w j) ∧ CT j = nI (kt_p c j)) → wX_split_86 post (nI w) 2 1 (nI c) (nI u) (nI v) (nI p) (nI t) f_reach f_width f_capacity f_slots f_hand f_n f_phase f_bank f_stateCount f_spareCount (d + 1) (nI i) a_rowX a_rowO a_colX a_colO a_nextX a_nextO RT CT a_partner a_keys a_poly a_plain a_normal := by
    intro d
    induction d with
    | zero =>
      intro i RT CT hi hz
      have hT : ∀ j, j < n → RT j = nI (kt_p w j) ∧ CT j = nI (kt_p c j) := fun j hj => hz j (by omega)
      refine pk_le n i (fun _ => ⟨pk_in w 7 (by omega), nm_e ⟨pk_in c 7 (by omega), nm_e ?_⟩⟩) (fun q => by omega) hn
      have cw : (nI w).toNatClampNeg = w := nI_clamp (by omega)
      have cc : (nI c).toNatClampNeg = c := nI_clamp (by omega)
      have cu : (nI u).toNatClampNeg = u := nI_clamp (by omega)
      have cv : (nI v).toNatClampNeg = v := nI_clamp (by omega)
      rw [cw, cc]
      have m1 : (-1 : Int32) < 0 := by decide
      have rw1 : upd RT w (-1) w = -1 := pk_us
      have KA : ∀ r, r < n → kx_K (upd RT w (-1)) (upd CT c (-1)) r (a r) (fun i => kt_a a w c p t i) := by
        intro r hr
        by_cases e : r = w
        · rw [e]; exact Or.inl (by rw [pk_us]; exact m1)
        · have ac : a r ≠ c := fun q => e (ia _ _ hr hw (by rw [q, hc]))
          have k1 := kt_p1 w r
          have k2 := kt_p1 c (a r)
          have l := ha r hr
          exact Or.inr (Or.inr ⟨kt_p w r, by omega, by rw [pk_un e]; exact (hT r hr).1, kt_p c (a r), by omega, by rw [pk_un ac]; exact (hT _ l).2, (kt_old (b := b) hp e).2.2.1⟩)
      have KB : ∀ r, r < n → kx_K (upd RT w (-1)) (upd CT c (-1)) r (b r) (fun i => kt_b b w c p t i) := by
        intro r hr
        by_cases e : r = w
        · rw [e]; exact Or.inl (by rw [pk_us]; exact m1)
        · have k1 := kt_p1 w r
          by_cases bc : b r = c
          · exact Or.inr (Or.inl ⟨by rw [pk_un e, (hT r hr).1]; exact nI_pos (by omega), by rw [bc, pk_us]; exact m1⟩)
          · have k2 := kt_p1 c (b r)
            have l := hb r hr
            refine Or.inr (Or.inr ⟨kt_p w r, by omega, by rw [pk_un e]; exact (hT r hr).1, kt_p c (b r), by omega, by rw [pk_un bc]; exact (hT _ l).2, ?_⟩)
            rcases (kt_old (a := a) (b := b) (c := c) (t := t) hp e).2.2.2 with z | z
            · exact absurd z.1 bc
            · exact z.2
      refine xw_carryAll (rx := b) (ro := a) (nx := (fun i => kt_b b w c p t i)) (no := (fun i => kt_a a w c p t i)) hn (by omega) (fun r hr => ⟨(hA r hr).2, (hA r hr).1, by have := ha r hr; have := hb r hr; omega, by have := ha r hr; have := hb r hr; omega⟩) KB KA (fun NX NO hX hO => ?_)
      refine ⟨pk_in u 7 (by omega), ?_⟩
      rw [cu, pk_un uc, (hT u un).2]
      have kv := kt_p1 w v
      have e1 : (nI w + 1 - nI p : Int32) = nI (w + 1 - p) := by rw [nI_1, pk_sub (by omega)]
      have e2 : (nI c + 1 - nI t : Int32) = nI (c + 1 - t) := by rw [nI_1, pk_sub (by omega)]
      have e3 : (nI w + nI p : Int32) = nI (w + p) := nI_add w p
      have e4 : (nI c + nI t : Int32) = nI (c + t) := nI_add c t
      have e5 : f_n + 1 = nI (n + 1) := by rw [hn]; exact nI_1 n
      rw [e1, e2, e3, e4]
      refine xw_place (by omega) (fun _ => ⟨pk_in v 7 (by omega), ?_⟩) (fun e => absurd rfl e)
      rw [cv, pk_un vw, (hT v hv).1]
      refine xw_place (by omega) (fun _ => xw_place (by omega) (fun _ => xw_place (by omega) (fun e => absurd e (by decide)) (fun _ => xw_place (by omega) (fun e => absurd e (by decide)) (fun _ => ?_))) (fun e => absurd rfl e)) (fun e => absurd rfl e)
      have fin : wpX_install post (f_reach, f_width, f_capacity, f_slots, f_hand, f_n, f_phase, f_bank, f_stateCount, f_spareCount, a_rowX, a_rowO, a_colX, a_colO, upd (upd (upd NX (w + 1 - p) (nI (kt_p c u))) (kt_p w v) (nI (c + 1 - t))) (w + p) (nI (c + t)), upd (upd NO (w + p) (nI (c + 1 - t))) (w + 1 - p) (nI (c + t)), upd RT w (-1), upd CT c (-1), a_partner, a_keys, a_poly, a_plain, a_normal) (nI (n + 1)) := by
        refine xw_install G (fun i hi => ?_) (fun A B C D K => h _ _ _ _ A B C D K)
        have AA : upd (upd NO (w + p) (nI (c + 1 - t))) (w + 1 - p) (nI (c + t)) i = nI (kt_a a w c p t i) := by
          by_cases i1 : i = w + 1 - p
          · rw [i1, pk_us]
            rcases kt_D (a := a) (b := b) (w := w) (c := c) (p := p) (t := t) (w + 1 - p) with d | d | d
            · omega
            · rw [d.2.2.1]
            · exact absurd rfl d.2.1
          · rw [pk_un i1]
            by_cases i2 : i = w + p
            · rw [i2, pk_us]
              rcases kt_D (a := a) (b := b) (w := w) (c := c) (p := p) (t := t) (w + p) with d | d | d
              · rw [d.2.1]
              · exact absurd rfl d.1
              · exact absurd rfl d.1
            · rw [pk_un i2]
              obtain ⟨r, hr, rw', er⟩ := kt_new hp hw hi i2 i1
              have ac : a r ≠ c := fun q => rw' (ia _ _ hr hw (by rw [q, hc]))
              have k1 := kt_p1 w r
              have k2 := kt_p1 c (a r)
              have l := ha r hr
              exact hO r i hr (by omega) (by rw [pk_un rw', (hT r hr).1, er]) (by rw [pk_un ac, (hT _ l).2]; exact nI_pos (by omega))
        have BB : upd (upd (upd NX (w + 1 - p) (nI (kt_p c u))) (kt_p w v) (nI (c + 1 - t))) (w + p) (nI (c + t)) i = nI (kt_b b w c p t i) := by
          by_cases i2 : i = w + p
          · rw [i2, pk_us]
            rcases kt_D (a := a) (b := b) (w := w) (c := c) (p := p) (t := t) (w + p) with d | d | d
            · rw [d.2.2]
            · exact absurd rfl d.1
            · exact absurd rfl d.1
          · rw [pk_un i2]
            by_cases i3 : i = kt_p w v
            · rw [i3, pk_us]
              rcases (kt_old (a := a) (b := b) (c := c) (t := t) hp vw).2.2.2 with z | z
              · rw [z.2]
              · exact absurd hbv z.1
            · rw [pk_un i3]
              by_cases i1 : i = w + 1 - p
              · rw [i1, pk_us]
                rcases kt_D (a := a) (b := b) (w := w) (c := c) (p := p) (t := t) (w + 1 - p) with d | d | d
                · omega
                · rw [d.2.2.2, hu]
                · exact absurd rfl d.2.1
              · rw [pk_un i1]
                obtain ⟨r, hr, rw', er⟩ := kt_new hp hw hi i2 i1
                have bc : b r ≠ c := fun q => i3 (by rw [er, ib r v hr hv (by rw [q, hbv])])
                have k2 := kt_p1 c (b r)
                have l := hb r hr
                exact hX r i hr (by omega) (by rw [pk_un rw', (hT r hr).1, er]) (by rw [pk_un bc, (hT _ l).2]; exact nI_pos (by omega))
        exact ⟨BB, AA⟩
      rw [← e5] at fin
      exact fin
    | succ d ih =>
      intro i RT CT hi hz
      have st : ∀ x y : Int32, x = nI (kt_p w i) → y = nI (kt_p c i) → ∀ j, j < i + 1 → upd RT i x j = nI (kt_p w j) ∧ upd CT i y j = nI (kt_p c j) := by
        intro x y hx hy j hj
        by_cases e : j = i
        · rw [e, pk_us, pk_us]; exact ⟨hx, hy⟩
        · rw [pk_un e, pk_un e]; exact hz j (by omega)
      have k1 := kt_p1 w i
      have k2 := kt_p1 c i
      have fin : ∀ z0 : Int32, z0 = nI (kt_p w i) → wX_split_116 post (wX_split_86 post (nI w) 2 1 (nI c) (nI u) (nI v) (nI p) (nI t) f_reach f_width f_capacity f_slots f_hand f_n f_phase f_bank f_stateCount f_spareCount (d + 1)) (nI w) 2 1 (nI c) (nI u) (nI v) (nI p) (nI t) (nI i) z0 (nI i) f_reach f_width f_capacity f_slots f_hand f_n f_phase f_bank f_stateCount f_spareCount a_rowX a_rowO a_colX a_colO a_nextX a_nextO RT CT a_partner a_keys a_poly a_plain a_normal := by
        intro z0 hz0
        refine ⟨pk_in i 7 (by omega), nm_e (pk_le c i (fun q => ⟨pk_in i 7 (by omega), nm_e (nm_r (nI_1 i) ?_)⟩) (fun q => ⟨pk_in i 7 (by omega), nm_e (nm_r (nI_1 i) ?_)⟩))⟩
        · rw [pk_cl i]
          exact ih (i + 1) _ _ (by omega) (st _ _ hz0 (by rw [nI_1, show kt_p c i = i + 1 from by omega]))
        · rw [pk_cl i]
          exact ih (i + 1) _ _ (by omega) (st _ _ hz0 (by rw [show kt_p c i = i from by omega]))
      refine pk_le n i (fun q => by omega) (fun q => pk_le w i (fun q2 => fin _ ?_) (fun q2 => fin _ ?_)) hn
      · rw [nI_1, show kt_p w i = i + 1 from by omega]
      · rw [show kt_p w i = i from by omega]
  exact ⟨n + 1, loop n 0 a_rowTo a_colTo (by omega) (fun j hj => by omega)⟩
end
end
section
section
variable {h_n h_phase : Int32} {b_cell b_old b_plain b_term b_next b_spot b_choice b_ends b_seen : Nat → Int32}
theorem yw_stab {post : Int32 → SY → Prop} {n w c u v p t : Nat} {kd qd : Int32} {tgt : Nat → Nat → Int32} (hn : h_n = nI n) (n6 : n < 7) (hp : p < 2) (ht : t < 2) (hw : w < n) (hc : c < n) (hu : u < n) (uc : u ≠ c) (hv : v < n) (vw : v ≠ w) (h0 : ∀ k, k < 49 → b_cell k = 0)
    (ho : ∀ i j, i < n → j < n → i ≠ w → j ≠ c → b_old (i * 7 + j) = tgt (kt_p w i) (kt_p c j))
    (w1 : tgt (w + 1 - p) (kt_p c u) = qd) (w2 : tgt (kt_p w v) (c + 1 - t) = qd) (w3 : tgt (w + p) (c + t) = qd) (w4 : tgt (w + p) (c + 1 - t) = kd) (w5 : tgt (w + 1 - p) (c + t) = kd)
    (h : ∀ cl : Nat → Int32, (∀ i j, i < 7 → j < 7 → cl (i * 7 + j) = tgt i j ∨ (cl (i * 7 + j) = 0 ∧ (∀ r s, r < n → s < n → r ≠ w → s ≠ c → ¬ (i = kt_p w r ∧ j = kt_p c s)) ∧ ¬ (i = w + 1 - p ∧ j = kt_p c u) ∧ ¬ (i = kt_p w v ∧ j = c + 1 - t) ∧ ¬ (i = w + p ∧ j = c + t) ∧ ¬ (i = w + p ∧ j = c + 1 - t) ∧ ¬ (i = w + 1 - p ∧ j = c + t))) →
      post 1 (nI (n + 1), 1, cl, b_old, b_plain, b_term, b_next, b_spot, b_choice, b_ends, b_seen)) :
    ∃ q, wY_stabilise_133 post (nI w) kd qd (nI c) (nI u) (nI v) (nI p) (nI t) q 0 h_n h_phase b_cell b_old b_plain b_term b_next b_spot b_choice b_ends b_seen := by
  have e1 : (nI w + 1 - nI p : Int32) = nI (w + 1 - p) := by rw [nI_1, pk_sub (by omega)]
  have e2 : (nI c + 1 - nI t : Int32) = nI (c + 1 - t) := by rw [nI_1, pk_sub (by omega)]
  have e3 : (nI w + nI p : Int32) = nI (w + p) := nI_add w p
  have e4 : (nI c + nI t : Int32) = nI (c + t) := nI_add c t
  have ku := kt_p1 c u
  have kv := kt_p1 w v
  have exit : ∀ cl : Nat → Int32, (∀ i j, i < 7 → j < 7 → cl (i * 7 + j) = tgt i j ∨ (cl (i * 7 + j) = 0 ∧ (∀ r s, r < n → s < n → r ≠ w → s ≠ c → ¬ (i = kt_p w r ∧ j = kt_p c s)))) →
      (nI c ≤ nI u → wY_stabilise_250 post (nI w) kd qd (nI c) (nI v) (nI p) (nI t) (nI u + 1) (nI w + 1 - nI p) h_n h_phase cl b_old b_plain b_term b_next b_spot b_choice b_ends b_seen) ∧ (¬ nI c ≤ nI u → wY_stabilise_250 post (nI w) kd qd (nI c) (nI v) (nI p) (nI t) (nI u) (nI w + 1 - nI p) h_n h_phase cl b_old b_plain b_term b_next b_spot b_choice b_ends b_seen) := by
    intro cl hcl
    have fin : wY_stabilise_250 post (nI w) kd qd (nI c) (nI v) (nI p) (nI t) (nI (kt_p c u)) (nI w + 1 - nI p) h_n h_phase cl b_old b_plain b_term b_next b_spot b_choice b_ends b_seen := by
      unfold wY_stabilise_250
      rw [e1]
      have f271 : wY_stabilise_271 post (nI w) kd qd (nI c) (nI p) (nI t) (nI (kt_p w v)) h_n h_phase (upd cl ((w + 1 - p) * 7 + kt_p c u) qd) b_old b_plain b_term b_next b_spot b_choice b_ends b_seen := by
        unfold wY_stabilise_271
        rw [e1, e2, e3, e4]
        refine yw_put (by omega) (by omega) (yw_put (by omega) (by omega) (yw_put (by omega) (by omega) (yw_put (by omega) (by omega) (nm_r (e' := nI (n + 1)) (by rw [hn]; exact nI_1 n) (h _ (fun i j hi hj => ?_))))))
        by_cases q5 : i = w + 1 - p ∧ j = c + t
        · rw [q5.1, q5.2, pk_us]; exact Or.inl w5.symm
        · rw [pk_un (by omega)]
          by_cases q4 : i = w + p ∧ j = c + 1 - t
          · rw [q4.1, q4.2, pk_us]; exact Or.inl w4.symm
          · rw [pk_un (by omega)]
            by_cases q3 : i = w + p ∧ j = c + t
            · rw [q3.1, q3.2, pk_us]; exact Or.inl w3.symm
            · rw [pk_un (by omega)]
              by_cases q2 : i = kt_p w v ∧ j = c + 1 - t
              · rw [q2.1, q2.2, pk_us]; exact Or.inl w2.symm
              · rw [pk_un (by omega)]
                by_cases q1 : i = w + 1 - p ∧ j = kt_p c u
                · rw [q1.1, q1.2, pk_us]; exact Or.inl w1.symm
                · rw [pk_un (by omega)]
                  rcases hcl i j hi hj with z | z
                  · exact Or.inl z
                  · exact Or.inr ⟨z.1, z.2, q1, q2, q3, q4, q5⟩
      refine yw_put (by omega) (by omega) (pk_le w v (fun q => ?_) (fun q => ?_))
      · rw [nI_1, show v + 1 = kt_p w v from by omega]; exact f271
      · have z := f271
        rw [show kt_p w v = v from by omega] at z; exact z
    refine pk_le c u (fun q => ?_) (fun q => ?_)
    · rw [nI_1, show u + 1 = kt_p c u from by omega]; exact fin
    · have z := fin
      rw [show kt_p c u = u from by omega] at z; exact z
  have inner : ∀ (J : Int32 → Int32 → Int32 → (Nat → Int32) → (Nat → Int32) → (Nat → Int32) → (Nat → Int32) → (Nat → Int32) → (Nat → Int32) → (Nat → Int32) → (Nat → Int32) → (Nat → Int32) → Prop) a, a < n →
      (∀ cl : Nat → Int32, (∀ i j, i < 7 → j < 7 → cl (i * 7 + j) = tgt i j ∨ (cl (i * 7 + j) = 0 ∧ ∀ r s, r < a + 1 → s < n → r ≠ w → s ≠ c → ¬ (i = kt_p w r ∧ j = kt_p c s))) → J (nI (a + 1)) h_n h_phase cl b_old b_plain b_term b_next b_spot b_choice b_ends b_seen) →
      ∀ d b (cl : Nat → Int32), b + d = n → (∀ i j, i < 7 → j < 7 → cl (i * 7 + j) = tgt i j ∨ (cl (i * 7 + j) = 0 ∧ ∀ r s, (r < a ∧ s < n) ∨ (r = a ∧ s < b) → r ≠ w → s ≠ c → ¬ (i = kt_p w r ∧ j = kt_p c s))) →
        wY_stabilise_145 post J (nI w) kd qd (nI c) (nI u) (nI v) (nI p) (nI t) (nI a) (d + 1) (nI b) h_n h_phase cl b_old b_plain b_term b_next b_spot b_choice b_ends b_seen := by
    intro J a ha hJ d
    induction d with
    | zero =>
      intro b cl hb hcl
      refine pk_le n b (fun _ => nm_r (nI_1 a) (hJ cl (fun i j hi hj => ?_))) (fun q => by omega) hn
      rcases hcl i j hi hj with z | z
      · exact Or.inl z
      · exact Or.inr ⟨z.1, fun r s hr hs => z.2 r s (by omega)⟩
    | succ d ih =>
      intro b cl hb hcl
      have skip : (a = w ∨ b = c) → wY_stabilise_145 post J (nI w) kd qd (nI c) (nI u) (nI v) (nI p) (nI t) (nI a) (d + 1) (nI (b + 1)) h_n h_phase cl b_old b_plain b_term b_next b_spot b_choice b_ends b_seen := by
        intro hs
        refine ih (b + 1) cl (by omega) (fun i j hi hj => ?_)
        rcases hcl i j hi hj with z | z
        · exact Or.inl z
        · refine Or.inr ⟨z.1, fun r s hrs hr hs' => ?_⟩
          by_cases q : r = a ∧ s = b
          · exfalso
            rcases hs with hs | hs
            · exact hr (by rw [q.1, hs])
            · exact hs' (by rw [q.2, hs])
          · exact z.2 r s (by omega) hr hs'
      have ka := kt_p1 w a
      have kb := kt_p1 c b
      refine pk_le n b (fun q => by omega) (fun q => pk_eq a w (fun q1 => nm_r (nI_1 b) (skip (Or.inl q1))) (fun q1 => pk_eq b c (fun q2 => nm_r (nI_1 b) (skip (Or.inr q2))) (fun q2 => ?_))) hn
      have put : wY_stabilise_199 post J (wY_stabilise_145 post J (nI w) kd qd (nI c) (nI u) (nI v) (nI p) (nI t) (nI a) (d + 1)) (nI w) kd qd (nI c) (nI u) (nI v) (nI p) (nI t) (nI a) (nI b) (nI (kt_p c b)) (nI (kt_p w a)) h_n h_phase cl b_old b_plain b_term b_next b_spot b_choice b_ends b_seen := by
        unfold wY_stabilise_199
        rw [ky_ix]
        refine ⟨pk_in (a * 7 + b) 49 (by omega), ?_⟩
        rw [pk_cl (a * 7 + b), ho a b ha (by omega) q1 q2]
        refine yw_put (by omega) (by omega) (nm_r (nI_1 b) (ih (b + 1) _ (by omega) (fun i j hi hj => ?_)))
        by_cases q' : i = kt_p w a ∧ j = kt_p c b
        · rw [q'.1, q'.2, pk_us]; exact Or.inl rfl
        · rw [pk_un (by omega)]
          rcases hcl i j hi hj with z | z
          · exact Or.inl z
          · refine Or.inr ⟨z.1, fun r s hrs hr hs' => ?_⟩
            by_cases y : r = a ∧ s = b
            · rw [y.1, y.2]; exact q'
            · exact z.2 r s (by omega) hr hs'
      have col : ∀ z0 : Int32, z0 = nI (kt_p w a) → wY_stabilise_183 post J (wY_stabilise_145 post J (nI w) kd qd (nI c) (nI u) (nI v) (nI p) (nI t) (nI a) (d + 1)) (nI w) kd qd (nI c) (nI u) (nI v) (nI p) (nI t) (nI a) (nI b) z0 h_n h_phase cl b_old b_plain b_term b_next b_spot b_choice b_ends b_seen := by
        intro z0 hz0
        rw [hz0]
        refine pk_le c b (fun y => ?_) (fun y => ?_)
        · rw [nI_1, show b + 1 = kt_p c b from by omega]; exact put
        · have z := put
          rw [show kt_p c b = b from by omega] at z; exact z
      exact pk_le w a (fun y => col _ (by rw [nI_1, show kt_p w a = a + 1 from by omega])) (fun y => col _ (by rw [show kt_p w a = a from by omega]))
  have outer : ∀ d a (cl : Nat → Int32), a + d = n → (∀ i j, i < 7 → j < 7 → cl (i * 7 + j) = tgt i j ∨ (cl (i * 7 + j) = 0 ∧ ∀ r s, r < a → s < n → r ≠ w → s ≠ c → ¬ (i = kt_p w r ∧ j = kt_p c s))) →
      wY_stabilise_133 post (nI w) kd qd (nI c) (nI u) (nI v) (nI p) (nI t) (d + 1) (nI a) h_n h_phase cl b_old b_plain b_term b_next b_spot b_choice b_ends b_seen := by
    intro d
    induction d with
    | zero =>
      intro a cl ha hcl
      rw [show a = n from by omega] at hcl
      exact pk_le n a (fun _ => exit cl hcl) (fun q => by omega) hn
    | succ d ih =>
      intro a cl ha hcl
      refine pk_le n a (fun q => by omega) (fun q => ⟨n + 1, inner _ a (by omega) (fun cl' h' => ih (a + 1) cl' (by omega) h') n 0 cl (by omega) (fun i j hi hj => ?_)⟩) hn
      rcases hcl i j hi hj with z | z
      · exact Or.inl z
      · exact Or.inr ⟨z.1, fun r s hrs => z.2 r s (by omega) (by omega)⟩
  exact ⟨n + 1, outer n 0 b_cell (by omega) (fun i j hi hj => Or.inr ⟨h0 _ (by omega), fun r s hr => by omega⟩)⟩
end
end
section
/-! stabilise: the two sides meet -/
section
variable {n w c p t v : Nat} {a b : Nat → Nat}
theorem kt_sp (hp : p < 2) : kt_a a w c p t (w + p) = c + 1 - t ∧ kt_b b w c p t (w + p) = c + t ∧ kt_a a w c p t (w + 1 - p) = c + t ∧ kt_b b w c p t (w + 1 - p) = kt_p c (b w) := by
  have ne : w + 1 - p ≠ w + p := by omega
  refine ⟨?_, ?_, ?_, ?_⟩
  · unfold kt_a; rw [if_pos rfl]
  · unfold kt_b; rw [if_pos rfl]
  · unfold kt_a; rw [if_neg ne, if_pos rfl]
  · unfold kt_b; rw [if_neg ne, if_pos rfl]
theorem kt_pi {x y : Nat} (e : kt_p c x = kt_p c y) : x = y := by
  have a := kt_p1 c x
  have b := kt_p1 c y
  omega
theorem kt_z (hp : p < 2) (hw : w < n) (hb : ∀ r, r < n → b r < n) (ha : ∀ r, r < n → a r < n) (ia : ∀ x y, x < n → y < n → a x = a y → x = y) (ib : ∀ x y, x < n → y < n → b x = b y → x = y) (hc : a w = c) (hv : v < n) (hbv : b v = c) {i j : Nat} (hi : i < n + 1)
    (z : (∀ r s, r < n → s < n → r ≠ w → s ≠ c → ¬ (i = kt_p w r ∧ j = kt_p c s)) ∧ ¬ (i = w + 1 - p ∧ j = kt_p c (b w)) ∧ ¬ (i = kt_p w v ∧ j = c + 1 - t) ∧ ¬ (i = w + p ∧ j = c + t) ∧ ¬ (i = w + p ∧ j = c + 1 - t) ∧ ¬ (i = w + 1 - p ∧ j = c + t)) :
    j ≠ kt_a a w c p t i ∧ j ≠ kt_b b w c p t i := by
  have s := kt_sp (a := a) (b := b) (w := w) (c := c) (t := t) hp
  by_cases i1 : i = w + p
  · rw [i1, s.1, s.2.1]
    exact ⟨fun e => z.2.2.2.2.1 ⟨i1, e⟩, fun e => z.2.2.2.1 ⟨i1, e⟩⟩
  · by_cases i2 : i = w + 1 - p
    · rw [i2, s.2.2.1, s.2.2.2]
      exact ⟨fun e => z.2.2.2.2.2 ⟨i2, e⟩, fun e => z.2.1 ⟨i2, e⟩⟩
    · obtain ⟨r, hr, rw', er⟩ := kt_new hp hw hi i1 i2
      have o := kt_old (a := a) (b := b) (c := c) (t := t) hp rw'
      rw [er, o.2.2.1]
      refine ⟨fun e => z.1 r (a r) hr (ha r hr) rw' (fun q => rw' (ia _ _ hr hw (by rw [q, hc]))) ⟨er, e⟩, fun e => ?_⟩
      rcases o.2.2.2 with q | q
      · rw [q.2] at e
        exact z.2.2.1 ⟨by rw [er, ib r v hr hv (by rw [q.1, hbv])], e⟩
      · rw [q.2] at e
        exact z.1 r (b r) hr (hb r hr) rw' q.1 ⟨er, e⟩
end
theorem kz_2 (cr : Nat) (h : cr < 4) : (nI cr >>> ((1 : Int32) &&& 31)) = nI (cr / 2) ∧ nI cr &&& 1 = nI (cr % 2) :=
  ⟨pk_shrN (by omega) _ 1 (by decide), pk_andN (by omega) 1 (by decide)⟩
section
variable {h_n h_phase : Int32} {b_cell b_old b_plain b_term b_next b_spot b_choice b_ends b_seen : Nat → Int32}
/-- the reference's p and t -/
theorem yw_pt2 {post : Int32 → SY → Prop} {cr : Nat} {x1 x2 x4 x5 x6 x7 : Int32} (h : cr < 4) (H : wY_stabilise_124 post x1 x2 x4 x5 x6 x7 (nI (cr / 2)) (nI (cr % 2)) h_n h_phase b_cell b_old b_plain b_term b_next b_spot b_choice b_ends b_seen) :
    (nI cr < 2 → wY_stabilise_107 post x1 x2 (nI cr) x4 x5 x6 x7 0 h_n h_phase b_cell b_old b_plain b_term b_next b_spot b_choice b_ends b_seen) ∧ (¬ nI cr < 2 → wY_stabilise_107 post x1 x2 (nI cr) x4 x5 x6 x7 1 h_n h_phase b_cell b_old b_plain b_term b_next b_spot b_choice b_ends b_seen) := by
  have c4 : cr = 0 ∨ cr = 1 ∨ cr = 2 ∨ cr = 3 := by omega
  rcases c4 with rfl | rfl | rfl | rfl
  · exact br_t (by decide) (br_f (by decide) (br_f (by decide) H))
  · exact br_t (by decide) (br_t rfl H)
  · exact br_f (by decide) (br_f (by decide) (br_f (by decide) H))
  · exact br_f (by decide) (br_f (by decide) (br_t rfl H))
end
section
variable {f_reach f_width f_capacity f_slots f_hand f_n f_phase f_bank f_stateCount f_spareCount : Int32} {a_rowX a_rowO a_colX a_colO a_nextX a_nextO a_rowTo a_colTo a_partner a_keys a_poly a_plain a_normal : Nat → Int32} {h_n h_phase : Int32} {b_cell b_old b_plain b_term b_next b_spot b_choice b_ends b_seen : Nat → Int32}
theorem kz_stab1 {k n w cr : Nat} {rx ro cx co : Nat → Nat} (e1 : f_n = nI n) (e2 : h_n = nI n) (K : kx_A n rx ro cx co a_rowX a_rowO a_colX a_colO) (C : ky_C n rx ro b_cell) (n6 : n < 7) (hw : w < n) (h4 : cr < 4)
    (W : ∀ post : Int32 → SY → Prop, wY_stabilise_65 post (nI w) 1 (nI cr) 2 h_n h_phase b_cell b_old b_plain b_term b_next b_spot b_choice b_ends b_seen → wpY_stabilise post (h_n, h_phase, b_cell, b_old, b_plain, b_term, b_next, b_spot, b_choice, b_ends, b_seen) (nI w) 1 (nI cr)) :
    wpX_split (fun u => match u with | (f_reach, f_width, f_capacity, f_slots, f_hand, f_n, f_phase, f_bank, f_stateCount, f_spareCount, a_rowX, a_rowO, a_colX, a_colO, a_nextX, a_nextO, a_rowTo, a_colTo, a_partner, a_keys, a_poly, a_plain, a_normal) => (fun r u' => wpY_stabilise (fun r' v' => r' = r ∧ i_Rel (k + 4) u' v') (h_n, h_phase, b_cell, b_old, b_plain, b_term, b_next, b_spot, b_choice, b_ends, b_seen) (nI w) 1 (nI cr)) 1 (f_reach, f_width, f_capacity, f_slots, f_hand, f_n, f_phase, f_bank, f_stateCount, f_spareCount, a_rowX, a_rowO, a_colX, a_colO, a_nextX, a_nextO, a_rowTo, a_colTo, a_partner, a_keys, a_poly, a_plain, a_normal)) (f_reach, f_width, f_capacity, f_slots, f_hand, f_n, f_phase, f_bank, f_stateCount, f_spareCount, a_rowX, a_rowO, a_colX, a_colO, a_nextX, a_nextO, a_rowTo, a_colTo, a_partner, a_keys, a_poly, a_plain, a_normal) (nI w) 1 (nI cr) := by
  have n2 := K.1.1
  have g := K.1.2.2
  have gw := g w hw
  have aw := kx_at K hw
  have ac := kx_at K (r := rx w) gw.1
  have gc := g (rx w) gw.1
  have hp : cr / 2 < 2 := by omega
  have ht : cr % 2 < 2 := by omega
  have ha : ∀ r, r < n → rx r < n := fun r hr => (g r hr).1
  have hb : ∀ r, r < n → ro r < n := fun r hr => (g r hr).2.1
  have hab : ∀ r, r < n → rx r ≠ ro r := fun r hr => (g r hr).2.2.2.2.2.2.2.2
  have ia : ∀ x y, x < n → y < n → rx x = rx y → x = y := fun x y hx hy e => by rw [← (g x hx).2.2.2.2.1, e, (g y hy).2.2.2.2.1]
  have ib : ∀ x y, x < n → y < n → ro x = ro y → x = y := fun x y hx hy e => by rw [← (g x hx).2.2.2.2.2.2.1, e, (g y hy).2.2.2.2.2.2.1]
  have hv : co (rx w) < n := gc.2.2.2.1
  have hbv : ro (co (rx w)) = rx w := gc.2.2.2.2.2.2.2.1
  have uc : ro w ≠ rx w := fun e => hab w hw e.symm
  have vw : co (rx w) ≠ w := fun e => hab w hw (by rw [← hbv, e])
  obtain ⟨o1, o2, o3⟩ := kt_ok (p := cr / 2) (t := cr % 2) n6 hp ht hw ha hb hab ia ib rfl
  obtain ⟨cx', co', G⟩ := kx_mk (n := n + 1) (rx := (fun i => kt_a rx w (rx w) (cr / 2) (cr % 2) i)) (ro := (fun i => kt_b ro w (rx w) (cr / 2) (cr % 2) i)) (by omega) (by omega) (fun r hr => o1 r hr) o2 o3
  have sp := kt_sp (a := rx) (b := ro) (w := w) (c := rx w) (p := cr / 2) (t := cr % 2) hp
  refine nm_r (e' := 2) (by decide) (br_t rfl ⟨pk_in w 7 (by omega), br_t rfl ⟨pk_in w 7 (by omega), ?_⟩⟩)
  rw [pk_cl w, aw.2.1, aw.2.2.1]
  refine br_t rfl ⟨pk_in (rx w) 7 (by omega), ?_⟩
  rw [pk_cl (rx w), ac.2.2.2.2.1]
  refine nm_r (kz_2 cr h4).1 (nm_r (kz_2 cr h4).2 (xw_spl1 (a := rx) (b := ro) e1 n6 hp ht hw ha hb hab ia ib rfl rfl hv hbv (fun r hr => ⟨(kx_at K hr).2.1, (kx_at K hr).2.2.1⟩) G (fun RT CT NX NO A B C' D K' => W _ ?_)))
  have fin : wY_stabilise_65 (fun r' v' => r' = 1 ∧ i_Rel (k + 4) (f_reach, f_width, f_capacity, f_slots, f_hand, nI (n + 1), 1, f_bank, f_stateCount, f_spareCount, A, B, C', D, NX, NO, RT, CT, a_partner, a_keys, a_poly, a_plain, a_normal) v') (nI w) 1 (nI cr) 2 h_n h_phase b_cell b_old b_plain b_term b_next b_spot b_choice b_ends b_seen := by
    refine yw_rX e2 K.1 C hw (yw_rO e2 K.1 C hw (yw_cO e2 K.1 C gw.1 (yw_pt2 h4 (yw_save (fun cl ol hc => yw_stab (tgt := ky_t (n + 1) (fun i => kt_a rx w (rx w) (cr / 2) (cr % 2) i) (fun i => kt_b ro w (rx w) (cr / 2) (cr % 2) i)) e2 n6 hp ht hw gw.1 (hb w hw) uc hv vw (fun k hk => (hc k hk).2) (fun i j hi hj iw jc => ?_) ?_ ?_ ?_ ?_ ?_ (fun cl' hcl => ⟨rfl, kz_new K' (fun i j hi hj => ?_), rfl⟩))))))
    · rw [(hc (i * 7 + j) (by omega)).1, C i j (by omega) (by omega)]
      have o := kt_old (a := rx) (b := ro) (c := rx w) (p := cr / 2) (t := cr % 2) hp iw
      have k1 := kt_p1 w i
      have k2 := kt_p1 (rx w) j
      have eA : j = rx i ↔ kt_p (rx w) j = kt_a rx w (rx w) (cr / 2) (cr % 2) (kt_p w i) := by
        rw [o.2.2.1]; exact ⟨fun e => by rw [e], fun e => kt_pi e⟩
      have eB : j = ro i ↔ kt_p (rx w) j = kt_b ro w (rx w) (cr / 2) (cr % 2) (kt_p w i) := by
        rcases o.2.2.2 with q | q
        · rw [q.2, q.1]; exact ⟨fun e => absurd e jc, fun e => by omega⟩
        · rw [q.2]; exact ⟨fun e => by rw [e], fun e => kt_pi e⟩
      exact ky_tt (n := n) (n' := n + 1) (rx := rx) (ro := ro) (rx' := (fun i => kt_a rx w (rx w) (cr / 2) (cr % 2) i)) (ro' := (fun i => kt_b ro w (rx w) (cr / 2) (cr % 2) i)) ⟨hi, hj⟩ ⟨by omega, by omega⟩ eA eB
    · have q := o1 (w + 1 - cr / 2) (by omega)
      rw [sp.2.2.2] at q
      exact ky_tO (rx := (fun i => kt_a rx w (rx w) (cr / 2) (cr % 2) i)) (ro := (fun i => kt_b ro w (rx w) (cr / 2) (cr % 2) i)) (i := w + 1 - cr / 2) ⟨by omega, q.2.1⟩ (Ne.symm q.2.2) sp.2.2.2.symm
    · have o := kt_old (a := rx) (b := ro) (c := rx w) (p := cr / 2) (t := cr % 2) hp vw
      have k1 := kt_p1 w (co (rx w))
      rcases o.2.2.2 with z | z
      · have q := o1 (kt_p w (co (rx w))) (by omega)
        rw [z.2] at q
        exact ky_tO (rx := (fun i => kt_a rx w (rx w) (cr / 2) (cr % 2) i)) (ro := (fun i => kt_b ro w (rx w) (cr / 2) (cr % 2) i)) (i := kt_p w (co (rx w))) ⟨by omega, q.2.1⟩ (Ne.symm q.2.2) z.2.symm
      · exact absurd hbv z.1
    · have q := o1 (w + cr / 2) (by omega)
      rw [sp.2.1] at q
      exact ky_tO (rx := (fun i => kt_a rx w (rx w) (cr / 2) (cr % 2) i)) (ro := (fun i => kt_b ro w (rx w) (cr / 2) (cr % 2) i)) (i := w + cr / 2) ⟨by omega, q.2.1⟩ (Ne.symm q.2.2) sp.2.1.symm
    · have q := o1 (w + cr / 2) (by omega)
      rw [sp.1] at q
      exact ky_tX (rx := (fun i => kt_a rx w (rx w) (cr / 2) (cr % 2) i)) (ro := (fun i => kt_b ro w (rx w) (cr / 2) (cr % 2) i)) (i := w + cr / 2) ⟨by omega, q.1⟩  sp.1.symm
    · have q := o1 (w + 1 - cr / 2) (by omega)
      rw [sp.2.2.1] at q
      exact ky_tX (rx := (fun i => kt_a rx w (rx w) (cr / 2) (cr % 2) i)) (ro := (fun i => kt_b ro w (rx w) (cr / 2) (cr % 2) i)) (i := w + 1 - cr / 2) ⟨by omega, q.1⟩  sp.2.2.1.symm
    · show cl' (i * 7 + j) = ky_t (n + 1) (fun i => kt_a rx w (rx w) (cr / 2) (cr % 2) i) (fun i => kt_b ro w (rx w) (cr / 2) (cr % 2) i) i j
      rcases hcl i j hi hj with z | z
      · exact z
      · rw [z.1]
        by_cases q : i < n + 1 ∧ j < n + 1
        · have y := kt_z (a := rx) (b := ro) (t := cr % 2) hp hw hb ha ia ib rfl hv hbv q.1 z.2
          exact (ky_tN (rx := (fun i => kt_a rx w (rx w) (cr / 2) (cr % 2) i)) (ro := (fun i => kt_b ro w (rx w) (cr / 2) (cr % 2) i)) y.1 y.2).symm
        · exact (ky_t0 q).symm
  exact fin
end
section
variable {f_reach f_width f_capacity f_slots f_hand f_n f_phase f_bank f_stateCount f_spareCount : Int32} {a_rowX a_rowO a_colX a_colO a_nextX a_nextO a_rowTo a_colTo a_partner a_keys a_poly a_plain a_normal : Nat → Int32} {h_n h_phase : Int32} {b_cell b_old b_plain b_term b_next b_spot b_choice b_ends b_seen : Nat → Int32}
theorem kz_stab2 {k n w cr : Nat} {rx ro cx co : Nat → Nat} (e1 : f_n = nI n) (e2 : h_n = nI n) (K : kx_A n rx ro cx co a_rowX a_rowO a_colX a_colO) (C : ky_C n rx ro b_cell) (n6 : n < 7) (hw : w < n) (h4 : cr < 4)
    (W : ∀ post : Int32 → SY → Prop, wY_stabilise_65 post (nI w) 2 (nI cr) 1 h_n h_phase b_cell b_old b_plain b_term b_next b_spot b_choice b_ends b_seen → wpY_stabilise post (h_n, h_phase, b_cell, b_old, b_plain, b_term, b_next, b_spot, b_choice, b_ends, b_seen) (nI w) 2 (nI cr)) :
    wpX_split (fun u => match u with | (f_reach, f_width, f_capacity, f_slots, f_hand, f_n, f_phase, f_bank, f_stateCount, f_spareCount, a_rowX, a_rowO, a_colX, a_colO, a_nextX, a_nextO, a_rowTo, a_colTo, a_partner, a_keys, a_poly, a_plain, a_normal) => (fun r u' => wpY_stabilise (fun r' v' => r' = r ∧ i_Rel (k + 4) u' v') (h_n, h_phase, b_cell, b_old, b_plain, b_term, b_next, b_spot, b_choice, b_ends, b_seen) (nI w) 2 (nI cr)) 1 (f_reach, f_width, f_capacity, f_slots, f_hand, f_n, f_phase, f_bank, f_stateCount, f_spareCount, a_rowX, a_rowO, a_colX, a_colO, a_nextX, a_nextO, a_rowTo, a_colTo, a_partner, a_keys, a_poly, a_plain, a_normal)) (f_reach, f_width, f_capacity, f_slots, f_hand, f_n, f_phase, f_bank, f_stateCount, f_spareCount, a_rowX, a_rowO, a_colX, a_colO, a_nextX, a_nextO, a_rowTo, a_colTo, a_partner, a_keys, a_poly, a_plain, a_normal) (nI w) 2 (nI cr) := by
  have n2 := K.1.1
  have g := K.1.2.2
  have gw := g w hw
  have aw := kx_at K hw
  have ac := kx_at K (r := ro w) gw.2.1
  have gc := g (ro w) gw.2.1
  have hp : cr / 2 < 2 := by omega
  have ht : cr % 2 < 2 := by omega
  have ha : ∀ r, r < n → ro r < n := fun r hr => (g r hr).2.1
  have hb : ∀ r, r < n → rx r < n := fun r hr => (g r hr).1
  have hab : ∀ r, r < n → ro r ≠ rx r := fun r hr => (g r hr).2.2.2.2.2.2.2.2.symm
  have ia : ∀ x y, x < n → y < n → ro x = ro y → x = y := fun x y hx hy e => by rw [← (g x hx).2.2.2.2.2.2.1, e, (g y hy).2.2.2.2.2.2.1]
  have ib : ∀ x y, x < n → y < n → rx x = rx y → x = y := fun x y hx hy e => by rw [← (g x hx).2.2.2.2.1, e, (g y hy).2.2.2.2.1]
  have hv : cx (ro w) < n := gc.2.2.1
  have hbv : rx (cx (ro w)) = ro w := gc.2.2.2.2.2.1
  have uc : rx w ≠ ro w := fun e => hab w hw e.symm
  have vw : cx (ro w) ≠ w := fun e => hab w hw (by rw [← hbv, e])
  obtain ⟨o1, o2, o3⟩ := kt_ok (p := cr / 2) (t := cr % 2) n6 hp ht hw ha hb hab ia ib rfl
  obtain ⟨cx', co', G⟩ := kx_mk (n := n + 1) (rx := (fun i => kt_b rx w (ro w) (cr / 2) (cr % 2) i)) (ro := (fun i => kt_a ro w (ro w) (cr / 2) (cr % 2) i)) (by omega) (by omega) (fun r hr => ⟨(o1 r hr).2.1, (o1 r hr).1, (o1 r hr).2.2.symm⟩) o3 o2
  have sp := kt_sp (a := ro) (b := rx) (w := w) (c := ro w) (p := cr / 2) (t := cr % 2) hp
  refine nm_r (e' := 1) (by decide) (br_f (by decide) ⟨pk_in w 7 (by omega), br_f (by decide) ⟨pk_in w 7 (by omega), ?_⟩⟩)
  rw [pk_cl w, aw.2.1, aw.2.2.1]
  refine br_f (by decide) ⟨pk_in (ro w) 7 (by omega), ?_⟩
  rw [pk_cl (ro w), ac.2.2.2.1]
  refine nm_r (kz_2 cr h4).1 (nm_r (kz_2 cr h4).2 (xw_spl2 (a := ro) (b := rx) e1 n6 hp ht hw ha hb hab ia ib rfl rfl hv hbv (fun r hr => ⟨(kx_at K hr).2.2.1, (kx_at K hr).2.1⟩) G (fun RT CT NX NO A B C' D K' => W _ ?_)))
  have fin : wY_stabilise_65 (fun r' v' => r' = 1 ∧ i_Rel (k + 4) (f_reach, f_width, f_capacity, f_slots, f_hand, nI (n + 1), 1, f_bank, f_stateCount, f_spareCount, A, B, C', D, NX, NO, RT, CT, a_partner, a_keys, a_poly, a_plain, a_normal) v') (nI w) 2 (nI cr) 1 h_n h_phase b_cell b_old b_plain b_term b_next b_spot b_choice b_ends b_seen := by
    refine yw_rO e2 K.1 C hw (yw_rX e2 K.1 C hw (yw_cX e2 K.1 C gw.2.1 (yw_pt2 h4 (yw_save (fun cl ol hc => yw_stab (tgt := ky_t (n + 1) (fun i => kt_b rx w (ro w) (cr / 2) (cr % 2) i) (fun i => kt_a ro w (ro w) (cr / 2) (cr % 2) i)) e2 n6 hp ht hw gw.2.1 (hb w hw) uc hv vw (fun k hk => (hc k hk).2) (fun i j hi hj iw jc => ?_) ?_ ?_ ?_ ?_ ?_ (fun cl' hcl => ⟨rfl, kz_new K' (fun i j hi hj => ?_), rfl⟩))))))
    · rw [(hc (i * 7 + j) (by omega)).1, C i j (by omega) (by omega)]
      have o := kt_old (a := ro) (b := rx) (c := ro w) (p := cr / 2) (t := cr % 2) hp iw
      have k1 := kt_p1 w i
      have k2 := kt_p1 (ro w) j
      have eA : j = ro i ↔ kt_p (ro w) j = kt_a ro w (ro w) (cr / 2) (cr % 2) (kt_p w i) := by
        rw [o.2.2.1]; exact ⟨fun e => by rw [e], fun e => kt_pi e⟩
      have eB : j = rx i ↔ kt_p (ro w) j = kt_b rx w (ro w) (cr / 2) (cr % 2) (kt_p w i) := by
        rcases o.2.2.2 with q | q
        · rw [q.2, q.1]; exact ⟨fun e => absurd e jc, fun e => by omega⟩
        · rw [q.2]; exact ⟨fun e => by rw [e], fun e => kt_pi e⟩
      exact ky_tt (n := n) (n' := n + 1) (rx := rx) (ro := ro) (rx' := (fun i => kt_b rx w (ro w) (cr / 2) (cr % 2) i)) (ro' := (fun i => kt_a ro w (ro w) (cr / 2) (cr % 2) i)) ⟨hi, hj⟩ ⟨by omega, by omega⟩ eB eA
    · have q := o1 (w + 1 - cr / 2) (by omega)
      rw [sp.2.2.2] at q
      exact ky_tX (rx := (fun i => kt_b rx w (ro w) (cr / 2) (cr % 2) i)) (ro := (fun i => kt_a ro w (ro w) (cr / 2) (cr % 2) i)) (i := w + 1 - cr / 2) ⟨by omega, q.2.1⟩  sp.2.2.2.symm
    · have o := kt_old (a := ro) (b := rx) (c := ro w) (p := cr / 2) (t := cr % 2) hp vw
      have k1 := kt_p1 w (cx (ro w))
      rcases o.2.2.2 with z | z
      · have q := o1 (kt_p w (cx (ro w))) (by omega)
        rw [z.2] at q
        exact ky_tX (rx := (fun i => kt_b rx w (ro w) (cr / 2) (cr % 2) i)) (ro := (fun i => kt_a ro w (ro w) (cr / 2) (cr % 2) i)) (i := kt_p w (cx (ro w))) ⟨by omega, q.2.1⟩  z.2.symm
      · exact absurd hbv z.1
    · have q := o1 (w + cr / 2) (by omega)
      rw [sp.2.1] at q
      exact ky_tX (rx := (fun i => kt_b rx w (ro w) (cr / 2) (cr % 2) i)) (ro := (fun i => kt_a ro w (ro w) (cr / 2) (cr % 2) i)) (i := w + cr / 2) ⟨by omega, q.2.1⟩  sp.2.1.symm
    · have q := o1 (w + cr / 2) (by omega)
      rw [sp.1] at q
      exact ky_tO (rx := (fun i => kt_b rx w (ro w) (cr / 2) (cr % 2) i)) (ro := (fun i => kt_a ro w (ro w) (cr / 2) (cr % 2) i)) (i := w + cr / 2) ⟨by omega, q.1⟩ q.2.2 sp.1.symm
    · have q := o1 (w + 1 - cr / 2) (by omega)
      rw [sp.2.2.1] at q
      exact ky_tO (rx := (fun i => kt_b rx w (ro w) (cr / 2) (cr % 2) i)) (ro := (fun i => kt_a ro w (ro w) (cr / 2) (cr % 2) i)) (i := w + 1 - cr / 2) ⟨by omega, q.1⟩ q.2.2 sp.2.2.1.symm
    · show cl' (i * 7 + j) = ky_t (n + 1) (fun i => kt_b rx w (ro w) (cr / 2) (cr % 2) i) (fun i => kt_a ro w (ro w) (cr / 2) (cr % 2) i) i j
      rcases hcl i j hi hj with z | z
      · exact z
      · rw [z.1]
        by_cases q : i < n + 1 ∧ j < n + 1
        · have y := kt_z (a := ro) (b := rx) (t := cr % 2) hp hw hb ha ia ib rfl hv hbv q.1 z.2
          exact (ky_tN (rx := (fun i => kt_b rx w (ro w) (cr / 2) (cr % 2) i)) (ro := (fun i => kt_a ro w (ro w) (cr / 2) (cr % 2) i)) y.2 y.1).symm
        · exact (ky_t0 q).symm
  exact fin
end
theorem i_vc_stabilise {k : Nat} {u : SX} {v : SY} (I : i_Rel k u v) (hk : k + 4 ≤ 2049) (v1 : Int32) (v2 : Int32) (v3 : Int32) : wpX_stabilise (fun r u' => wpY_stabilise (fun r' v' => r' = r ∧ i_Rel (k + 4) u' v') v v1 v2 v3) u v1 v2 v3 := by
  obtain ⟨f_reach, f_width, f_capacity, f_slots, f_hand, f_n, f_phase, f_bank, f_stateCount, f_spareCount, a_rowX, a_rowO, a_colX, a_colO, a_nextX, a_nextO, a_rowTo, a_colTo, a_partner, a_keys, a_poly, a_plain, a_normal⟩ := u
  obtain ⟨h_n, h_phase, b_cell, b_old, b_plain, b_term, b_next, b_spot, b_choice, b_ends, b_seen⟩ := v
  have I' : ∀ r : Int32, r = r ∧ i_Rel (k + 4) (f_reach, f_width, f_capacity, f_slots, f_hand, f_n, f_phase, f_bank, f_stateCount, f_spareCount, a_rowX, a_rowO, a_colX, a_colO, a_nextX, a_nextO, a_rowTo, a_colTo, a_partner, a_keys, a_poly, a_plain, a_normal) (h_n, h_phase, b_cell, b_old, b_plain, b_term, b_next, b_spot, b_choice, b_ends, b_seen) := fun r => ⟨rfl, I.1, rfl⟩
  by_cases hz : f_phase = 0
  · obtain ⟨⟨n, n2, n7, e1, e2, e3, M, rest⟩, _⟩ := id I
    exact br_t hz (br_t (e3.trans hz) (I' _))
  · obtain ⟨n, rx, ro, cx, co, e1, e2, e3, K, C, P⟩ := kz_grid I.1 hz
    have hz' : ¬ h_phase = 0 := by rw [e3]; exact hz
    have n2 := K.1.1
    have n7 := K.1.2.1
    have E : h_n = f_n := e2.trans e1.symm
    -- a good kind
    have good : ∀ kd : Int32, (kd = 1 ∨ kd = 2) → wX_stabilise_24 (fun r u' => wpY_stabilise (fun r' v' => r' = r ∧ i_Rel (k + 4) u' v') (h_n, h_phase, b_cell, b_old, b_plain, b_term, b_next, b_spot, b_choice, b_ends, b_seen) v1 kd v3) v1 kd v3 0 f_reach f_width f_capacity f_slots f_hand f_n f_phase f_bank f_stateCount f_spareCount a_rowX a_rowO a_colX a_colO a_nextX a_nextO a_rowTo a_colTo a_partner a_keys a_poly a_plain a_normal := by
      intro kd hkd
      have kk : ∀ (post : Int32 → SY → Prop) {w : Nat}, w < n → wY_stabilise_31 post (nI w) kd v3 h_n h_phase b_cell b_old b_plain b_term b_next b_spot b_choice b_ends b_seen → wpY_stabilise post (h_n, h_phase, b_cell, b_old, b_plain, b_term, b_next, b_spot, b_choice, b_ends, b_seen) (nI w) kd v3 := by
        intro post w hw q
        refine br_f hz' (yc_in e2 n7 hw ?_)
        rcases hkd with rfl | rfl
        · exact br_t rfl q
        · exact br_f (by decide) (br_t rfl q)
      unfold wX_stabilise_24
      refine xw_outv e1 n7 v1 (fun w hw ew => br_t rfl (br_t rfl ?_)) (fun q => br_f (by decide) ?_)
      · subst ew
        by_cases c0 : v3 < 0
        · exact br_t c0 (kk _ hw (br_t c0 (I' _)))
        · by_cases c3 : v3 ≤ 3
          · obtain ⟨cr, hcr, rfl⟩ := nI_of2 (M := 3) (n := 3) (by decide) c0 c3
            by_cases n6 : n = 7
            · have f7 : f_n = 7 := by rw [e1, n6]; rfl
              have g7 : h_n = 7 := by rw [e2, n6]; rfl
              exact br_f c0 (br_t c3 (br_t f7 (kk _ hw (br_f c0 (br_t c3 (br_t g7 (I' _)))))))
            · have f7 : ¬ f_n = 7 := by rw [e1]; intro q; exact n6 ((nI_eq (by omega) (by omega)).mp (q.trans (show (7 : Int32) = nI 7 from rfl)))
              have g7 : ¬ h_n = 7 := by rw [E]; exact f7
              refine br_f c0 (br_t c3 (br_f f7 ?_))
              rcases hkd with rfl | rfl
              · exact kz_stab1 e1 e2 K C (by omega) hw (by omega) (fun post q => kk post hw (br_f c0 (br_t c3 (br_f g7 (br_t rfl q)))))
              · exact kz_stab2 e1 e2 K C (by omega) hw (by omega) (fun post q => kk post hw (br_f c0 (br_t c3 (br_f g7 (br_f (by decide) q)))))
          · exact br_f c0 (br_f c3 (kk _ hw (br_f c0 (br_f c3 (I' _)))))
      · rw [← E] at q
        exact br_f hz' (yc_out q (I' _))
    refine br_f hz (br_c (fun k1 => ?_) (fun k1 => br_c (fun k2 => ?_) (fun k2 => ?_)))
    · exact good v2 (Or.inl k1)
    · exact good v2 (Or.inr k2)
    · unfold wX_stabilise_24
      refine xw_outv e1 n7 v1 (fun w hw ew => br_t rfl (br_f (by decide) ?_)) (fun q => br_f (by decide) ?_)
      · subst ew
        exact br_f hz' (yc_in e2 n7 hw (br_f k1 (br_f k2 (I' _))))
      · rw [← E] at q
        exact br_f hz' (yc_out q (I' _))
end
section
/-! destabilise -/
def kd_p (w r : Nat) : Nat := if r ≤ w then r else r - 1
theorem kd_p1 (w r : Nat) : (r ≤ w ∧ kd_p w r = r) ∨ (w < r ∧ kd_p w r = r - 1) := by
  unfold kd_p
  by_cases h : r ≤ w
  · rw [if_pos h]; exact Or.inl ⟨h, rfl⟩
  · rw [if_neg h]; exact Or.inr ⟨by omega, rfl⟩
def kd_q (w i1 i : Nat) : Nat := if i < w then i else if i = w then i1 else i + 1
theorem kd_q1 (w i1 i : Nat) : (i < w ∧ kd_q w i1 i = i) ∨ (i = w ∧ kd_q w i1 i = i1) ∨ (w < i ∧ kd_q w i1 i = i + 1) := by
  unfold kd_q
  by_cases h : i < w
  · rw [if_pos h]; exact Or.inl ⟨h, rfl⟩
  · rw [if_neg h]
    by_cases h2 : i = w
    · rw [if_pos h2]; exact Or.inr (Or.inl ⟨h2, rfl⟩)
    · rw [if_neg h2]; exact Or.inr (Or.inr ⟨by omega, rfl⟩)
/-- the block: rows w, w + 1; columns c, c + 1; the single mark at i0, j0 -/
def kd_B (n : Nat) (a b : Nat → Nat) (w c i0 i1 j0 j1 : Nat) : Prop := w + 1 < n ∧ c + 1 < n ∧ ((i0 = w ∧ i1 = w + 1) ∨ (i0 = w + 1 ∧ i1 = w)) ∧ ((j0 = c ∧ j1 = c + 1) ∨ (j0 = c + 1 ∧ j1 = c)) ∧
  b i0 = j0 ∧ a i0 = j1 ∧ a i1 = j0 ∧ b i1 ≠ c ∧ b i1 ≠ c + 1
def kd_a (a : Nat → Nat) (w c i1 i : Nat) : Nat := if i = w then c else kd_p c (a (kd_q w i1 i))
def kd_b (b : Nat → Nat) (w c i1 i : Nat) : Nat := kd_p c (b (kd_q w i1 i))
section
variable {n w c i0 i1 j0 j1 : Nat} {a b : Nat → Nat}
theorem kd_inj {x y : Nat} (hB : kd_B n a b w c i0 i1 j0 j1) (hx : x ≠ j0) (hy : y ≠ j0) (e : kd_p c x = kd_p c y) : x = y := by
  have k1 := kd_p1 c x
  have k2 := kd_p1 c y
  have j := hB.2.2.2.1
  omega
theorem kd_row (hB : kd_B n a b w c i0 i1 j0 j1) {i : Nat} (hi : i < n - 1) : kd_q w i1 i < n ∧ kd_q w i1 i ≠ i0 ∧ kd_p w (kd_q w i1 i) = i ∧ (i ≠ w → kd_q w i1 i ≠ i1) := by
  have q := kd_q1 w i1 i
  have p := kd_p1 w (kd_q w i1 i)
  have h := hB.1
  have h2 := hB.2.2.1
  omega
theorem kd_qp (hB : kd_B n a b w c i0 i1 j0 j1) {r : Nat} (hr : r ≠ i0) : kd_q w i1 (kd_p w r) = r := by
  have q := kd_q1 w i1 (kd_p w r)
  have p := kd_p1 w r
  have h2 := hB.2.2.1
  omega
/-- a row off the block has its marks of the kind off the block's columns -/
theorem kd_off (hB : kd_B n a b w c i0 i1 j0 j1) (ia : ∀ x y, x < n → y < n → a x = a y → x = y) {r : Nat} (hr : r < n) (r0 : r ≠ i0) (r1 : r ≠ i1) : a r ≠ c ∧ a r ≠ c + 1 := by
  have n0 : a r ≠ j0 := fun e => r1 (ia _ _ hr (by have := hB.1; have := hB.2.2.1; omega) (by rw [e, hB.2.2.2.2.2.2.1]))
  have n1 : a r ≠ j1 := fun e => r0 (ia _ _ hr (by have := hB.1; have := hB.2.2.1; omega) (by rw [e, hB.2.2.2.2.2.1]))
  have j := hB.2.2.2.1
  omega
theorem kd_offb (hB : kd_B n a b w c i0 i1 j0 j1) (ib : ∀ x y, x < n → y < n → b x = b y → x = y) {r : Nat} (hr : r < n) (r0 : r ≠ i0) : b r ≠ j0 := fun e =>
  r0 (ib _ _ hr (by have := hB.1; have := hB.2.2.1; omega) (by rw [e, hB.2.2.2.2.1]))
theorem kd_ok (hB : kd_B n a b w c i0 i1 j0 j1) (ha : ∀ r, r < n → a r < n) (hb : ∀ r, r < n → b r < n) (hab : ∀ r, r < n → a r ≠ b r) (ia : ∀ x y, x < n → y < n → a x = a y → x = y) (ib : ∀ x y, x < n → y < n → b x = b y → x = y) :
    (∀ i, i < n - 1 → kd_a a w c i1 i < n - 1 ∧ kd_b b w c i1 i < n - 1 ∧ kd_a a w c i1 i ≠ kd_b b w c i1 i) ∧
    (∀ x y, x < n - 1 → y < n - 1 → kd_a a w c i1 x = kd_a a w c i1 y → x = y) ∧ (∀ x y, x < n - 1 → y < n - 1 → kd_b b w c i1 x = kd_b b w c i1 y → x = y) := by
  have hwn := hB.1
  have hcn := hB.2.1
  have hj := hB.2.2.2.1
  have hi01 := hB.2.2.1
  have aw : kd_a a w c i1 w = c := if_pos rfl
  have ag : ∀ i, i ≠ w → kd_a a w c i1 i = kd_p c (a (kd_q w i1 i)) := fun i h => if_neg h
  have bw := hB.2.2.2.2.2.2.2
  have qw : kd_q w i1 w = i1 := by have q := kd_q1 w i1 w; omega
  have gen : ∀ i, i < n - 1 → i ≠ w → kd_p c (a (kd_q w i1 i)) ≠ c ∧ kd_p c (a (kd_q w i1 i)) < n - 1 := by
    intro i hi h
    have r := kd_row hB hi
    have o := kd_off hB ia r.1 r.2.1 (r.2.2.2 h)
    have k := kd_p1 c (a (kd_q w i1 i))
    have l := ha _ r.1
    omega
  refine ⟨fun i hi => ?_, fun x y hx hy e => ?_, fun x y hx hy e => ?_⟩
  · have r := kd_row hB hi
    have lb := hb _ r.1
    have kb := kd_p1 c (b (kd_q w i1 i))
    have ob := kd_offb hB ib r.1 r.2.1
    unfold kd_b
    by_cases h : i = w
    · rw [h, aw]
      rw [h, qw] at kb lb
      rw [qw]
      omega
    · rw [ag i h]
      have g := gen i hi h
      have o := kd_off hB ia r.1 r.2.1 (r.2.2.2 h)
      refine ⟨g.2, by omega, fun e => hab _ r.1 (kd_inj hB (by omega) ob e)⟩
  · by_cases h : x = w
    · by_cases h' : y = w
      · rw [h, h']
      · rw [h, aw, ag y h'] at e
        exact absurd e.symm (gen y hy h').1
    · by_cases h' : y = w
      · rw [h', aw, ag x h] at e
        exact absurd e (gen x hx h).1
      · rw [ag x h, ag y h'] at e
        have r := kd_row hB hx
        have r' := kd_row hB hy
        have o := kd_off hB ia r.1 r.2.1 (r.2.2.2 h)
        have o' := kd_off hB ia r'.1 r'.2.1 (r'.2.2.2 h')
        have z := ia _ _ r.1 r'.1 (kd_inj hB (by omega) (by omega) e)
        rw [← r.2.2.1, z, r'.2.2.1]
  · unfold kd_b at e
    have r := kd_row hB hx
    have r' := kd_row hB hy
    have z := ib _ _ r.1 r'.1 (kd_inj hB (kd_offb hB ib r.1 r.2.1) (kd_offb hB ib r'.1 r'.2.1) e)
    rw [← r.2.2.1, z, r'.2.2.1]
/-- where the old marks go -/
theorem kd_na (hB : kd_B n a b w c i0 i1 j0 j1) {r : Nat} (r0 : r ≠ i0) (r1 : r ≠ i1) : kd_a a w c i1 (kd_p w r) = kd_p c (a r) := by
  have p := kd_p1 w r
  have h2 := hB.2.2.1
  unfold kd_a
  rw [if_neg (by omega), kd_qp hB r0]
theorem kd_nb (hB : kd_B n a b w c i0 i1 j0 j1) {r : Nat} (r0 : r ≠ i0) : kd_b b w c i1 (kd_p w r) = kd_p c (b r) := by
  unfold kd_b
  rw [kd_qp hB r0]
end
/-- which of the block's places hold a mark of f -/
def kd_c (f : Nat → Nat) (w c : Nat) : Nat := (if f w = c then 1 else 0) + (if f w = c + 1 then 1 else 0) + (if f (w + 1) = c then 1 else 0) + (if f (w + 1) = c + 1 then 1 else 0)
theorem kd_c2 (f : Nat → Nat) (w c : Nat) : kd_c f w c = (if f w = c ∨ f w = c + 1 then 1 else 0) + (if f (w + 1) = c ∨ f (w + 1) = c + 1 then 1 else 0) := by
  unfold kd_c
  by_cases h1 : f w = c
  · rw [if_pos h1, if_neg (by omega : ¬ f w = c + 1), if_pos (Or.inl h1)]
    by_cases h2 : f (w + 1) = c
    · rw [if_pos h2, if_neg (by omega : ¬ f (w + 1) = c + 1), if_pos (Or.inl h2)]
    · rw [if_neg h2]
      by_cases h3 : f (w + 1) = c + 1
      · rw [if_pos h3, if_pos (Or.inr h3)]
      · rw [if_neg h3, if_neg (by omega)]
  · rw [if_neg h1]
    by_cases h1' : f w = c + 1
    · rw [if_pos h1', if_pos (Or.inr h1')]
      by_cases h2 : f (w + 1) = c
      · rw [if_pos h2, if_neg (by omega : ¬ f (w + 1) = c + 1), if_pos (Or.inl h2)]
      · rw [if_neg h2]
        by_cases h3 : f (w + 1) = c + 1
        · rw [if_pos h3, if_pos (Or.inr h3)]
        · rw [if_neg h3, if_neg (by omega)]
    · rw [if_neg h1', if_neg (by omega : ¬ (f w = c ∨ f w = c + 1))]
      by_cases h2 : f (w + 1) = c
      · rw [if_pos h2, if_neg (by omega : ¬ f (w + 1) = c + 1), if_pos (Or.inl h2)]
      · rw [if_neg h2]
        by_cases h3 : f (w + 1) = c + 1
        · rw [if_pos h3, if_pos (Or.inr h3)]
        · rw [if_neg h3, if_neg (by omega)]
theorem kd_c_le (f : Nat → Nat) (w c : Nat) : kd_c f w c ≤ 2 := by
  rw [kd_c2]; split <;> split <;> omega
theorem kd_mk {n w c : Nat} {a b : Nat → Nat} (hw : w + 1 < n) (hc : c + 1 < n) (hab : ∀ r, r < n → a r ≠ b r) (ia : ∀ x y, x < n → y < n → a x = a y → x = y) (A : kd_c a w c = 2) (B : kd_c b w c = 1) : ∃ i0 i1 j0 j1, kd_B n a b w c i0 i1 j0 j1 := by
  rw [kd_c2] at A B
  have a1 : a w = c ∨ a w = c + 1 := by
    refine Classical.byContradiction fun q => ?_
    rw [if_neg q] at A
    split at A <;> omega
  have a2 : a (w + 1) = c ∨ a (w + 1) = c + 1 := by
    refine Classical.byContradiction fun q => ?_
    rw [if_neg q] at A
    split at A <;> omega
  have ne : a w ≠ a (w + 1) := fun e => by have := ia w (w + 1) (by omega) hw e; omega
  have d1 := hab w (by omega)
  have d2 := hab (w + 1) hw
  by_cases b1 : b w = c ∨ b w = c + 1
  · have b2 : ¬ (b (w + 1) = c ∨ b (w + 1) = c + 1) := fun q => by rw [if_pos b1, if_pos q] at B; omega
    refine ⟨w, w + 1, b w, a w, hw, hc, Or.inl ⟨rfl, rfl⟩, by omega, rfl, rfl, by omega, by omega, by omega⟩
  · have b2 : b (w + 1) = c ∨ b (w + 1) = c + 1 := by
      refine Classical.byContradiction fun q => ?_
      rw [if_neg b1, if_neg q] at B
      omega
    refine ⟨w + 1, w, b (w + 1), a (w + 1), hw, hc, Or.inr ⟨rfl, rfl⟩, by omega, rfl, rfl, by omega, by omega, by omega⟩
end
section
/-! the component's merge -/
section
variable {f_reach f_width f_capacity f_slots f_hand f_n f_phase f_bank f_stateCount f_spareCount : Int32} {a_rowX a_rowO a_colX a_colO a_nextX a_nextO a_rowTo a_colTo a_partner a_keys a_poly a_plain a_normal : Nat → Int32} {n : Nat} {rx ro cx co : Nat → Nat}
theorem xw_mark {post : Int32 → Prop} {r j : Nat} (hn : f_n = nI n) (K : kx_A n rx ro cx co a_rowX a_rowO a_colX a_colO) (hr : r < n) (hj : j < n) (h : post (if rx r = j then 1 else if ro r = j then 2 else 0)) : wpX_mark post (f_reach, f_width, f_capacity, f_slots, f_hand, f_n, f_phase, f_bank, f_stateCount, f_spareCount, a_rowX, a_rowO, a_colX, a_colO, a_nextX, a_nextO, a_rowTo, a_colTo, a_partner, a_keys, a_poly, a_plain, a_normal) (nI r) (nI j) := by
  have n7 := K.1.2.1
  have a := kx_at K hr
  have e1 : nI (rx r) = nI j ↔ rx r = j := nI_eq (by omega) (by omega)
  have e2 : nI (ro r) = nI j ↔ ro r = j := nI_eq (by omega) (by omega)
  unfold wpX_mark
  dsimp only
  refine xw_out hn n7 (by omega) (fun _ => br_t rfl (xw_out hn n7 (by omega) (fun _ => br_t rfl ⟨pk_in r 7 (by omega), ?_⟩) (fun q => by omega))) (fun q => by omega)
  rw [pk_cl r, a.2.1, a.2.2.1]
  refine br_c (fun z => ?_) (fun z => ⟨pk_in r 7 (by omega), br_c (fun z2 => ?_) (fun z2 => ?_)⟩)
  · rw [if_pos (e1.mp z)] at h; exact h
  · rw [if_neg (fun q => z (e1.mpr q)), if_pos (e2.mp z2)] at h; exact h
  · rw [if_neg (fun q => z (e1.mpr q)), if_neg (fun q => z2 (e2.mpr q))] at h; exact h
theorem xw_mk1 (K : kx_A n rx ro cx co a_rowX a_rowO a_colX a_colO) {r j : Nat} (hr : r < n) : ((if rx r = j then (1 : Int32) else if ro r = j then 2 else 0) = 1 ↔ rx r = j) ∧ ((if rx r = j then (1 : Int32) else if ro r = j then 2 else 0) = 2 ↔ ro r = j) := by
  have d := (K.1.2.2 r hr).2.2.2.2.2.2.2.2
  by_cases h1 : rx r = j
  · rw [if_pos h1]
    exact ⟨⟨fun _ => h1, fun _ => rfl⟩, ⟨fun q => absurd q (by decide), fun q => absurd (h1.trans q.symm) d⟩⟩
  · rw [if_neg h1]
    by_cases h2 : ro r = j
    · rw [if_pos h2]
      exact ⟨⟨fun q => absurd q (by decide), fun q => absurd q h1⟩, ⟨fun _ => h2, fun _ => rfl⟩⟩
    · rw [if_neg h2]
      exact ⟨⟨fun q => absurd q (by decide), fun q => absurd q h1⟩, ⟨fun q => absurd q (by decide), fun q => absurd q h2⟩⟩
end
section
variable {f_reach f_width f_capacity f_slots f_hand f_n f_phase f_bank f_stateCount f_spareCount : Int32} {a_rowX a_rowO a_colX a_colO a_nextX a_nextO a_rowTo a_colTo a_partner a_keys a_poly a_plain a_normal : Nat → Int32} {n : Nat} {rx ro cx co : Nat → Nat}
theorem xw_cib1 {post : Int32 → Prop} {w c : Nat} (hn : f_n = nI n) (K : kx_A n rx ro cx co a_rowX a_rowO a_colX a_colO) (hw : w + 1 < n) (hc : c + 1 < n) (h : post (nI (kd_c rx w c))) : wpX_countInBlock post (f_reach, f_width, f_capacity, f_slots, f_hand, f_n, f_phase, f_bank, f_stateCount, f_spareCount, a_rowX, a_rowO, a_colX, a_colO, a_nextX, a_nextO, a_rowTo, a_colTo, a_partner, a_keys, a_poly, a_plain, a_normal) 1 (nI w) (nI c) := by
  have st : ∀ m cnt q, q < 4 → cnt < 8 → wX_countInBlock_6 post 1 (nI w) (nI c) f_reach f_width f_capacity f_slots f_hand f_n f_phase f_bank f_stateCount f_spareCount a_rowX a_rowO a_colX a_colO a_nextX a_nextO a_rowTo a_colTo a_partner a_keys a_poly a_plain a_normal m (nI (cnt + (if rx (w + q / 2) = c + q % 2 then 1 else 0))) (nI (q + 1)) → wX_countInBlock_6 post 1 (nI w) (nI c) f_reach f_width f_capacity f_slots f_hand f_n f_phase f_bank f_stateCount f_spareCount a_rowX a_rowO a_colX a_colO a_nextX a_nextO a_rowTo a_colTo a_partner a_keys a_poly a_plain a_normal (m + 1) (nI cnt) (nI q) := by
    intro m cnt q hq hcnt H
    refine pk_le 4 q (fun z => by omega) (fun _ => ?_)
    rw [(kz_2 q hq).1, (kz_2 q hq).2, nI_add, nI_add]
    refine xw_mark hn K (by omega) (by omega) ?_
    have mm := (xw_mk1 K (r := w + q / 2) (j := c + q % 2) (by omega)).1
    refine br_c (fun z => nm_r (nI_1 cnt) (nm_r (nI_1 q) ?_)) (fun z => nm_r (e' := nI cnt) (nI_add cnt 0) (nm_r (nI_1 q) ?_))
    · rw [if_pos (mm.mp z)] at H; exact H
    · rw [if_neg (fun y => z (mm.mpr y))] at H; exact H
  refine ⟨5, st 4 0 0 (by omega) (by omega) (st 3 _ 1 (by omega) ?_ (st 2 _ 2 (by omega) ?_ (st 1 _ 3 (by omega) ?_ ?_)))⟩
  · split <;> omega
  · split <;> split <;> omega
  · split <;> split <;> split <;> omega
  · refine pk_le 4 4 (fun _ => ?_) (fun q => by omega)
    have e : 0 + (if rx (w + 0 / 2) = c + 0 % 2 then 1 else 0) + (if rx (w + 1 / 2) = c + 1 % 2 then 1 else 0) + (if rx (w + 2 / 2) = c + 2 % 2 then 1 else 0) + (if rx (w + 3 / 2) = c + 3 % 2 then 1 else 0) = kd_c rx w c := by
      unfold kd_c
      rw [Nat.zero_add]
      rfl
    rw [e]; exact h
theorem xw_merge1 {post : SX → Prop} {w c i0 i1 j0 j1 : Nat} (hn : f_n = nI n) (K : kx_A n rx ro cx co a_rowX a_rowO a_colX a_colO) (hB : kd_B n rx ro w c i0 i1 j0 j1) {cx' co' : Nat → Nat} (G : kx_ok (n - 1) (fun i => kd_a rx w c i1 i) (fun i => kd_b ro w c i1 i) cx' co')
    (h : ∀ RT CT NX NO A B C D : Nat → Int32, kx_A (n - 1) (fun i => kd_a rx w c i1 i) (fun i => kd_b ro w c i1 i) cx' co' A B C D → post (f_reach, f_width, f_capacity, f_slots, f_hand, nI (n - 1), 1, f_bank, f_stateCount, f_spareCount, A, B, C, D, NX, NO, RT, CT, a_partner, a_keys, a_poly, a_plain, a_normal)) : wpX_merge post (f_reach, f_width, f_capacity, f_slots, f_hand, f_n, f_phase, f_bank, f_stateCount, f_spareCount, a_rowX, a_rowO, a_colX, a_colO, a_nextX, a_nextO, a_rowTo, a_colTo, a_partner, a_keys, a_poly, a_plain, a_normal) (nI w) (nI c) 1 := by
  have n7 := K.1.2.1
  have g := K.1.2.2
  have hw := hB.1
  have hc := hB.2.1
  have hi := hB.2.2.1
  have hj := hB.2.2.2.1
  have ha : ∀ r, r < n → rx r < n := fun r hr => (g r hr).1
  have hb : ∀ r, r < n → ro r < n := fun r hr => (g r hr).2.1
  have ia : ∀ x y, x < n → y < n → rx x = rx y → x = y := fun x y hx hy e => by rw [← (g x hx).2.2.2.2.1, e, (g y hy).2.2.2.2.1]
  have ib : ∀ x y, x < n → y < n → ro x = ro y → x = y := fun x y hx hy e => by rw [← (g x hx).2.2.2.2.2.2.1, e, (g y hy).2.2.2.2.2.2.1]
  have m1 : (-1 : Int32) < 0 := by decide
  have fin : ∀ RT0 CT0 : Nat → Int32, (∀ j, j < n → RT0 j = nI (kd_p w j) ∧ CT0 j = nI (kd_p c j)) → wpX_carryAll (fun u => match u with | (f_reach, f_width, f_capacity, f_slots, f_hand, f_n, f_phase, f_bank, f_stateCount, f_spareCount, a_rowX, a_rowO, a_colX, a_colO, a_nextX, a_nextO, a_rowTo, a_colTo, a_partner, a_keys, a_poly, a_plain, a_normal) => wpX_place (fun u => match u with | (f_reach, f_width, f_capacity, f_slots, f_hand, f_n, f_phase, f_bank, f_stateCount, f_spareCount, a_rowX, a_rowO, a_colX, a_colO, a_nextX, a_nextO, a_rowTo, a_colTo, a_partner, a_keys, a_poly, a_plain, a_normal) => wpX_install (fun u => match u with | (f_reach, f_width, f_capacity, f_slots, f_hand, f_n, f_phase, f_bank, f_stateCount, f_spareCount, a_rowX, a_rowO, a_colX, a_colO, a_nextX, a_nextO, a_rowTo, a_colTo, a_partner, a_keys, a_poly, a_plain, a_normal) => post (f_reach, f_width, f_capacity, f_slots, f_hand, f_n, f_phase, f_bank, f_stateCount, f_spareCount, a_rowX, a_rowO, a_colX, a_colO, a_nextX, a_nextO, a_rowTo, a_colTo, a_partner, a_keys, a_poly, a_plain, a_normal)) (f_reach, f_width, f_capacity, f_slots, f_hand, f_n, f_phase, f_bank, f_stateCount, f_spareCount, a_rowX, a_rowO, a_colX, a_colO, a_nextX, a_nextO, a_rowTo, a_colTo, a_partner, a_keys, a_poly, a_plain, a_normal) (f_n - 1)) (f_reach, f_width, f_capacity, f_slots, f_hand, f_n, f_phase, f_bank, f_stateCount, f_spareCount, a_rowX, a_rowO, a_colX, a_colO, a_nextX, a_nextO, a_rowTo, a_colTo, a_partner, a_keys, a_poly, a_plain, a_normal) 1 (nI w) (nI c)) (f_reach, f_width, f_capacity, f_slots, f_hand, f_n, f_phase, f_bank, f_stateCount, f_spareCount, a_rowX, a_rowO, a_colX, a_colO, a_nextX, a_nextO, upd RT0 i0 (-1), upd CT0 j0 (-1), a_partner, a_keys, a_poly, a_plain, a_normal) := by
    intro RT0 CT0 hT
    have KA : ∀ r, r < n → kx_K (upd RT0 i0 (-1)) (upd CT0 j0 (-1)) r (rx r) (fun i => kd_a rx w c i1 i) := by
      intro r hr
      have k1 := kd_p1 w r
      by_cases r0 : r = i0
      · exact Or.inl (by rw [r0, pk_us]; exact m1)
      · by_cases r1 : r = i1
        · refine Or.inr (Or.inl ⟨by rw [pk_un r0, (hT r hr).1]; exact nI_pos (by omega), ?_⟩)
          rw [r1, hB.2.2.2.2.2.2.1, pk_us]; exact m1
        · have o := kd_off hB ia hr r0 r1
          have l := ha r hr
          have k2 := kd_p1 c (rx r)
          exact Or.inr (Or.inr ⟨kd_p w r, by omega, by rw [pk_un r0]; exact (hT r hr).1, kd_p c (rx r), by omega, by rw [pk_un (by omega)]; exact (hT _ l).2, kd_na hB r0 r1⟩)
    have KB : ∀ r, r < n → kx_K (upd RT0 i0 (-1)) (upd CT0 j0 (-1)) r (ro r) (fun i => kd_b ro w c i1 i) := by
      intro r hr
      have k1 := kd_p1 w r
      by_cases r0 : r = i0
      · exact Or.inl (by rw [r0, pk_us]; exact m1)
      · have l := hb r hr
        have k2 := kd_p1 c (ro r)
        exact Or.inr (Or.inr ⟨kd_p w r, by omega, by rw [pk_un r0]; exact (hT r hr).1, kd_p c (ro r), by omega, by rw [pk_un (kd_offb hB ib hr r0)]; exact (hT _ l).2, kd_nb hB r0⟩)
    refine xw_carryAll (rx := rx) (ro := ro) (nx := (fun i => kd_a rx w c i1 i)) (no := (fun i => kd_b ro w c i1 i)) hn n7 (fun r hr => ⟨(kx_at K hr).2.1, (kx_at K hr).2.2.1, (kx_at K hr).2.2.2.2.2.1, (kx_at K hr).2.2.2.2.2.2.1⟩) KA KB (fun NX NO hX hO => ?_)
    have en : f_n - 1 = nI (n - 1) := by rw [hn, show (1 : Int32) = nI 1 from rfl, pk_sub (by omega)]
    refine xw_place (by omega) (fun _ => ?_) (fun e => absurd rfl e)
    have ins : wpX_install post (f_reach, f_width, f_capacity, f_slots, f_hand, f_n, f_phase, f_bank, f_stateCount, f_spareCount, a_rowX, a_rowO, a_colX, a_colO, upd NX w (nI c), NO, upd RT0 i0 (-1), upd CT0 j0 (-1), a_partner, a_keys, a_poly, a_plain, a_normal) (nI (n - 1)) := by
      refine xw_install G (fun i hi' => ?_) (fun A B C D K' => h _ _ _ _ A B C D K')
      have r := kd_row hB hi'
      have AA : upd NX w (nI c) i = nI (kd_a rx w c i1 i) := by
        by_cases e : i = w
        · rw [e, pk_us]; unfold kd_a; rw [if_pos rfl]
        · rw [pk_un e]
          have o := kd_off hB ia r.1 r.2.1 (r.2.2.2 e)
          have l := ha _ r.1
          have k2 := kd_p1 c (rx (kd_q w i1 i))
          exact hX (kd_q w i1 i) i r.1 (by omega) (by rw [pk_un r.2.1, (hT _ r.1).1, r.2.2.1]) (by rw [pk_un (by omega), (hT _ l).2]; exact nI_pos (by omega))
      have BB : NO i = nI (kd_b ro w c i1 i) := by
        have l := hb _ r.1
        have k2 := kd_p1 c (ro (kd_q w i1 i))
        exact hO (kd_q w i1 i) i r.1 (by omega) (by rw [pk_un r.2.1, (hT _ r.1).1, r.2.2.1]) (by rw [pk_un (kd_offb hB ib r.1 r.2.1), (hT _ l).2]; exact nI_pos (by omega))
      exact ⟨AA, BB⟩
    rw [← en] at ins
    exact ins
  have four : ∀ RT0 CT0 : Nat → Int32, (∀ j, j < n → RT0 j = nI (kd_p w j) ∧ CT0 j = nI (kd_p c j)) → ∀ d q (RT CT : Nat → Int32), q + d = 4 → ((q ≤ 2 * (i0 - w) + (j0 - c) ∧ RT = RT0 ∧ CT = CT0) ∨ (2 * (i0 - w) + (j0 - c) < q ∧ RT = upd RT0 i0 (-1) ∧ CT = upd CT0 j0 (-1))) →
      wX_merge_70 post (nI w) (nI c) 1 2 f_reach f_width f_capacity f_slots f_hand f_n f_phase f_bank f_stateCount f_spareCount (d + 1) (nI q) a_rowX a_rowO a_colX a_colO a_nextX a_nextO RT CT a_partner a_keys a_poly a_plain a_normal := by
    intro RT0 CT0 hT d
    induction d with
    | zero =>
      intro q RT CT hq hs
      refine pk_le 4 q (fun _ => ?_) (fun z => by omega)
      rcases hs with z | z
      · omega
      · rw [z.2.1, z.2.2]; exact fin RT0 CT0 hT
    | succ d ih =>
      intro q RT CT hq hs
      refine pk_le 4 q (fun z => by omega) (fun _ => ?_)
      rw [(kz_2 q (by omega)).1, (kz_2 q (by omega)).2, nI_add, nI_add]
      refine nm_e (nm_e (xw_mark hn K (by omega) (by omega) ?_))
      have mm := (xw_mk1 K (r := w + q / 2) (j := c + q % 2) (by omega)).2
      have at0 : ro (w + q / 2) = c + q % 2 ↔ q = 2 * (i0 - w) + (j0 - c) := by
        constructor
        · intro e
          have e0 : w + q / 2 = i0 := by
            refine Classical.byContradiction fun ne => ?_
            have e1 : w + q / 2 = i1 := by omega
            rw [e1] at e
            have := hB.2.2.2.2.2.2.2
            omega
          rw [e0, hB.2.2.2.2.1] at e
          omega
        · intro e
          have e0 : w + q / 2 = i0 := by omega
          rw [e0, hB.2.2.2.2.1]
          omega
      refine br_c (fun z => ⟨pk_in (w + q / 2) 7 (by omega), nm_e ⟨pk_in (c + q % 2) 7 (by omega), nm_e (nm_r (nI_1 q) ?_)⟩⟩) (fun z => nm_r (nI_1 q) (ih (q + 1) RT CT (by omega) ?_))
      · have e := at0.mp (mm.mp z)
        rcases hs with y | y
        · rw [pk_cl (w + q / 2), pk_cl (c + q % 2), y.2.1, y.2.2]
          refine ih (q + 1) _ _ (by omega) (Or.inr ⟨by omega, ?_, ?_⟩)
          · rw [show w + q / 2 = i0 from by omega]
          · rw [show c + q % 2 = j0 from by omega]
        · omega
      · have ne : q ≠ 2 * (i0 - w) + (j0 - c) := fun e => z (mm.mpr (at0.mpr e))
        rcases hs with y | y
        · exact Or.inl ⟨by omega, y.2⟩
        · exact Or.inr ⟨by omega, y.2⟩
  have loop : ∀ d i (RT CT : Nat → Int32), i + d = n → (∀ j, j < i → RT j = nI (kd_p w j) ∧ CT j = nI (kd_p c j)) → wX_merge_8 post (nI w) (nI c) 1 2 f_reach f_width f_capacity f_slots f_hand f_n f_phase f_bank f_stateCount f_spareCount (d + 1) (nI i) a_rowX a_rowO a_colX a_colO a_nextX a_nextO RT CT a_partner a_keys a_poly a_plain a_normal := by
    intro d
    induction d with
    | zero =>
      intro i RT CT hi' hz
      exact pk_le n i (fun _ => ⟨5, four RT CT (fun j hj => hz j (by omega)) 4 0 RT CT (by omega) (Or.inl ⟨by omega, rfl, rfl⟩)⟩) (fun q => by omega) hn
    | succ d ih =>
      intro i RT CT hi' hz
      have st : ∀ x y : Int32, x = nI (kd_p w i) → y = nI (kd_p c i) → ∀ j, j < i + 1 → upd RT i x j = nI (kd_p w j) ∧ upd CT i y j = nI (kd_p c j) := by
        intro x y hx hy j hj
        by_cases e : j = i
        · rw [e, pk_us, pk_us]; exact ⟨hx, hy⟩
        · rw [pk_un e, pk_un e]; exact hz j (by omega)
      have k1 := kd_p1 w i
      have k2 := kd_p1 c i
      have m38 : ∀ z0 : Int32, z0 = nI (kd_p w i) → wX_merge_38 post (wX_merge_8 post (nI w) (nI c) 1 2 f_reach f_width f_capacity f_slots f_hand f_n f_phase f_bank f_stateCount f_spareCount (d + 1)) (nI w) (nI c) 1 2 (nI i) z0 (nI i) f_reach f_width f_capacity f_slots f_hand f_n f_phase f_bank f_stateCount f_spareCount a_rowX a_rowO a_colX a_colO a_nextX a_nextO RT CT a_partner a_keys a_poly a_plain a_normal := by
        intro z0 hz0
        refine ⟨pk_in i 7 (by omega), nm_e (pk_lt c i (fun q => ⟨pk_in i 7 (by omega), nm_e (nm_r (nI_1 i) ?_)⟩) (fun q => ⟨pk_in i 7 (by omega), nm_e (nm_r (nI_1 i) ?_)⟩))⟩
        · rw [pk_cl i]
          exact ih (i + 1) _ _ (by omega) (st _ _ hz0 (by rw [show (nI i - 1 : Int32) = nI (i - 1) from pk_sub (b := 1) (by omega), show kd_p c i = i - 1 from by omega]))
        · rw [pk_cl i]
          exact ih (i + 1) _ _ (by omega) (st _ _ hz0 (by rw [show kd_p c i = i from by omega]))
      refine pk_le n i (fun q => by omega) (fun q => pk_lt w i (fun q2 => m38 _ ?_) (fun q2 => m38 _ ?_)) hn
      · rw [show (nI i - 1 : Int32) = nI (i - 1) from pk_sub (b := 1) (by omega), show kd_p w i = i - 1 from by omega]
      · rw [show kd_p w i = i from by omega]
  exact nm_r (e' := 2) (by decide) ⟨n + 1, loop n 0 a_rowTo a_colTo (by omega) (fun j hj => by omega)⟩
end
section
variable {f_reach f_width f_capacity f_slots f_hand f_n f_phase f_bank f_stateCount f_spareCount : Int32} {a_rowX a_rowO a_colX a_colO a_nextX a_nextO a_rowTo a_colTo a_partner a_keys a_poly a_plain a_normal : Nat → Int32} {n : Nat} {rx ro cx co : Nat → Nat}
theorem xw_cib2 {post : Int32 → Prop} {w c : Nat} (hn : f_n = nI n) (K : kx_A n rx ro cx co a_rowX a_rowO a_colX a_colO) (hw : w + 1 < n) (hc : c + 1 < n) (h : post (nI (kd_c ro w c))) : wpX_countInBlock post (f_reach, f_width, f_capacity, f_slots, f_hand, f_n, f_phase, f_bank, f_stateCount, f_spareCount, a_rowX, a_rowO, a_colX, a_colO, a_nextX, a_nextO, a_rowTo, a_colTo, a_partner, a_keys, a_poly, a_plain, a_normal) 2 (nI w) (nI c) := by
  have st : ∀ m cnt q, q < 4 → cnt < 8 → wX_countInBlock_6 post 2 (nI w) (nI c) f_reach f_width f_capacity f_slots f_hand f_n f_phase f_bank f_stateCount f_spareCount a_rowX a_rowO a_colX a_colO a_nextX a_nextO a_rowTo a_colTo a_partner a_keys a_poly a_plain a_normal m (nI (cnt + (if ro (w + q / 2) = c + q % 2 then 1 else 0))) (nI (q + 1)) → wX_countInBlock_6 post 2 (nI w) (nI c) f_reach f_width f_capacity f_slots f_hand f_n f_phase f_bank f_stateCount f_spareCount a_rowX a_rowO a_colX a_colO a_nextX a_nextO a_rowTo a_colTo a_partner a_keys a_poly a_plain a_normal (m + 1) (nI cnt) (nI q) := by
    intro m cnt q hq hcnt H
    refine pk_le 4 q (fun z => by omega) (fun _ => ?_)
    rw [(kz_2 q hq).1, (kz_2 q hq).2, nI_add, nI_add]
    refine xw_mark hn K (by omega) (by omega) ?_
    have mm := (xw_mk1 K (r := w + q / 2) (j := c + q % 2) (by omega)).2
    refine br_c (fun z => nm_r (nI_1 cnt) (nm_r (nI_1 q) ?_)) (fun z => nm_r (e' := nI cnt) (nI_add cnt 0) (nm_r (nI_1 q) ?_))
    · rw [if_pos (mm.mp z)] at H; exact H
    · rw [if_neg (fun y => z (mm.mpr y))] at H; exact H
  refine ⟨5, st 4 0 0 (by omega) (by omega) (st 3 _ 1 (by omega) ?_ (st 2 _ 2 (by omega) ?_ (st 1 _ 3 (by omega) ?_ ?_)))⟩
  · split <;> omega
  · split <;> split <;> omega
  · split <;> split <;> split <;> omega
  · refine pk_le 4 4 (fun _ => ?_) (fun q => by omega)
    have e : 0 + (if ro (w + 0 / 2) = c + 0 % 2 then 1 else 0) + (if ro (w + 1 / 2) = c + 1 % 2 then 1 else 0) + (if ro (w + 2 / 2) = c + 2 % 2 then 1 else 0) + (if ro (w + 3 / 2) = c + 3 % 2 then 1 else 0) = kd_c ro w c := by
      unfold kd_c
      rw [Nat.zero_add]
      rfl
    rw [e]; exact h
theorem xw_merge2 {post : SX → Prop} {w c i0 i1 j0 j1 : Nat} (hn : f_n = nI n) (K : kx_A n rx ro cx co a_rowX a_rowO a_colX a_colO) (hB : kd_B n ro rx w c i0 i1 j0 j1) {cx' co' : Nat → Nat} (G : kx_ok (n - 1) (fun i => kd_b rx w c i1 i) (fun i => kd_a ro w c i1 i) cx' co')
    (h : ∀ RT CT NX NO A B C D : Nat → Int32, kx_A (n - 1) (fun i => kd_b rx w c i1 i) (fun i => kd_a ro w c i1 i) cx' co' A B C D → post (f_reach, f_width, f_capacity, f_slots, f_hand, nI (n - 1), 1, f_bank, f_stateCount, f_spareCount, A, B, C, D, NX, NO, RT, CT, a_partner, a_keys, a_poly, a_plain, a_normal)) : wpX_merge post (f_reach, f_width, f_capacity, f_slots, f_hand, f_n, f_phase, f_bank, f_stateCount, f_spareCount, a_rowX, a_rowO, a_colX, a_colO, a_nextX, a_nextO, a_rowTo, a_colTo, a_partner, a_keys, a_poly, a_plain, a_normal) (nI w) (nI c) 2 := by
  have n7 := K.1.2.1
  have g := K.1.2.2
  have hw := hB.1
  have hc := hB.2.1
  have hi := hB.2.2.1
  have hj := hB.2.2.2.1
  have ha : ∀ r, r < n → ro r < n := fun r hr => (g r hr).2.1
  have hb : ∀ r, r < n → rx r < n := fun r hr => (g r hr).1
  have ia : ∀ x y, x < n → y < n → ro x = ro y → x = y := fun x y hx hy e => by rw [← (g x hx).2.2.2.2.2.2.1, e, (g y hy).2.2.2.2.2.2.1]
  have ib : ∀ x y, x < n → y < n → rx x = rx y → x = y := fun x y hx hy e => by rw [← (g x hx).2.2.2.2.1, e, (g y hy).2.2.2.2.1]
  have m1 : (-1 : Int32) < 0 := by decide
  have fin : ∀ RT0 CT0 : Nat → Int32, (∀ j, j < n → RT0 j = nI (kd_p w j) ∧ CT0 j = nI (kd_p c j)) → wpX_carryAll (fun u => match u with | (f_reach, f_width, f_capacity, f_slots, f_hand, f_n, f_phase, f_bank, f_stateCount, f_spareCount, a_rowX, a_rowO, a_colX, a_colO, a_nextX, a_nextO, a_rowTo, a_colTo, a_partner, a_keys, a_poly, a_plain, a_normal) => wpX_place (fun u => match u with | (f_reach, f_width, f_capacity, f_slots, f_hand, f_n, f_phase, f_bank, f_stateCount, f_spareCount, a_rowX, a_rowO, a_colX, a_colO, a_nextX, a_nextO, a_rowTo, a_colTo, a_partner, a_keys, a_poly, a_plain, a_normal) => wpX_install (fun u => match u with | (f_reach, f_width, f_capacity, f_slots, f_hand, f_n, f_phase, f_bank, f_stateCount, f_spareCount, a_rowX, a_rowO, a_colX, a_colO, a_nextX, a_nextO, a_rowTo, a_colTo, a_partner, a_keys, a_poly, a_plain, a_normal) => post (f_reach, f_width, f_capacity, f_slots, f_hand, f_n, f_phase, f_bank, f_stateCount, f_spareCount, a_rowX, a_rowO, a_colX, a_colO, a_nextX, a_nextO, a_rowTo, a_colTo, a_partner, a_keys, a_poly, a_plain, a_normal)) (f_reach, f_width, f_capacity, f_slots, f_hand, f_n, f_phase, f_bank, f_stateCount, f_spareCount, a_rowX, a_rowO, a_colX, a_colO, a_nextX, a_nextO, a_rowTo, a_colTo, a_partner, a_keys, a_poly, a_plain, a_normal) (f_n - 1)) (f_reach, f_width, f_capacity, f_slots, f_hand, f_n, f_phase, f_bank, f_stateCount, f_spareCount, a_rowX, a_rowO, a_colX, a_colO, a_nextX, a_nextO, a_rowTo, a_colTo, a_partner, a_keys, a_poly, a_plain, a_normal) 2 (nI w) (nI c)) (f_reach, f_width, f_capacity, f_slots, f_hand, f_n, f_phase, f_bank, f_stateCount, f_spareCount, a_rowX, a_rowO, a_colX, a_colO, a_nextX, a_nextO, upd RT0 i0 (-1), upd CT0 j0 (-1), a_partner, a_keys, a_poly, a_plain, a_normal) := by
    intro RT0 CT0 hT
    have KA : ∀ r, r < n → kx_K (upd RT0 i0 (-1)) (upd CT0 j0 (-1)) r (ro r) (fun i => kd_a ro w c i1 i) := by
      intro r hr
      have k1 := kd_p1 w r
      by_cases r0 : r = i0
      · exact Or.inl (by rw [r0, pk_us]; exact m1)
      · by_cases r1 : r = i1
        · refine Or.inr (Or.inl ⟨by rw [pk_un r0, (hT r hr).1]; exact nI_pos (by omega), ?_⟩)
          rw [r1, hB.2.2.2.2.2.2.1, pk_us]; exact m1
        · have o := kd_off hB ia hr r0 r1
          have l := ha r hr
          have k2 := kd_p1 c (ro r)
          exact Or.inr (Or.inr ⟨kd_p w r, by omega, by rw [pk_un r0]; exact (hT r hr).1, kd_p c (ro r), by omega, by rw [pk_un (by omega)]; exact (hT _ l).2, kd_na hB r0 r1⟩)
    have KB : ∀ r, r < n → kx_K (upd RT0 i0 (-1)) (upd CT0 j0 (-1)) r (rx r) (fun i => kd_b rx w c i1 i) := by
      intro r hr
      have k1 := kd_p1 w r
      by_cases r0 : r = i0
      · exact Or.inl (by rw [r0, pk_us]; exact m1)
      · have l := hb r hr
        have k2 := kd_p1 c (rx r)
        exact Or.inr (Or.inr ⟨kd_p w r, by omega, by rw [pk_un r0]; exact (hT r hr).1, kd_p c (rx r), by omega, by rw [pk_un (kd_offb hB ib hr r0)]; exact (hT _ l).2, kd_nb hB r0⟩)
    refine xw_carryAll (rx := rx) (ro := ro) (nx := (fun i => kd_b rx w c i1 i)) (no := (fun i => kd_a ro w c i1 i)) hn n7 (fun r hr => ⟨(kx_at K hr).2.1, (kx_at K hr).2.2.1, (kx_at K hr).2.2.2.2.2.1, (kx_at K hr).2.2.2.2.2.2.1⟩) KB KA (fun NX NO hX hO => ?_)
    have en : f_n - 1 = nI (n - 1) := by rw [hn, show (1 : Int32) = nI 1 from rfl, pk_sub (by omega)]
    refine xw_place (by omega) (fun e => absurd e (by decide)) (fun _ => ?_)
    have ins : wpX_install post (f_reach, f_width, f_capacity, f_slots, f_hand, f_n, f_phase, f_bank, f_stateCount, f_spareCount, a_rowX, a_rowO, a_colX, a_colO, NX, upd NO w (nI c), upd RT0 i0 (-1), upd CT0 j0 (-1), a_partner, a_keys, a_poly, a_plain, a_normal) (nI (n - 1)) := by
      refine xw_install G (fun i hi' => ?_) (fun A B C D K' => h _ _ _ _ A B C D K')
      have r := kd_row hB hi'
      have AA : upd NO w (nI c) i = nI (kd_a ro w c i1 i) := by
        by_cases e : i = w
        · rw [e, pk_us]; unfold kd_a; rw [if_pos rfl]
        · rw [pk_un e]
          have o := kd_off hB ia r.1 r.2.1 (r.2.2.2 e)
          have l := ha _ r.1
          have k2 := kd_p1 c (ro (kd_q w i1 i))
          exact hO (kd_q w i1 i) i r.1 (by omega) (by rw [pk_un r.2.1, (hT _ r.1).1, r.2.2.1]) (by rw [pk_un (by omega), (hT _ l).2]; exact nI_pos (by omega))
      have BB : NX i = nI (kd_b rx w c i1 i) := by
        have l := hb _ r.1
        have k2 := kd_p1 c (rx (kd_q w i1 i))
        exact hX (kd_q w i1 i) i r.1 (by omega) (by rw [pk_un r.2.1, (hT _ r.1).1, r.2.2.1]) (by rw [pk_un (kd_offb hB ib r.1 r.2.1), (hT _ l).2]; exact nI_pos (by omega))
      exact ⟨BB, AA⟩
    rw [← en] at ins
    exact ins
  have four : ∀ RT0 CT0 : Nat → Int32, (∀ j, j < n → RT0 j = nI (kd_p w j) ∧ CT0 j = nI (kd_p c j)) → ∀ d q (RT CT : Nat → Int32), q + d = 4 → ((q ≤ 2 * (i0 - w) + (j0 - c) ∧ RT = RT0 ∧ CT = CT0) ∨ (2 * (i0 - w) + (j0 - c) < q ∧ RT = upd RT0 i0 (-1) ∧ CT = upd CT0 j0 (-1))) →
      wX_merge_70 post (nI w) (nI c) 2 1 f_reach f_width f_capacity f_slots f_hand f_n f_phase f_bank f_stateCount f_spareCount (d + 1) (nI q) a_rowX a_rowO a_colX a_colO a_nextX a_nextO RT CT a_partner a_keys a_poly a_plain a_normal := by
    intro RT0 CT0 hT d
    induction d with
    | zero =>
      intro q RT CT hq hs
      refine pk_le 4 q (fun _ => ?_) (fun z => by omega)
      rcases hs with z | z
      · omega
      · rw [z.2.1, z.2.2]; exact fin RT0 CT0 hT
    | succ d ih =>
      intro q RT CT hq hs
      refine pk_le 4 q (fun z => by omega) (fun _ => ?_)
      rw [(kz_2 q (by omega)).1, (kz_2 q (by omega)).2, nI_add, nI_add]
      refine nm_e (nm_e (xw_mark hn K (by omega) (by omega) ?_))
      have mm := (xw_mk1 K (r := w + q / 2) (j := c + q % 2) (by omega)).1
      have at0 : rx (w + q / 2) = c + q % 2 ↔ q = 2 * (i0 - w) + (j0 - c) := by
        constructor
        · intro e
          have e0 : w + q / 2 = i0 := by
            refine Classical.byContradiction fun ne => ?_
            have e1 : w + q / 2 = i1 := by omega
            rw [e1] at e
            have := hB.2.2.2.2.2.2.2
            omega
          rw [e0, hB.2.2.2.2.1] at e
          omega
        · intro e
          have e0 : w + q / 2 = i0 := by omega
          rw [e0, hB.2.2.2.2.1]
          omega
      refine br_c (fun z => ⟨pk_in (w + q / 2) 7 (by omega), nm_e ⟨pk_in (c + q % 2) 7 (by omega), nm_e (nm_r (nI_1 q) ?_)⟩⟩) (fun z => nm_r (nI_1 q) (ih (q + 1) RT CT (by omega) ?_))
      · have e := at0.mp (mm.mp z)
        rcases hs with y | y
        · rw [pk_cl (w + q / 2), pk_cl (c + q % 2), y.2.1, y.2.2]
          refine ih (q + 1) _ _ (by omega) (Or.inr ⟨by omega, ?_, ?_⟩)
          · rw [show w + q / 2 = i0 from by omega]
          · rw [show c + q % 2 = j0 from by omega]
        · omega
      · have ne : q ≠ 2 * (i0 - w) + (j0 - c) := fun e => z (mm.mpr (at0.mpr e))
        rcases hs with y | y
        · exact Or.inl ⟨by omega, y.2⟩
        · exact Or.inr ⟨by omega, y.2⟩
  have loop : ∀ d i (RT CT : Nat → Int32), i + d = n → (∀ j, j < i → RT j = nI (kd_p w j) ∧ CT j = nI (kd_p c j)) → wX_merge_8 post (nI w) (nI c) 2 1 f_reach f_width f_capacity f_slots f_hand f_n f_phase f_bank f_stateCount f_spareCount (d + 1) (nI i) a_rowX a_rowO a_colX a_colO a_nextX a_nextO RT CT a_partner a_keys a_poly a_plain a_normal := by
    intro d
    induction d with
    | zero =>
      intro i RT CT hi' hz
      exact pk_le n i (fun _ => ⟨5, four RT CT (fun j hj => hz j (by omega)) 4 0 RT CT (by omega) (Or.inl ⟨by omega, rfl, rfl⟩)⟩) (fun q => by omega) hn
    | succ d ih =>
      intro i RT CT hi' hz
      have st : ∀ x y : Int32, x = nI (kd_p w i) → y = nI (kd_p c i) → ∀ j, j < i + 1 → upd RT i x j = nI (kd_p w j) ∧ upd CT i y j = nI (kd_p c j) := by
        intro x y hx hy j hj
        by_cases e : j = i
        · rw [e, pk_us, pk_us]; exact ⟨hx, hy⟩
        · rw [pk_un e, pk_un e]; exact hz j (by omega)
      have k1 := kd_p1 w i
      have k2 := kd_p1 c i
      have m38 : ∀ z0 : Int32, z0 = nI (kd_p w i) → wX_merge_38 post (wX_merge_8 post (nI w) (nI c) 2 1 f_reach f_width f_capacity f_slots f_hand f_n f_phase f_bank f_stateCount f_spareCount (d + 1)) (nI w) (nI c) 2 1 (nI i) z0 (nI i) f_reach f_width f_capacity f_slots f_hand f_n f_phase f_bank f_stateCount f_spareCount a_rowX a_rowO a_colX a_colO a_nextX a_nextO RT CT a_partner a_keys a_poly a_plain a_normal := by
        intro z0 hz0
        refine ⟨pk_in i 7 (by omega), nm_e (pk_lt c i (fun q => ⟨pk_in i 7 (by omega), nm_e (nm_r (nI_1 i) ?_)⟩) (fun q => ⟨pk_in i 7 (by omega), nm_e (nm_r (nI_1 i) ?_)⟩))⟩
        · rw [pk_cl i]
          exact ih (i + 1) _ _ (by omega) (st _ _ hz0 (by rw [show (nI i - 1 : Int32) = nI (i - 1) from pk_sub (b := 1) (by omega), show kd_p c i = i - 1 from by omega]))
        · rw [pk_cl i]
          exact ih (i + 1) _ _ (by omega) (st _ _ hz0 (by rw [show kd_p c i = i from by omega]))
      refine pk_le n i (fun q => by omega) (fun q => pk_lt w i (fun q2 => m38 _ ?_) (fun q2 => m38 _ ?_)) hn
      · rw [show (nI i - 1 : Int32) = nI (i - 1) from pk_sub (b := 1) (by omega), show kd_p w i = i - 1 from by omega]
      · rw [show kd_p w i = i from by omega]
  exact nm_r (e' := 1) (by decide) ⟨n + 1, loop n 0 a_rowTo a_colTo (by omega) (fun j hj => by omega)⟩
end
end
section
/-! the reference's destabilise -/
def kd_k (w c r s : Nat) : Prop := (r = w ∨ r = w + 1) ∧ (s = c ∨ s = c + 1)
section
variable {h_n h_phase : Int32} {b_cell b_old b_plain b_term b_next b_spot b_choice b_ends b_seen : Nat → Int32} {n : Nat} {rx ro cx co : Nat → Nat}
theorem yw_c59 {post : Int32 → SY → Prop} {w c i xs os : Nat} {J : Int32 → Int32 → Int32 → Prop} (G : kx_ok n rx ro cx co) (C : ky_C n rx ro b_cell) (hi : i < n) (hc : c + 1 < n) (hx : xs < 8) (ho : os < 8)
    (hJ : J (nI (xs + (if rx i = c then 1 else 0) + (if rx i = c + 1 then 1 else 0))) (nI (os + (if ro i = c then 1 else 0) + (if ro i = c + 1 then 1 else 0))) (nI (i + 1))) : ∃ q, wY_destabilise_59 post J (nI w) (nI c) (nI i) h_n h_phase b_cell b_old b_plain b_term b_next b_spot b_choice b_ends b_seen q (nI xs) (nI os) (nI c) := by
  have n7 := G.2.1
  have ec : (nI c + 1 : Int32) = nI (c + 1) := nI_1 c
  have st : ∀ m j x o, c ≤ j → j ≤ c + 1 → x < 16 → o < 16 → wY_destabilise_59 post J (nI w) (nI c) (nI i) h_n h_phase b_cell b_old b_plain b_term b_next b_spot b_choice b_ends b_seen m (nI (x + (if rx i = j then 1 else 0))) (nI (o + (if ro i = j then 1 else 0))) (nI (j + 1)) → wY_destabilise_59 post J (nI w) (nI c) (nI i) h_n h_phase b_cell b_old b_plain b_term b_next b_spot b_choice b_ends b_seen (m + 1) (nI x) (nI o) (nI j) := by
    intro m j x o h1 h2 hx' ho' H
    have k := ky_1 G C hi (by omega : j < n)
    have k1 : b_cell (i * 7 + j) = 1 ↔ rx i = j := k.1.trans ⟨Eq.symm, Eq.symm⟩
    have k2 : b_cell (i * 7 + j) = 2 ↔ ro i = j := k.2.trans ⟨Eq.symm, Eq.symm⟩
    have s87 : ∀ x3 : Int32, x3 = nI (x + (if rx i = j then 1 else 0)) → wY_destabilise_87 post J (wY_destabilise_59 post J (nI w) (nI c) (nI i) h_n h_phase b_cell b_old b_plain b_term b_next b_spot b_choice b_ends b_seen m) (nI w) (nI c) x3 (nI o) (nI i) (nI j) h_n h_phase b_cell b_old b_plain b_term b_next b_spot b_choice b_ends b_seen := by
      intro x3 e3
      rw [e3]
      unfold wY_destabilise_87
      rw [ky_ix]
      refine ⟨pk_in (i * 7 + j) 49 (by omega), ?_⟩
      rw [pk_cl (i * 7 + j)]
      refine br_c (fun z => nm_r (nI_1 o) (nm_r (nI_1 j) ?_)) (fun z => nm_r (nI_1 j) ?_)
      · rw [if_pos (k2.mp z)] at H; exact H
      · rw [if_neg (fun q => z (k2.mpr q)), Nat.add_zero] at H; exact H
    refine pk_lt (c + 1) j (fun q => by omega) (fun q => ?_) ec
    rw [ky_ix]
    refine ⟨pk_in (i * 7 + j) 49 (by omega), ?_⟩
    rw [pk_cl (i * 7 + j)]
    refine br_c (fun z => nm_r (nI_1 x) (s87 _ ?_)) (fun z => s87 _ ?_)
    · rw [if_pos (k1.mp z)]
    · rw [if_neg (fun q => z (k1.mpr q)), Nat.add_zero]
  refine ⟨3, st 2 c xs os (by omega) (by omega) (by omega) (by omega) (st 1 (c + 1) _ _ (by omega) (by omega) ?_ ?_ ?_)⟩
  · split <;> omega
  · split <;> omega
  · exact pk_lt (c + 1) (c + 1 + 1) (fun _ => nm_r (nI_1 i) hJ) (fun q => by omega) ec
theorem yw_c48 {post : Int32 → SY → Prop} {w c : Nat} (G : kx_ok n rx ro cx co) (C : ky_C n rx ro b_cell) (hw : w + 1 < n) (hc : c + 1 < n)
    (h1 : kd_c rx w c + kd_c ro w c = 3 → wpY_saveAndClear (fun u => match u with | (h_n, h_phase, b_cell, b_old, b_plain, b_term, b_next, b_spot, b_choice, b_ends, b_seen) => ∃ n137, wY_destabilise_137 post (nI w) (nI c) (nI (kd_c rx w c)) n137 0 h_n h_phase b_cell b_old b_plain b_term b_next b_spot b_choice b_ends b_seen) (h_n, h_phase, b_cell, b_old, b_plain, b_term, b_next, b_spot, b_choice, b_ends, b_seen)) (h2 : kd_c rx w c + kd_c ro w c ≠ 3 → post (-5) (h_n, h_phase, b_cell, b_old, b_plain, b_term, b_next, b_spot, b_choice, b_ends, b_seen)) : ∃ q, wY_destabilise_48 post (nI w) (nI c) h_n h_phase b_cell b_old b_plain b_term b_next b_spot b_choice b_ends b_seen q 0 0 (nI w) := by
  have n7 := G.2.1
  have ew : (nI w + 1 : Int32) = nI (w + 1) := nI_1 w
  have l1 := kd_c_le rx w c
  have l2 := kd_c_le ro w c
  refine ⟨3, pk_lt (w + 1) w (fun q => by omega) (fun _ => yw_c59 (xs := 0) (os := 0) G C (by omega) hc (by omega) (by omega) ?_) ew⟩
  refine pk_lt (w + 1) (w + 1) (fun q => by omega) (fun _ => yw_c59 G C hw hc ?_ ?_ ?_) ew
  · split <;> split <;> omega
  · split <;> split <;> omega
  · refine pk_lt (w + 1) (w + 1 + 1) (fun _ => ?_) (fun q => by omega) ew
    have e1 : 0 + (if rx w = c then 1 else 0) + (if rx w = c + 1 then 1 else 0) + (if rx (w + 1) = c then 1 else 0) + (if rx (w + 1) = c + 1 then 1 else 0) = kd_c rx w c := by unfold kd_c; rw [Nat.zero_add]
    have e2 : 0 + (if ro w = c then 1 else 0) + (if ro w = c + 1 then 1 else 0) + (if ro (w + 1) = c then 1 else 0) + (if ro (w + 1) = c + 1 then 1 else 0) = kd_c ro w c := by unfold kd_c; rw [Nat.zero_add]
    rw [e1, e2, nI_add]
    exact pk_eq (kd_c rx w c + kd_c ro w c) 3 h1 h2
end
section
variable {h_n h_phase : Int32} {b_cell b_old b_plain b_term b_next b_spot b_choice b_ends b_seen : Nat → Int32}
theorem yw_dest {post : Int32 → SY → Prop} {n w c xs : Nat} {kd : Int32} {tgt : Nat → Nat → Int32} (hn : h_n = nI n) (n7 : n ≤ 7) (hw : w + 1 < n) (hc : c + 1 < n) (hx : xs < 8) (hkd : kd = if xs = 2 then 1 else 2) (h0 : ∀ k, k < 49 → b_cell k = 0)
    (ho : ∀ i j, i < n → j < n → ¬ kd_k w c i j → b_old (i * 7 + j) ≠ 0 → b_old (i * 7 + j) = tgt (kd_p w i) (kd_p c j)) (wk : tgt w c = kd)
    (h : ∀ cl : Nat → Int32, (∀ i j, i < 7 → j < 7 → cl (i * 7 + j) = tgt i j ∨ (cl (i * 7 + j) = 0 ∧ (∀ r s, r < n → s < n → ¬ kd_k w c r s → b_old (r * 7 + s) ≠ 0 → ¬ (i = kd_p w r ∧ j = kd_p c s)) ∧ ¬ (i = w ∧ j = c))) → post 1 (nI (n - 1), 1, cl, b_old, b_plain, b_term, b_next, b_spot, b_choice, b_ends, b_seen)) :
    ∃ q, wY_destabilise_137 post (nI w) (nI c) (nI xs) q 0 h_n h_phase b_cell b_old b_plain b_term b_next b_spot b_choice b_ends b_seen := by
  have ew : (nI w + 1 : Int32) = nI (w + 1) := nI_1 w
  have ec : (nI c + 1 : Int32) = nI (c + 1) := nI_1 c
  have inner : ∀ (J : Int32 → Int32 → Int32 → (Nat → Int32) → (Nat → Int32) → (Nat → Int32) → (Nat → Int32) → (Nat → Int32) → (Nat → Int32) → (Nat → Int32) → (Nat → Int32) → (Nat → Int32) → Prop) a, a < n →
      (∀ cl : Nat → Int32, (∀ i j, i < 7 → j < 7 → cl (i * 7 + j) = tgt i j ∨ (cl (i * 7 + j) = 0 ∧ ∀ r s, r < a + 1 → s < n → ¬ kd_k w c r s → b_old (r * 7 + s) ≠ 0 → ¬ (i = kd_p w r ∧ j = kd_p c s))) → J (nI (a + 1)) h_n h_phase cl b_old b_plain b_term b_next b_spot b_choice b_ends b_seen) →
      ∀ d b (cl : Nat → Int32), b + d = n → (∀ i j, i < 7 → j < 7 → cl (i * 7 + j) = tgt i j ∨ (cl (i * 7 + j) = 0 ∧ ∀ r s, (r < a ∧ s < n) ∨ (r = a ∧ s < b) → ¬ kd_k w c r s → b_old (r * 7 + s) ≠ 0 → ¬ (i = kd_p w r ∧ j = kd_p c s))) →
        wY_destabilise_149 post J (nI w) (nI c) (nI xs) (nI a) (d + 1) (nI b) h_n h_phase cl b_old b_plain b_term b_next b_spot b_choice b_ends b_seen := by
    intro J a ha hJ d
    induction d with
    | zero =>
      intro b cl hb hcl
      refine pk_le n b (fun _ => nm_r (nI_1 a) (hJ cl (fun i j hi hj => ?_))) (fun q => by omega) hn
      rcases hcl i j hi hj with z | z
      · exact Or.inl z
      · exact Or.inr ⟨z.1, fun r s hr hs => z.2 r s (by omega)⟩
    | succ d ih =>
      intro b cl hb hcl
      have skip : (kd_k w c a b ∨ b_old (a * 7 + b) = 0) → wY_destabilise_149 post J (nI w) (nI c) (nI xs) (nI a) (d + 1) (nI (b + 1)) h_n h_phase cl b_old b_plain b_term b_next b_spot b_choice b_ends b_seen := by
        intro hs
        refine ih (b + 1) cl (by omega) (fun i j hi hj => ?_)
        rcases hcl i j hi hj with z | z
        · exact Or.inl z
        · refine Or.inr ⟨z.1, fun r s hrs hr hs' => ?_⟩
          by_cases q : r = a ∧ s = b
          · exfalso
            rw [q.1, q.2] at hr hs'
            rcases hs with hs | hs
            · exact hr hs
            · exact hs' hs
          · exact z.2 r s (by omega) hr hs'
      have ka := kd_p1 w a
      have kb := kd_p1 c b
      have put : ¬ kd_k w c a b → b_old (a * 7 + b) ≠ 0 → ∀ z0 z1 x8 : Int32, z1 = nI (kd_p w a) → z0 = nI (kd_p c b) → x8 = b_old (a * 7 + b) → wY_destabilise_249 post J (wY_destabilise_149 post J (nI w) (nI c) (nI xs) (nI a) (d + 1)) (nI w) (nI c) (nI xs) (nI a) (nI b) x8 z0 z1 h_n h_phase cl b_old b_plain b_term b_next b_spot b_choice b_ends b_seen := by
        intro q1 q2 z0 z1 x8 e1 e0 e8
        rw [e1, e0, e8, ho a b ha (by omega) q1 q2]
        refine yw_put (by omega) (by omega) (nm_r (nI_1 b) (ih (b + 1) _ (by omega) (fun i j hi hj => ?_)))
        by_cases q' : i = kd_p w a ∧ j = kd_p c b
        · rw [q'.1, q'.2, pk_us]; exact Or.inl rfl
        · rw [pk_un (by omega)]
          rcases hcl i j hi hj with z | z
          · exact Or.inl z
          · refine Or.inr ⟨z.1, fun r s hrs hr hs' => ?_⟩
            by_cases y : r = a ∧ s = b
            · rw [y.1, y.2]; exact q'
            · exact z.2 r s (by omega) hr hs'
      have blk : kd_k w c a b → wY_destabilise_186 post J (wY_destabilise_149 post J (nI w) (nI c) (nI xs) (nI a) (d + 1)) (nI w) (nI c) (nI xs) (nI a) (nI b) h_n h_phase cl b_old b_plain b_term b_next b_spot b_choice b_ends b_seen := by
        intro q
        unfold wY_destabilise_186 wY_destabilise_191
        rw [ky_ix]
        exact ⟨pk_in (a * 7 + b) 49 (by omega), nm_e (br_f (by decide) (nm_r (nI_1 b) (skip (Or.inl q))))⟩
      have nblk : ¬ kd_k w c a b → wY_destabilise_190 post J (wY_destabilise_149 post J (nI w) (nI c) (nI xs) (nI a) (d + 1)) (nI w) (nI c) (nI xs) (nI a) (nI b) h_n h_phase cl b_old b_plain b_term b_next b_spot b_choice b_ends b_seen := by
        intro q
        unfold wY_destabilise_190 wY_destabilise_191
        rw [ky_ix]
        refine ⟨pk_in (a * 7 + b) 49 (by omega), nm_e (br_t rfl ?_)⟩
        rw [pk_cl (a * 7 + b)]
        refine br_c (fun z => nm_r (nI_1 b) (skip (Or.inr z))) (fun z => ?_)
        have col : ∀ z1 : Int32, z1 = nI (kd_p w a) → wY_destabilise_234 post J (wY_destabilise_149 post J (nI w) (nI c) (nI xs) (nI a) (d + 1)) (nI w) (nI c) (nI xs) (nI a) (nI b) (b_old (a * 7 + b)) z1 h_n h_phase cl b_old b_plain b_term b_next b_spot b_choice b_ends b_seen := by
          intro z1 e1
          exact pk_lt c b (fun y => put q z _ _ _ e1 (by rw [show (nI b - 1 : Int32) = nI (b - 1) from pk_sub (b := 1) (by omega), show kd_p c b = b - 1 from by omega]) rfl) (fun y => put q z _ _ _ e1 (by rw [show kd_p c b = b from by omega]) rfl)
        exact pk_lt w a (fun y => col _ (by rw [show (nI a - 1 : Int32) = nI (a - 1) from pk_sub (b := 1) (by omega), show kd_p w a = a - 1 from by omega])) (fun y => col _ (by rw [show kd_p w a = a from by omega]))
      have s172 : (a = w ∨ a = w + 1) → wY_destabilise_172 post J (wY_destabilise_149 post J (nI w) (nI c) (nI xs) (nI a) (d + 1)) (nI w) (nI c) (nI xs) (nI a) (nI b) h_n h_phase cl b_old b_plain b_term b_next b_spot b_choice b_ends b_seen := by
        intro q
        exact pk_eq b c (fun q1 => blk ⟨q, Or.inl q1⟩) (fun q1 => pk_eq b (c + 1) (fun q2 => blk ⟨q, Or.inr q2⟩) (fun q2 => nblk (fun z => z.2.elim q1 q2)) rfl ec)
      exact pk_le n b (fun q => by omega) (fun _ => pk_eq a w (fun q1 => s172 (Or.inl q1)) (fun q1 => pk_eq a (w + 1) (fun q2 => s172 (Or.inr q2)) (fun q2 => nblk (fun z => z.1.elim q1 q2)) rfl ew)) hn
  have outer : ∀ d a (cl : Nat → Int32), a + d = n → (∀ i j, i < 7 → j < 7 → cl (i * 7 + j) = tgt i j ∨ (cl (i * 7 + j) = 0 ∧ ∀ r s, r < a → s < n → ¬ kd_k w c r s → b_old (r * 7 + s) ≠ 0 → ¬ (i = kd_p w r ∧ j = kd_p c s))) →
      wY_destabilise_137 post (nI w) (nI c) (nI xs) (d + 1) (nI a) h_n h_phase cl b_old b_plain b_term b_next b_spot b_choice b_ends b_seen := by
    intro d
    induction d with
    | zero =>
      intro a cl ha hcl
      have en : h_n - 1 = nI (n - 1) := by rw [hn, show (1 : Int32) = nI 1 from rfl, pk_sub (by omega)]
      have fin : ∀ z : Int32, z = kd → wY_destabilise_279 post z (nI c) (nI w) h_n h_phase cl b_old b_plain b_term b_next b_spot b_choice b_ends b_seen := by
        intro z hz
        rw [hz]
        refine yw_put (by omega) (by omega) (nm_r en (h _ (fun i j hi hj => ?_)))
        by_cases q : i = w ∧ j = c
        · rw [q.1, q.2, pk_us]; exact Or.inl wk.symm
        · rw [pk_un (by omega)]
          rcases hcl i j hi hj with z | z
          · exact Or.inl z
          · exact Or.inr ⟨z.1, fun r s hr => z.2 r s (by omega), q⟩
      exact pk_le n a (fun _ => pk_eq xs 2 (fun q => fin 1 (by rw [hkd, if_pos q])) (fun q => fin 2 (by rw [hkd, if_neg q]))) (fun q => by omega) hn
    | succ d ih =>
      intro a cl ha hcl
      refine pk_le n a (fun q => by omega) (fun q => ⟨n + 1, inner _ a (by omega) (fun cl' h' => ih (a + 1) cl' (by omega) h') n 0 cl (by omega) (fun i j hi hj => ?_)⟩) hn
      rcases hcl i j hi hj with z | z
      · exact Or.inl z
      · exact Or.inr ⟨z.1, fun r s hrs => z.2 r s (by omega) (by omega)⟩
  exact ⟨n + 1, outer n 0 b_cell (by omega) (fun i j hi hj => Or.inr ⟨h0 _ (by omega), fun r s hr => by omega⟩)⟩
end
end
section
/-! destabilise: the two sides meet -/
section
variable {f_reach f_width f_capacity f_slots f_hand f_n f_phase f_bank f_stateCount f_spareCount : Int32} {a_rowX a_rowO a_colX a_colO a_nextX a_nextO a_rowTo a_colTo a_partner a_keys a_poly a_plain a_normal : Nat → Int32} {h_n h_phase : Int32} {b_cell b_old b_plain b_term b_next b_spot b_choice b_ends b_seen : Nat → Int32}
theorem kz_dest1 {k n w c : Nat} {rx ro cx co : Nat → Nat} (e1 : f_n = nI n) (e2 : h_n = nI n) (K : kx_A n rx ro cx co a_rowX a_rowO a_colX a_colO) (C : ky_C n rx ro b_cell) (hw : w + 1 < n) (hc : c + 1 < n) (A : kd_c rx w c = 2) (B : kd_c ro w c = 1)
    (W : ∀ post : Int32 → SY → Prop, (∃ q, wY_destabilise_48 post (nI w) (nI c) h_n h_phase b_cell b_old b_plain b_term b_next b_spot b_choice b_ends b_seen q 0 0 (nI w)) → wpY_destabilise post (h_n, h_phase, b_cell, b_old, b_plain, b_term, b_next, b_spot, b_choice, b_ends, b_seen) (nI w) (nI c)) :
    wX_destabilise_81 (fun r u' => wpY_destabilise (fun r' v' => r' = r ∧ i_Rel (k + 4) u' v') (h_n, h_phase, b_cell, b_old, b_plain, b_term, b_next, b_spot, b_choice, b_ends, b_seen) (nI w) (nI c)) 1 (nI c) (nI w) f_reach f_width f_capacity f_slots f_hand f_n f_phase f_bank f_stateCount f_spareCount a_rowX a_rowO a_colX a_colO a_nextX a_nextO a_rowTo a_colTo a_partner a_keys a_poly a_plain a_normal := by
  have n7 := K.1.2.1
  have g := K.1.2.2
  have ha : ∀ r, r < n → rx r < n := fun r hr => (g r hr).1
  have hb : ∀ r, r < n → ro r < n := fun r hr => (g r hr).2.1
  have hab : ∀ r, r < n → rx r ≠ ro r := fun r hr => (g r hr).2.2.2.2.2.2.2.2
  have ia : ∀ x y, x < n → y < n → rx x = rx y → x = y := fun x y hx hy e => by rw [← (g x hx).2.2.2.2.1, e, (g y hy).2.2.2.2.1]
  have ib : ∀ x y, x < n → y < n → ro x = ro y → x = y := fun x y hx hy e => by rw [← (g x hx).2.2.2.2.2.2.1, e, (g y hy).2.2.2.2.2.2.1]
  obtain ⟨i0, i1, j0, j1, hB⟩ := kd_mk hw hc hab ia A B
  have hi := hB.2.2.1
  have hj := hB.2.2.2.1
  have bi := hB.2.2.2.2.2.2.2
  have n3 : 3 ≤ n := by
    have := hb i1 (by omega)
    omega
  obtain ⟨o1, o2, o3⟩ := kd_ok hB ha hb hab ia ib
  obtain ⟨cx', co', G⟩ := kx_mk (n := n - 1) (rx := (fun i => kd_a rx w c i1 i)) (ro := (fun i => kd_b ro w c i1 i)) (by omega) (by omega) (fun r hr => o1 r hr) o2 o3
  have naw : kd_a rx w c i1 w = c := if_pos rfl
  refine xw_merge1 e1 K hB G (fun RT CT NX NO A' B' C' D K' => W _ (yw_c48 K.1 C hw hc (fun _ => yw_save (fun cl ol hcl => ?_)) (fun q => absurd (by rw [A, B]) q)))
  have old : ∀ i j, i < n → j < n → ol (i * 7 + j) = ky_t n rx ro i j := fun i j hi' hj' => by rw [(hcl (i * 7 + j) (by omega)).1]; exact C i j (by omega) (by omega)
  have fin : ∃ q, wY_destabilise_137 (fun r' v' => r' = 1 ∧ i_Rel (k + 4) (f_reach, f_width, f_capacity, f_slots, f_hand, nI (n - 1), 1, f_bank, f_stateCount, f_spareCount, A', B', C', D, NX, NO, RT, CT, a_partner, a_keys, a_poly, a_plain, a_normal) v') (nI w) (nI c) (nI (kd_c rx w c)) q 0 h_n h_phase cl ol b_plain b_term b_next b_spot b_choice b_ends b_seen := by
    refine yw_dest (kd := 1) (tgt := ky_t (n - 1) (fun i => kd_a rx w c i1 i) (fun i => kd_b ro w c i1 i)) e2 n7 hw hc (by have := kd_c_le rx w c; omega) (by rw [if_pos A]) (fun k hk => (hcl k hk).2) (fun i j hi' hj' nk nz => ?_) ?_ (fun cl' hc' => ⟨rfl, kz_new K' (fun i j hi' hj' => ?_), rfl⟩)
    · rw [old i j hi' hj'] at nz ⊢
      have k1 := kd_p1 w i
      have k2 := kd_p1 c j
      by_cases ja : j = rx i
      · have ne0 : i ≠ i0 := fun e => nk ⟨by omega, by rw [ja, e, hB.2.2.2.2.2.1]; omega⟩
        have ne1 : i ≠ i1 := fun e => nk ⟨by omega, by rw [ja, e, hB.2.2.2.2.2.2.1]; omega⟩
        have na := kd_na hB ne0 ne1
        have q := o1 (kd_p w i) (by omega)
        rw [na, ← ja] at q
        rw [ky_tX (n := n) (rx := rx) (ro := ro) ⟨hi', hj'⟩  ja]
        exact (ky_tX (rx := (fun i => kd_a rx w c i1 i)) (ro := (fun i => kd_b ro w c i1 i)) (i := kd_p w i) (j := kd_p c j) ⟨by omega, q.1⟩  (by show kd_p c j = kd_a rx w c i1 (kd_p w i); rw [na, ja])).symm
      · by_cases jb : j = ro i
        · have ne0 : i ≠ i0 := fun e => nk ⟨by omega, by rw [jb, e, hB.2.2.2.2.1]; omega⟩
          have nb := kd_nb (a := rx) hB ne0
          have q := o1 (kd_p w i) (by omega)
          rw [nb, ← jb] at q
          rw [ky_tO (n := n) (rx := rx) (ro := ro) ⟨hi', hj'⟩ (fun e => ja e) jb]
          exact (ky_tO (rx := (fun i => kd_a rx w c i1 i)) (ro := (fun i => kd_b ro w c i1 i)) (i := kd_p w i) (j := kd_p c j) ⟨by omega, q.2.1⟩ (Ne.symm q.2.2) (by show kd_p c j = kd_b ro w c i1 (kd_p w i); rw [nb, jb])).symm
        · exact absurd (ky_tN ja jb) nz
    · have q := o1 w (by omega)
      rw [naw] at q
      exact ky_tX (rx := (fun i => kd_a rx w c i1 i)) (ro := (fun i => kd_b ro w c i1 i)) (i := w) (j := c) ⟨by omega, q.1⟩  naw.symm
    · show cl' (i * 7 + j) = ky_t (n - 1) (fun i => kd_a rx w c i1 i) (fun i => kd_b ro w c i1 i) i j
      rcases hc' i j hi' hj' with z | z
      · exact z
      · rw [z.1]
        by_cases q : i < n - 1 ∧ j < n - 1
        · have r := kd_row hB q.1
          have lr := ha _ r.1
          have lb := hb _ r.1
          have y1 : j ≠ kd_a rx w c i1 i := by
            intro e
            by_cases iw : i = w
            · rw [iw, naw] at e; exact z.2.2 ⟨iw, e⟩
            · have e' : j = kd_p c (rx (kd_q w i1 i)) := by rw [e]; exact if_neg iw
              have r1 := r.2.2.2 iw
              refine z.2.1 (kd_q w i1 i) (rx (kd_q w i1 i)) r.1 lr (fun kk => by have := kk.1; have := r.2.1; omega) ?_ ⟨r.2.2.1.symm, e'⟩
              rw [old _ _ r.1 lr, ky_tX (n := n) (rx := rx) (ro := ro) ⟨r.1, lr⟩  rfl]; decide
          have y2 : j ≠ kd_b ro w c i1 i := by
            intro e
            refine z.2.1 (kd_q w i1 i) (ro (kd_q w i1 i)) r.1 lb (fun kk => ?_) ?_ ⟨r.2.2.1.symm, e⟩
            · have e1' : kd_q w i1 i = i1 := by have := kk.1; have := r.2.1; omega
              rw [e1'] at kk
              have := kk.2
              omega
            · rw [old _ _ r.1 lb, ky_tO (n := n) (rx := rx) (ro := ro) ⟨r.1, lb⟩ (fun e => hab _ r.1 e.symm) rfl]; decide
          exact (ky_tN (rx := (fun i => kd_a rx w c i1 i)) (ro := (fun i => kd_b ro w c i1 i)) y1 y2).symm
        · exact (ky_t0 q).symm
  exact fin
end
section
variable {f_reach f_width f_capacity f_slots f_hand f_n f_phase f_bank f_stateCount f_spareCount : Int32} {a_rowX a_rowO a_colX a_colO a_nextX a_nextO a_rowTo a_colTo a_partner a_keys a_poly a_plain a_normal : Nat → Int32} {h_n h_phase : Int32} {b_cell b_old b_plain b_term b_next b_spot b_choice b_ends b_seen : Nat → Int32}
theorem kz_dest2 {k n w c : Nat} {rx ro cx co : Nat → Nat} (e1 : f_n = nI n) (e2 : h_n = nI n) (K : kx_A n rx ro cx co a_rowX a_rowO a_colX a_colO) (C : ky_C n rx ro b_cell) (hw : w + 1 < n) (hc : c + 1 < n) (A : kd_c ro w c = 2) (B : kd_c rx w c = 1)
    (W : ∀ post : Int32 → SY → Prop, (∃ q, wY_destabilise_48 post (nI w) (nI c) h_n h_phase b_cell b_old b_plain b_term b_next b_spot b_choice b_ends b_seen q 0 0 (nI w)) → wpY_destabilise post (h_n, h_phase, b_cell, b_old, b_plain, b_term, b_next, b_spot, b_choice, b_ends, b_seen) (nI w) (nI c)) :
    wX_destabilise_81 (fun r u' => wpY_destabilise (fun r' v' => r' = r ∧ i_Rel (k + 4) u' v') (h_n, h_phase, b_cell, b_old, b_plain, b_term, b_next, b_spot, b_choice, b_ends, b_seen) (nI w) (nI c)) 2 (nI c) (nI w) f_reach f_width f_capacity f_slots f_hand f_n f_phase f_bank f_stateCount f_spareCount a_rowX a_rowO a_colX a_colO a_nextX a_nextO a_rowTo a_colTo a_partner a_keys a_poly a_plain a_normal := by
  have n7 := K.1.2.1
  have g := K.1.2.2
  have ha : ∀ r, r < n → ro r < n := fun r hr => (g r hr).2.1
  have hb : ∀ r, r < n → rx r < n := fun r hr => (g r hr).1
  have hab : ∀ r, r < n → ro r ≠ rx r := fun r hr => (g r hr).2.2.2.2.2.2.2.2.symm
  have ia : ∀ x y, x < n → y < n → ro x = ro y → x = y := fun x y hx hy e => by rw [← (g x hx).2.2.2.2.2.2.1, e, (g y hy).2.2.2.2.2.2.1]
  have ib : ∀ x y, x < n → y < n → rx x = rx y → x = y := fun x y hx hy e => by rw [← (g x hx).2.2.2.2.1, e, (g y hy).2.2.2.2.1]
  obtain ⟨i0, i1, j0, j1, hB⟩ := kd_mk hw hc hab ia A B
  have hi := hB.2.2.1
  have hj := hB.2.2.2.1
  have bi := hB.2.2.2.2.2.2.2
  have n3 : 3 ≤ n := by
    have := hb i1 (by omega)
    omega
  obtain ⟨o1, o2, o3⟩ := kd_ok hB ha hb hab ia ib
  obtain ⟨cx', co', G⟩ := kx_mk (n := n - 1) (rx := (fun i => kd_b rx w c i1 i)) (ro := (fun i => kd_a ro w c i1 i)) (by omega) (by omega) (fun r hr => ⟨(o1 r hr).2.1, (o1 r hr).1, (o1 r hr).2.2.symm⟩) o3 o2
  have naw : kd_a ro w c i1 w = c := if_pos rfl
  refine xw_merge2 e1 K hB G (fun RT CT NX NO A' B' C' D K' => W _ (yw_c48 K.1 C hw hc (fun _ => yw_save (fun cl ol hcl => ?_)) (fun q => absurd (by rw [A, B]) q)))
  have old : ∀ i j, i < n → j < n → ol (i * 7 + j) = ky_t n rx ro i j := fun i j hi' hj' => by rw [(hcl (i * 7 + j) (by omega)).1]; exact C i j (by omega) (by omega)
  have fin : ∃ q, wY_destabilise_137 (fun r' v' => r' = 1 ∧ i_Rel (k + 4) (f_reach, f_width, f_capacity, f_slots, f_hand, nI (n - 1), 1, f_bank, f_stateCount, f_spareCount, A', B', C', D, NX, NO, RT, CT, a_partner, a_keys, a_poly, a_plain, a_normal) v') (nI w) (nI c) (nI (kd_c rx w c)) q 0 h_n h_phase cl ol b_plain b_term b_next b_spot b_choice b_ends b_seen := by
    refine yw_dest (kd := 2) (tgt := ky_t (n - 1) (fun i => kd_b rx w c i1 i) (fun i => kd_a ro w c i1 i)) e2 n7 hw hc (by have := kd_c_le rx w c; omega) (by rw [if_neg (by omega)]) (fun k hk => (hcl k hk).2) (fun i j hi' hj' nk nz => ?_) ?_ (fun cl' hc' => ⟨rfl, kz_new K' (fun i j hi' hj' => ?_), rfl⟩)
    · rw [old i j hi' hj'] at nz ⊢
      have k1 := kd_p1 w i
      have k2 := kd_p1 c j
      by_cases ja : j = ro i
      · have ne0 : i ≠ i0 := fun e => nk ⟨by omega, by rw [ja, e, hB.2.2.2.2.2.1]; omega⟩
        have ne1 : i ≠ i1 := fun e => nk ⟨by omega, by rw [ja, e, hB.2.2.2.2.2.2.1]; omega⟩
        have na := kd_na hB ne0 ne1
        have q := o1 (kd_p w i) (by omega)
        rw [na, ← ja] at q
        rw [ky_tO (n := n) (rx := rx) (ro := ro) ⟨hi', hj'⟩ (fun e => hab i hi' (ja.symm.trans e)) ja]
        exact (ky_tO (rx := (fun i => kd_b rx w c i1 i)) (ro := (fun i => kd_a ro w c i1 i)) (i := kd_p w i) (j := kd_p c j) ⟨by omega, q.1⟩ q.2.2 (by show kd_p c j = kd_a ro w c i1 (kd_p w i); rw [na, ja])).symm
      · by_cases jb : j = rx i
        · have ne0 : i ≠ i0 := fun e => nk ⟨by omega, by rw [jb, e, hB.2.2.2.2.1]; omega⟩
          have nb := kd_nb (a := ro) hB ne0
          have q := o1 (kd_p w i) (by omega)
          rw [nb, ← jb] at q
          rw [ky_tX (n := n) (rx := rx) (ro := ro) ⟨hi', hj'⟩  jb]
          exact (ky_tX (rx := (fun i => kd_b rx w c i1 i)) (ro := (fun i => kd_a ro w c i1 i)) (i := kd_p w i) (j := kd_p c j) ⟨by omega, q.2.1⟩  (by show kd_p c j = kd_b rx w c i1 (kd_p w i); rw [nb, jb])).symm
        · exact absurd (ky_tN jb ja) nz
    · have q := o1 w (by omega)
      rw [naw] at q
      exact ky_tO (rx := (fun i => kd_b rx w c i1 i)) (ro := (fun i => kd_a ro w c i1 i)) (i := w) (j := c) ⟨by omega, q.1⟩ q.2.2 naw.symm
    · show cl' (i * 7 + j) = ky_t (n - 1) (fun i => kd_b rx w c i1 i) (fun i => kd_a ro w c i1 i) i j
      rcases hc' i j hi' hj' with z | z
      · exact z
      · rw [z.1]
        by_cases q : i < n - 1 ∧ j < n - 1
        · have r := kd_row hB q.1
          have lr := ha _ r.1
          have lb := hb _ r.1
          have y1 : j ≠ kd_a ro w c i1 i := by
            intro e
            by_cases iw : i = w
            · rw [iw, naw] at e; exact z.2.2 ⟨iw, e⟩
            · have e' : j = kd_p c (ro (kd_q w i1 i)) := by rw [e]; exact if_neg iw
              have r1 := r.2.2.2 iw
              refine z.2.1 (kd_q w i1 i) (ro (kd_q w i1 i)) r.1 lr (fun kk => by have := kk.1; have := r.2.1; omega) ?_ ⟨r.2.2.1.symm, e'⟩
              rw [old _ _ r.1 lr, ky_tO (n := n) (rx := rx) (ro := ro) ⟨r.1, lr⟩ (fun e => hab _ r.1 e) rfl]; decide
          have y2 : j ≠ kd_b rx w c i1 i := by
            intro e
            refine z.2.1 (kd_q w i1 i) (rx (kd_q w i1 i)) r.1 lb (fun kk => ?_) ?_ ⟨r.2.2.1.symm, e⟩
            · have e1' : kd_q w i1 i = i1 := by have := kk.1; have := r.2.1; omega
              rw [e1'] at kk
              have := kk.2
              omega
            · rw [old _ _ r.1 lb, ky_tX (n := n) (rx := rx) (ro := ro) ⟨r.1, lb⟩  rfl]; decide
          exact (ky_tN (rx := (fun i => kd_b rx w c i1 i)) (ro := (fun i => kd_a ro w c i1 i)) y2 y1).symm
        · exact (ky_t0 q).symm
  exact fin
end
theorem i_vc_destabilise {k : Nat} {u : SX} {v : SY} (I : i_Rel k u v) (hk : k + 4 ≤ 2049) (v1 : Int32) (v2 : Int32) : wpX_destabilise (fun r u' => wpY_destabilise (fun r' v' => r' = r ∧ i_Rel (k + 4) u' v') v v1 v2) u v1 v2 := by
  obtain ⟨f_reach, f_width, f_capacity, f_slots, f_hand, f_n, f_phase, f_bank, f_stateCount, f_spareCount, a_rowX, a_rowO, a_colX, a_colO, a_nextX, a_nextO, a_rowTo, a_colTo, a_partner, a_keys, a_poly, a_plain, a_normal⟩ := u
  obtain ⟨h_n, h_phase, b_cell, b_old, b_plain, b_term, b_next, b_spot, b_choice, b_ends, b_seen⟩ := v
  have I' : ∀ r : Int32, r = r ∧ i_Rel (k + 4) (f_reach, f_width, f_capacity, f_slots, f_hand, f_n, f_phase, f_bank, f_stateCount, f_spareCount, a_rowX, a_rowO, a_colX, a_colO, a_nextX, a_nextO, a_rowTo, a_colTo, a_partner, a_keys, a_poly, a_plain, a_normal) (h_n, h_phase, b_cell, b_old, b_plain, b_term, b_next, b_spot, b_choice, b_ends, b_seen) := fun r => ⟨rfl, I.1, rfl⟩
  by_cases hz : f_phase = 0
  · obtain ⟨⟨n, n2, n7, e1, e2, e3, M, rest⟩, _⟩ := id I
    exact br_t hz (br_t (e3.trans hz) (I' _))
  · obtain ⟨n, rx, ro, cx, co, e1, e2, e3, K, C, P⟩ := kz_grid I.1 hz
    have hz' : ¬ h_phase = 0 := by rw [e3]; exact hz
    have n2 := K.1.1
    have n7 := K.1.2.1
    have E : h_n - 2 = f_n - 2 := by rw [e1, e2]
    have f2 : f_n - 2 = nI (n - 2) := by rw [e1, show (2 : Int32) = nI 2 from rfl, pk_sub (by omega)]
    by_cases a0 : v1 < 0
    · exact br_f hz (br_t a0 (br_f hz' (br_t a0 (I' _))))
    · by_cases a1 : f_n - 2 < v1
      · exact br_f hz (br_f a0 (br_t a1 (br_f hz' (br_f a0 (br_t (by rw [E]; exact a1) (I' _))))))
      · have a1' : ¬ h_n - 2 < v1 := by rw [E]; exact a1
        by_cases b0 : v2 < 0
        · exact br_f hz (br_f a0 (br_f a1 (br_t b0 (br_f hz' (br_f a0 (br_f a1' (br_t b0 (I' _))))))))
        · by_cases b1 : v2 ≤ f_n - 2
          · have b1' : v2 ≤ h_n - 2 := by rw [E]; exact b1
            obtain ⟨w, hw, rfl⟩ := nI_of a0
            obtain ⟨c, hc, rfl⟩ := nI_of b0
            have hw' : w + 1 < n := by
              rw [f2] at a1
              refine Classical.byContradiction fun q => a1 (nI_lt (by omega) hw)
            have hc' : c + 1 < n := by
              rw [f2, nI_leI hc (by omega)] at b1
              omega
            have W : ∀ post : Int32 → SY → Prop, (∃ q, wY_destabilise_48 post (nI w) (nI c) h_n h_phase b_cell b_old b_plain b_term b_next b_spot b_choice b_ends b_seen q 0 0 (nI w)) → wpY_destabilise post (h_n, h_phase, b_cell, b_old, b_plain, b_term, b_next, b_spot, b_choice, b_ends, b_seen) (nI w) (nI c) := fun post q =>
              br_f hz' (br_f a0 (br_f a1' (br_f b0 (br_t b1' q))))
            have l1 := kd_c_le rx w c
            have l2 := kd_c_le ro w c
            refine br_f hz (br_f a0 (br_f a1 (br_f b0 (br_t b1 (xw_cib1 e1 K hw' hc' (xw_cib2 e1 K hw' hc' ?_))))))
            rw [nI_add]
            refine pk_eq (kd_c rx w c + kd_c ro w c) 3 (fun s => pk_eq (kd_c rx w c) 2 (fun t => ?_) (fun t => ?_)) (fun s => ?_)
            · exact kz_dest1 e1 e2 K C hw' hc' t (by omega) W
            · exact kz_dest2 e1 e2 K C hw' hc' (by omega) (by omega) W
            · exact W _ (yw_c48 K.1 C hw' hc' (fun q => absurd q s) (fun _ => I' _))
          · have b1' : ¬ v2 ≤ h_n - 2 := by rw [E]; exact b1
            exact br_f hz (br_f a0 (br_f a1 (br_f b0 (br_f b1 (br_f hz' (br_f a0 (br_f a1' (br_f b0 (br_f b1' (I' _))))))))))
end
