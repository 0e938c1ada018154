section
theorem pk_us {f : Nat → Int32} {k : Nat} {x : Int32} : upd f k x k = x := if_pos rfl
theorem pk_un {f : Nat → Int32} {k j : Nat} {x : Int32} (h : j ≠ k) : upd f k x j = f j := if_neg h
theorem pk_sub {a b : Nat} (h : b ≤ a) : nI a - nI b = nI (a - b) := by
  obtain ⟨c, rfl⟩ : ∃ c, a = c + b := ⟨a - b, by omega⟩
  rw [← nI_add, Int32.add_sub_cancel, Nat.add_sub_cancel]
theorem pk_mul (a b : Nat) : nI a * nI b = nI (a * b) := (Int32.ofNat_mul a b).symm
theorem pk_div {a d : Nat} (ha : a < 2 ^ 31) (h0 : 0 < d) (hd : d < 2 ^ 31) : nI a / nI d = nI (a / d) := by
  apply Int32.toInt_inj.mp
  rw [lg_idiv_nonneg (by rw [nI_toInt ha]; omega) (by rw [nI_toInt hd]; omega), nI_toInt ha, nI_toInt hd, nI_toInt (Nat.lt_of_le_of_lt (Nat.div_le_self a d) ha)]
  first | rfl | exact (Int.natCast_ediv _ _).symm
theorem pk_rem {a d : Nat} (ha : a < 2 ^ 31) (h0 : 0 < d) (hd : d < 2 ^ 31) : nI a - nI a / nI d * nI d = nI (a % d) := by
  rw [pk_div ha h0 hd, pk_mul, pk_sub (Nat.div_mul_le_self a d)]
  exact congrArg nI (by have := Nat.div_add_mod' a d; omega)
theorem pk_sub_toInt {a b : Nat} (ha : a < 2 ^ 30) (hb : b < 2 ^ 30) : (nI a - nI b).toInt = (a : Int) - b := by
  rw [Int32.toInt_sub, nI_toInt (by omega), nI_toInt (by omega)]
  exact Int.bmod_eq_of_le (by omega) (by omega)
theorem pk_ix (x : Int32) {n : Nat} (hn : n < 2 ^ 31) : x < 0 ∨ nI n ≤ x ∨ ∃ j : Nat, j < n ∧ x = nI j := by
  by_cases h : x < 0
  · exact Or.inl h
  · obtain ⟨j, hj, rfl⟩ := nI_of h
    by_cases h2 : j < n
    · exact Or.inr (Or.inr ⟨j, h2, rfl⟩)
    · exact Or.inr (Or.inl (nI_le (by omega) hj))
theorem pk_le {x y : Int32} {A B : Prop} (a b : Nat) (f : a ≤ b → A) (g : b < a → B) (hx : x = nI a := by rfl) (hy : y = nI b := by rfl) (ha : a < 2 ^ 31 := by omega) (hb : b < 2 ^ 31 := by omega) : (x ≤ y → A) ∧ (¬ x ≤ y → B) := by
  subst hx hy
  rw [nI_leI ha hb]
  exact ⟨f, fun z => g (by omega)⟩
theorem pk_lt {x y : Int32} {A B : Prop} (a b : Nat) (f : a < b → A) (g : b ≤ a → B) (hx : x = nI a := by rfl) (hy : y = nI b := by rfl) (ha : a < 2 ^ 31 := by omega) (hb : b < 2 ^ 31 := by omega) : (x < y → A) ∧ (¬ x < y → B) := by
  subst hx hy
  rw [nI_ltI ha hb]
  exact ⟨f, fun z => g (by omega)⟩
theorem pk_eq {x y : Int32} {A B : Prop} (a b : Nat) (f : a = b → A) (g : a ≠ b → B) (hx : x = nI a := by rfl) (hy : y = nI b := by rfl) (ha : a < 2 ^ 31 := by omega) (hb : b < 2 ^ 31 := by omega) : (x = y → A) ∧ (¬ x = y → B) := by
  subst hx hy
  rw [nI_eq ha hb]
  exact ⟨f, g⟩
theorem pk_in {x : Int32} (n N : Nat) (h : n < N) (hx : x = nI n := by rfl) (hN : N < 2 ^ 31 := by omega) : vp_in x N := by
  subst hx
  exact vp_in_nI h hN
theorem pk_cl {x : Int32} (n : Nat) (hx : x = nI n := by rfl) (h : n < 2 ^ 31 := by omega) : x.toNatClampNeg = n := by
  subst hx
  exact nI_clamp h
theorem pk_tn {n : Nat} (h : n < 2 ^ 32) : (nI n).toBitVec.toNat = n := Nat.mod_eq_of_lt h
theorem pk_and (x : Int32) {m : Int32} (k : Nat) (hm : m.toBitVec.toNat = 2 ^ k - 1) : x &&& m = nI (x.toBitVec.toNat % 2 ^ k) := by
  apply Int32.toBitVec_inj.mp
  apply BitVec.eq_of_toNat_eq
  rw [Int32.toBitVec_and, BitVec.toNat_and, hm, Nat.and_two_pow_sub_one_eq_mod]
  show _ = (BitVec.ofNat 32 _).toNat
  rw [BitVec.toNat_ofNat]
  exact (Nat.mod_eq_of_lt (Nat.lt_of_le_of_lt (Nat.mod_le _ _) x.toBitVec.isLt)).symm
theorem pk_andN {n : Nat} (h : n < 2 ^ 32) {m : Int32} (k : Nat) (hm : m.toBitVec.toNat = 2 ^ k - 1) : nI n &&& m = nI (n % 2 ^ k) := by
  rw [pk_and _ k hm, pk_tn h]
theorem pk_andE (x : Int32) {m : Int32} (k : Nat) (hm : m.toBitVec.toNat = 2 ^ k - 1) : ∃ j : Nat, j < 2 ^ k ∧ x &&& m = nI j := ⟨_, Nat.mod_lt _ (Nat.two_pow_pos k), pk_and x k hm⟩
theorem pk_shl (a s : Int32) (k : Nat) (hs : (s.toBitVec.smod 32).toNat = k) : (a <<< s).toBitVec.toNat = a.toBitVec.toNat * 2 ^ k % 2 ^ 32 := by
  show (a.toBitVec <<< (s.toBitVec.smod 32).toNat).toNat = _
  rw [hs, BitVec.toNat_shiftLeft, Nat.shiftLeft_eq]
theorem pk_shlN {n : Nat} (s : Int32) (k : Nat) (hs : (s.toBitVec.smod 32).toNat = k) (h : n * 2 ^ k < 2 ^ 32) : nI n <<< s = nI (n * 2 ^ k) := by
  apply Int32.toBitVec_inj.mp
  apply BitVec.eq_of_toNat_eq
  have hn : n < 2 ^ 32 := Nat.lt_of_le_of_lt (Nat.le_mul_of_pos_right n (Nat.two_pow_pos k)) h
  rw [pk_shl _ _ k hs, pk_tn hn, pk_tn h, Nat.mod_eq_of_lt h]
theorem pk_shr (a s : Int32) (k : Nat) (hs : (s.toBitVec.smod 32).toNat = k) : (a >>> s).toInt = a.toInt >>> k := by
  show (a.toBitVec.sshiftRight (s.toBitVec.smod 32).toNat).toInt = _
  rw [hs, BitVec.toInt_sshiftRight]
  rfl
theorem pk_shrN {n : Nat} (h : n < 2 ^ 31) (s : Int32) (k : Nat) (hs : (s.toBitVec.smod 32).toNat = k) : nI n >>> s = nI (n / 2 ^ k) := by
  apply Int32.toInt_inj.mp
  have h2 : n / 2 ^ k ≤ n := Nat.div_le_self _ _
  rw [pk_shr _ _ k hs, nI_toInt h, nI_toInt (by omega), Int.shiftRight_eq_div_pow]
  rfl
theorem pk_least (P : Nat → Prop) (h : ∃ k, P k) : ∃ k, P k ∧ ∀ j, j < k → ¬ P j := by
  obtain ⟨k, hk⟩ := h
  induction k using Nat.strongRecOn with
  | ind k ih =>
    by_cases e : ∃ j, j < k ∧ P j
    · obtain ⟨j, hj, pj⟩ := e
      exact ih j hj pj
    · exact ⟨k, hk, fun j hj pj => e ⟨j, hj, pj⟩⟩
theorem nx_and (a b : Nat) : nI a &&& nI b = nI (a &&& b) := by
  apply Int32.toBitVec_inj.1
  show BitVec.ofNat 32 a &&& BitVec.ofNat 32 b = BitVec.ofNat 32 (a &&& b)
  apply BitVec.eq_of_getLsbD_eq
  intro i hi
  simp [hi]
theorem nx_xor (a b : Nat) : nI a ^^^ nI b = nI (a ^^^ b) := by
  apply Int32.toBitVec_inj.1
  show BitVec.ofNat 32 a ^^^ BitVec.ofNat 32 b = BitVec.ofNat 32 (a ^^^ b)
  apply BitVec.eq_of_getLsbD_eq
  intro i hi
  simp [hi]
end
section
/-- an array of ints out of naturals -/
def pa_A (a : Nat → Nat) : Nat → Int32 := fun i => nI (a i)
def pa_up (f : Nat → Nat) (k x : Nat) : Nat → Nat := fun j => if j = k then x else f j
theorem pa_up_s {f : Nat → Nat} {k x : Nat} : pa_up f k x k = x := if_pos rfl
theorem pa_up_n {f : Nat → Nat} {k j x : Nat} (h : j ≠ k) : pa_up f k x j = f j := if_neg h
theorem pa_upA (f : Nat → Nat) (k x : Nat) : upd (pa_A f) k (nI x) = pa_A (pa_up f k x) := by
  funext j
  by_cases h : j = k
  · subst h
    rw [pk_us]
    show _ = nI (pa_up f j x j)
    rw [pa_up_s]
  · rw [pk_un h]
    show _ = nI (pa_up f k x j)
    rw [pa_up_n h]
    rfl
/-- the array c with g's values in its cells b .. b + w - 1 -/
def pa_blk (c : Nat → Nat) (b w : Nat) (g : Nat → Nat) : Nat → Nat := fun i => if b ≤ i ∧ i < b + w then g (i - b) else c i
theorem pa_blk_0 (c : Nat → Nat) (b : Nat) (g : Nat → Nat) : pa_blk c b 0 g = c := by
  funext i
  exact if_neg (by omega)
theorem pa_blk_s (c : Nat → Nat) (b w : Nat) (g : Nat → Nat) : pa_up (pa_blk c b w g) (b + w) (g w) = pa_blk c b (w + 1) g := by
  funext i
  unfold pa_up pa_blk
  by_cases h : i = b + w
  · subst h
    rw [if_pos rfl, if_pos (by omega), Nat.add_sub_cancel_left]
  · rw [if_neg h]
    by_cases h2 : b ≤ i ∧ i < b + w
    · rw [if_pos h2, if_pos (by omega)]
    · rw [if_neg h2, if_neg (by omega)]
theorem pa_blk_in {c : Nat → Nat} {b w j : Nat} {g : Nat → Nat} (h : j < w) : pa_blk c b w g (b + j) = g j := by
  unfold pa_blk
  rw [if_pos (by omega), Nat.add_sub_cancel_left]
theorem pa_blk_out {c : Nat → Nat} {b w i : Nat} {g : Nat → Nat} (h : i < b ∨ b + w ≤ i) : pa_blk c b w g i = c i := if_neg (by omega)
theorem pa_blk_A (c : Nat → Nat) (b w : Nat) (g : Nat → Nat) : upd (pa_A (pa_blk c b w g)) (b + w) (nI (g w)) = pa_A (pa_blk c b (w + 1) g) := by
  rw [pa_upA, pa_blk_s]
theorem pa_blk_all {c : Nat → Nat} {b w : Nat} {g : Nat → Nat} {P : Nat → Prop} (hc : ∀ i, P (c i)) (hg : ∀ j, j < w → P (g j)) : ∀ i, P (pa_blk c b w g i) := by
  intro i
  unfold pa_blk
  by_cases h : b ≤ i ∧ i < b + w
  · rw [if_pos h]
    exact hg _ (by omega)
  · rw [if_neg h]
    exact hc i
/-- how many of the first cells are not 0 -/
def pa_ct (iu : Nat → Int32) : Nat → Nat
  | 0 => 0
  | n + 1 => pa_ct iu n + (if iu n = 0 then 0 else 1)
theorem pa_ct_le (iu : Nat → Int32) : ∀ n, pa_ct iu n ≤ n
  | 0 => Nat.le_refl _
  | n + 1 => by
    have := pa_ct_le iu n
    unfold pa_ct
    split <;> omega
theorem pa_ct_eq {iu ju : Nat → Int32} : ∀ {n : Nat}, (∀ k, k < n → (iu k = 0 ↔ ju k = 0)) → pa_ct iu n = pa_ct ju n
  | 0, _ => rfl
  | n + 1, h => by
    unfold pa_ct
    rw [pa_ct_eq (n := n) (fun k hk => h k (by omega))]
    by_cases z : iu n = 0
    · rw [if_pos z, if_pos ((h n (by omega)).mp z)]
    · rw [if_neg z, if_neg (fun q => z ((h n (by omega)).mpr q))]
theorem pa_ct_set {iu : Nat → Int32} {a : Nat} {v : Int32} (h0 : iu a = 0) (hv : ¬ v = 0) : ∀ {n : Nat}, a < n → pa_ct (upd iu a v) n = pa_ct iu n + 1
  | 0, h => by omega
  | n + 1, h => by
    unfold pa_ct
    by_cases z : a = n
    · subst z
      rw [pk_us, if_neg hv, if_pos h0, pa_ct_eq (iu := upd iu a v) (ju := iu) (n := a) (fun k hk => by rw [pk_un (by omega)])]
    · rw [pk_un (fun q => z q.symm), pa_ct_set h0 hv (n := n) (by omega)]
      omega
theorem pa_ct_free {iu : Nat → Int32} : ∀ {n : Nat}, pa_ct iu n < n → ∃ k, k < n ∧ iu k = 0
  | 0, h => by omega
  | n + 1, h => by
    by_cases z : iu n = 0
    · exact ⟨n, by omega, z⟩
    · unfold pa_ct at h
      rw [if_neg z] at h
      obtain ⟨k, hk, e⟩ := pa_ct_free (iu := iu) (n := n) (by omega)
      exact ⟨k, by omega, e⟩
theorem pa_ct_0 {iu : Nat → Int32} : ∀ {n : Nat}, (∀ k, k < n → iu k = 0) → pa_ct iu n = 0
  | 0, _ => rfl
  | n + 1, h => by
    unfold pa_ct
    rw [if_pos (h n (by omega)), pa_ct_0 (n := n) (fun k hk => h k (by omega))]
theorem pa_ct_clr (iu : Nat → Int32) (a : Nat) : ∀ n : Nat, pa_ct iu n ≤ pa_ct (upd iu a 0) n + 1 ∧ (n ≤ a → pa_ct iu n = pa_ct (upd iu a 0) n)
  | 0 => ⟨by unfold pa_ct; omega, fun _ => rfl⟩
  | n + 1 => by
    obtain ⟨h1, h2⟩ := pa_ct_clr iu a n
    by_cases z : n = a
    · subst z
      have e := h2 (Nat.le_refl _)
      refine ⟨?_, fun h => by omega⟩
      unfold pa_ct
      split <;> omega
    · have e : upd iu a 0 n = iu n := pk_un z
      unfold pa_ct
      rw [e]
      exact ⟨by omega, fun h => by rw [h2 (by omega)]⟩
theorem pa_ct_list : ∀ (L : List Nat) (iu : Nat → Int32) (N : Nat), (∀ n, n < N → ¬ iu n = 0 → n ∈ L) → pa_ct iu N ≤ L.length
  | [], iu, N, h => by
    rw [pa_ct_0 (fun k hk => Classical.byContradiction fun q => absurd (h k hk q) (by simp))]
    exact Nat.zero_le _
  | x :: L, iu, N, h => by
    have a := pa_ct_list L (upd iu x 0) N (fun n hn z => by
      by_cases e : n = x
      · subst e
        rw [pk_us] at z
        exact absurd rfl z
      · rw [pk_un e] at z
        rcases List.mem_cons.mp (h n hn z) with q | q
        · exact absurd q e
        · exact q)
    have b := (pa_ct_clr iu x N).1
    rw [List.length_cons]
    omega
/-- a chain of links: head h, the nodes of the list, 0 at the end -/
def pa_Ch (cn : Nat → Nat) : Nat → List Nat → Prop
  | h, [] => h = 0
  | h, x :: l => h = x ∧ pa_Ch cn (cn x) l
theorem pa_Ch_fr {cn dn : Nat → Nat} : ∀ {l : List Nat} {h : Nat}, (∀ x, x ∈ l → dn x = cn x) → pa_Ch cn h l → pa_Ch dn h l
  | [], _, _, q => q
  | x :: l, h, e, q => by
    refine ⟨q.1, ?_⟩
    rw [e x (List.mem_cons_self ..)]
    exact pa_Ch_fr (fun y hy => e y (List.mem_cons_of_mem _ hy)) q.2
/-- 64 chains, with their members -/
def pa_LS (cn bk : Nat → Nat) (M : Nat → Nat → Prop) : Prop := ∃ ls : Nat → List Nat, ∀ k, k < 64 → pa_Ch cn (bk k) (ls k) ∧ (ls k).Nodup ∧ ∀ x, x ∈ ls k ↔ M k x
/-- a node in use -/
def pa_U (iu : Nat → Int32) (n : Nat) : Prop := 2 ≤ n ∧ n < 520 ∧ ¬ iu n = 0
def pa_mix (f : Nat → Nat) : Nat → Int32
  | 0 => 0
  | s + 1 => pa_mix f s * 31 + nI (f s)
theorem pa_mix_eq {f g : Nat → Nat} : ∀ {n : Nat}, (∀ s, s < n → f s = g s) → pa_mix f n = pa_mix g n
  | 0, _ => rfl
  | n + 1, h => by
    unfold pa_mix
    rw [pa_mix_eq (n := n) (fun s hs => h s (by omega)), h n (by omega)]
def pa_kx (m : Int32) : Int32 := ((m ^^^ ((m.toUInt32 >>> ((6 : Int32).toUInt32 &&& Int32.toUInt32 31)).toInt32)) ^^^ ((m.toUInt32 >>> ((15 : Int32).toUInt32 &&& Int32.toUInt32 31)).toInt32)) &&& 63
def pa_hash (f : Nat → Nat) : Nat := (pa_kx (pa_mix f 8)).toNatClampNeg
theorem pa_hash_eq {f g : Nat → Nat} (h : ∀ s, s < 8 → f s = g s) : pa_hash f = pa_hash g := by
  unfold pa_hash
  rw [pa_mix_eq h]
theorem pa_hash_kx (f : Nat → Nat) : pa_kx (pa_mix f 8) = nI (pa_hash f) ∧ pa_hash f < 64 := by
  have q : ∃ j : Nat, j < 2 ^ 6 ∧ pa_kx (pa_mix f 8) = nI j := pk_andE _ (m := 63) 6 (by decide)
  obtain ⟨j, hj, e⟩ := q
  unfold pa_hash
  rw [e, nI_clamp (by omega)]
  exact ⟨rfl, hj⟩
def pa_hk (c : Nat → Nat) (x : Nat) : Nat := pa_hash (fun s => c (8 * x + s))
/-- the pool: its count, its two ends, its children, one node for the same children, its chains -/
def pa_HI (us : Nat) (c : Nat → Nat) (iu : Nat → Int32) (cn bk : Nat → Nat) : Prop :=
  us = pa_ct iu 520 ∧ (¬ iu 0 = 0 ∧ ¬ iu 1 = 0) ∧ (∀ i, c i < 520) ∧
  (∀ m n, pa_U iu m → pa_U iu n → (∀ s, s < 8 → c (8 * m + s) = c (8 * n + s)) → m = n) ∧
  pa_LS cn bk (fun k x => pa_U iu x ∧ pa_hk c x = k)
/-- the nodes in use stay, with their children -/
def pa_Ex (c : Nat → Nat) (iu : Nat → Int32) (c' : Nat → Nat) (iu' : Nat → Int32) : Prop := ∀ n, pa_U iu n → pa_U iu' n ∧ ∀ s, s < 8 → c' (8 * n + s) = c (8 * n + s)
theorem pa_Ex_r (c : Nat → Nat) (iu : Nat → Int32) : pa_Ex c iu c iu := fun _ h => ⟨h, fun _ _ => rfl⟩
theorem pa_Ex_t {c c' c'' : Nat → Nat} {iu iu' iu'' : Nat → Int32} (h : pa_Ex c iu c' iu') (g : pa_Ex c' iu' c'' iu'') : pa_Ex c iu c'' iu'' := by
  intro n hn
  obtain ⟨a, b⟩ := h n hn
  obtain ⟨a', b'⟩ := g n a
  exact ⟨a', fun s hs => (b' s hs).trans (b s hs)⟩
def pa_V1 (c : Nat → Nat) (iu : Nat → Int32) (n : Nat) (f : Nat → Nat) : Prop := pa_U iu n ∧ ∀ s, s < 8 → c (8 * n + s) = f s ∧ f s ≤ 1
def pa_V2 (c : Nat → Nat) (iu : Nat → Int32) (n : Nat) (f : Nat → Nat → Nat) : Prop := pa_U iu n ∧ ∀ s, s < 8 → pa_V1 c iu (c (8 * n + s)) (f s)
def pa_V3 (c : Nat → Nat) (iu : Nat → Int32) (n : Nat) (f : Nat → Nat → Nat → Nat) : Prop := pa_U iu n ∧ ∀ s, s < 8 → pa_V2 c iu (c (8 * n + s)) (f s)
theorem pa_V1_ex {c c' : Nat → Nat} {iu iu' : Nat → Int32} {n : Nat} {f : Nat → Nat} (e : pa_Ex c iu c' iu') (h : pa_V1 c iu n f) : pa_V1 c' iu' n f := by
  obtain ⟨a, b⟩ := e n h.1
  refine ⟨a, fun s hs => ?_⟩
  rw [b s hs]
  exact h.2 s hs
theorem pa_V2_ex {c c' : Nat → Nat} {iu iu' : Nat → Int32} {n : Nat} {f : Nat → Nat → Nat} (e : pa_Ex c iu c' iu') (h : pa_V2 c iu n f) : pa_V2 c' iu' n f := by
  obtain ⟨a, b⟩ := e n h.1
  refine ⟨a, fun s hs => ?_⟩
  rw [b s hs]
  exact pa_V1_ex e (h.2 s hs)
theorem pa_V3_ex {c c' : Nat → Nat} {iu iu' : Nat → Int32} {n : Nat} {f : Nat → Nat → Nat → Nat} (e : pa_Ex c iu c' iu') (h : pa_V3 c iu n f) : pa_V3 c' iu' n f := by
  obtain ⟨a, b⟩ := e n h.1
  refine ⟨a, fun s hs => ?_⟩
  rw [b s hs]
  exact pa_V2_ex e (h.2 s hs)
theorem pa_V1_f {c : Nat → Nat} {iu : Nat → Int32} {n : Nat} {f g : Nat → Nat} (h : pa_V1 c iu n f) (e : ∀ s, s < 8 → f s = g s) : pa_V1 c iu n g :=
  ⟨h.1, fun s hs => e s hs ▸ h.2 s hs⟩
theorem pa_V2_f {c : Nat → Nat} {iu : Nat → Int32} {n : Nat} {f g : Nat → Nat → Nat} (h : pa_V2 c iu n f) (e : ∀ s t, s < 8 → t < 8 → f s t = g s t) : pa_V2 c iu n g :=
  ⟨h.1, fun s hs => pa_V1_f (h.2 s hs) (fun t ht => e s t hs ht)⟩
theorem pa_V3_f {c : Nat → Nat} {iu : Nat → Int32} {n : Nat} {f g : Nat → Nat → Nat → Nat} (h : pa_V3 c iu n f) (e : ∀ s t w, s < 8 → t < 8 → w < 8 → f s t w = g s t w) : pa_V3 c iu n g :=
  ⟨h.1, fun s hs => pa_V2_f (h.2 s hs) (fun t w ht hw => e s t w hs ht hw)⟩
theorem pa_V1_uq {us : Nat} {c : Nat → Nat} {iu : Nat → Int32} {cn bk : Nat → Nat} (H : pa_HI us c iu cn bk) {m n : Nat} {f g : Nat → Nat} (hm : pa_V1 c iu m f) (hn : pa_V1 c iu n g) (e : ∀ s, s < 8 → f s = g s) : m = n :=
  H.2.2.2.1 m n hm.1 hn.1 (fun s hs => by rw [(hm.2 s hs).1, (hn.2 s hs).1, e s hs])
theorem pa_V2_uq {us : Nat} {c : Nat → Nat} {iu : Nat → Int32} {cn bk : Nat → Nat} (H : pa_HI us c iu cn bk) {m n : Nat} {f g : Nat → Nat → Nat} (hm : pa_V2 c iu m f) (hn : pa_V2 c iu n g) (e : ∀ s t, s < 8 → t < 8 → f s t = g s t) : m = n :=
  H.2.2.2.1 m n hm.1 hn.1 (fun s hs => pa_V1_uq H (hm.2 s hs) (hn.2 s hs) (fun t ht => e s t hs ht))
theorem pa_V3_uq {us : Nat} {c : Nat → Nat} {iu : Nat → Int32} {cn bk : Nat → Nat} (H : pa_HI us c iu cn bk) {m n : Nat} {f g : Nat → Nat → Nat → Nat} (hm : pa_V3 c iu m f) (hn : pa_V3 c iu n g) (e : ∀ s t w, s < 8 → t < 8 → w < 8 → f s t w = g s t w) : m = n :=
  H.2.2.2.1 m n hm.1 hn.1 (fun s hs => pa_V2_uq H (hm.2 s hs) (hn.2 s hs) (fun t w ht hw => e s t w hs ht hw))
/-- the word at three columns -/
theorem pa_V3_at {c : Nat → Nat} {iu : Nat → Int32} {n : Nat} {f : Nat → Nat → Nat → Nat} (h : pa_V3 c iu n f) {s t w : Nat} (hs : s < 8) (ht : t < 8) (hw : w < 8) : c (8 * c (8 * c (8 * n + s) + t) + w) = f s t w ∧ f s t w ≤ 1 :=
  (((h.2 s hs).2 t ht).2 w hw)
theorem pa_ins {us : Nat} {c : Nat → Nat} {iu : Nat → Int32} {cn bk : Nat → Nat} {f : Nat → Nat} {y : Nat} (H : pa_HI us c iu cn bk) (hf : ∀ s, s < 8 → f s < 520) (hy2 : 2 ≤ y) (hy : y < 520) (h0 : iu y = 0) (hN : ∀ x, pa_U iu x → ¬ (∀ s, s < 8 → c (8 * x + s) = f s)) :
    pa_HI (us + 1) (pa_blk c (8 * y) 8 f) (upd iu y 1) (pa_up cn y (bk (pa_hash f))) (pa_up bk (pa_hash f) y) ∧ pa_Ex c iu (pa_blk c (8 * y) 8 f) (upd iu y 1) ∧ pa_U (upd iu y 1) y ∧ ∀ s, s < 8 → pa_blk c (8 * y) 8 f (8 * y + s) = f s := by
  obtain ⟨e, ⟨i0, i1⟩, hc, hu, ls, hl⟩ := H
  have one : ¬ (1 : Int32) = 0 := by decide
  have Uy : pa_U (upd iu y 1) y := ⟨hy2, hy, by rw [pk_us]; exact one⟩
  have Un : ∀ n, n ≠ y → (pa_U (upd iu y 1) n ↔ pa_U iu n) := fun n hn => by unfold pa_U; rw [pk_un hn]
  have nU : ¬ pa_U iu y := fun q => q.2.2 h0
  have cy : ∀ s, s < 8 → pa_blk c (8 * y) 8 f (8 * y + s) = f s := fun s hs => pa_blk_in hs
  have cc : ∀ n s, n ≠ y → s < 8 → pa_blk c (8 * y) 8 f (8 * n + s) = c (8 * n + s) := fun n s hn hs => pa_blk_out (by omega)
  have hky : pa_hk (pa_blk c (8 * y) 8 f) y = pa_hash f := pa_hash_eq cy
  have hkn : ∀ n, n ≠ y → pa_hk (pa_blk c (8 * y) 8 f) n = pa_hk c n := fun n hn => pa_hash_eq (fun s hs => cc n s hn hs)
  refine ⟨⟨?_, ⟨?_, ?_⟩, ?_, ?_, ?_⟩, ?_, Uy, cy⟩
  · rw [pa_ct_set h0 one hy, e]
  · rw [pk_un (by omega)]; exact i0
  · rw [pk_un (by omega)]; exact i1
  · exact pa_blk_all (P := fun z => z < 520) hc hf
  · intro m n hm hn hs
    by_cases zm : m = y
    · by_cases zn : n = y
      · rw [zm, zn]
      · refine absurd (fun s hs' => ?_) (hN n ((Un n zn).mp hn))
        rw [← cc n s zn hs', ← hs s hs', zm]
        exact cy s hs'
    · by_cases zn : n = y
      · refine absurd (fun s hs' => ?_) (hN m ((Un m zm).mp hm))
        rw [← cc m s zm hs', hs s hs', zn]
        exact cy s hs'
      · refine hu m n ((Un m zm).mp hm) ((Un n zn).mp hn) (fun s hs' => ?_)
        rw [← cc m s zm hs', ← cc n s zn hs']
        exact hs s hs'
  · refine ⟨fun k => if k = pa_hash f then y :: ls k else ls k, fun k hk => ?_⟩
    obtain ⟨q1, q2, q3⟩ := hl k hk
    have ny : y ∉ ls k := fun z => nU ((q3 y).mp z).1
    have fr : ∀ x, x ∈ ls k → pa_up cn y (bk (pa_hash f)) x = cn x := fun x hx => pa_up_n (fun z => ny (z ▸ hx))
    by_cases z : k = pa_hash f
    · subst z
      simp only [↓reduceIte]
      refine ⟨?_, ?_, ?_⟩
      · rw [pa_up_s]
        refine ⟨rfl, ?_⟩
        rw [pa_up_s]
        exact pa_Ch_fr fr q1
      · exact List.nodup_cons.mpr ⟨ny, q2⟩
      · intro x
        rw [List.mem_cons, q3 x]
        by_cases zx : x = y
        · subst zx
          exact ⟨fun _ => ⟨Uy, hky⟩, fun _ => Or.inl rfl⟩
        · rw [Un x zx, hkn x zx]
          exact ⟨fun w => w.elim (fun w => absurd w zx) id, Or.inr⟩
    · simp only [if_neg z]
      refine ⟨?_, q2, ?_⟩
      · rw [pa_up_n z]
        exact pa_Ch_fr fr q1
      · intro x
        rw [q3 x]
        by_cases zx : x = y
        · subst zx
          exact ⟨fun w => absurd w.1 nU, fun w => absurd (w.2.symm.trans hky) z⟩
        · rw [Un x zx, hkn x zx]
  · intro n hn
    have z : n ≠ y := fun q => nU (q ▸ hn)
    exact ⟨(Un n z).mpr hn, fun s hs => cc n s z hs⟩
end
section
section
variable {d us : Nat} {st c cn bk : Nat → Nat} {iu mk dr md co dt se : Nat → Int32}
theorem pa_ix (x s : Nat) : (8 : Int32) * nI x + nI s = nI (8 * x + s) := by
  show nI 8 * nI x + nI s = _
  rw [pk_mul, nI_add]
theorem pa_cl8 {x s : Nat} (hx : x < 520) (hs : s < 8) : ((8 : Int32) * nI x + nI s).toNatClampNeg = 8 * x + s := by
  rw [pa_ix]
  exact nI_clamp (by omega)
theorem pa_in8 {x s : Nat} (hx : x < 520) (hs : s < 8) : vp_in ((8 : Int32) * nI x + nI s) 4160 := by
  rw [pa_ix]
  exact vp_in_nI (by omega) (by omega)
theorem pa_c8 (c : Nat → Nat) {x s : Nat} (hx : x < 520) (hs : s < 8) : pa_A c ((8 : Int32) * nI x + nI s).toNatClampNeg = nI (c (8 * x + s)) :=
  congrArg (pa_A c) (pa_cl8 hx hs)
theorem pa_ck (a : Nat → Int32) {k : Nat} (h : k < 2 ^ 31) : a (nI k).toNatClampNeg = a k := congrArg a (nI_clamp h)
theorem pa_cA (a : Nat → Nat) {k : Nat} (h : k < 2 ^ 31) : pa_A a (nI k).toNatClampNeg = nI (a k) := congrArg (pa_A a) (nI_clamp h)
theorem pa_isDraft {post : Int32 → Prop} {x : Nat} {f : Nat → Nat} (hx : x < 520) (hc : ∀ i, c i < 520) (hf : ∀ s, s < 8 → dr s = nI (f s) ∧ f s < 520)
    (h1 : (∀ s, s < 8 → c (8 * x + s) = f s) → post 1) (h0 : ¬ (∀ s, s < 8 → c (8 * x + s) = f s) → post 0) : wpX_isDraft post ((nI d), (nI us), (pa_A st), (pa_A c), iu, mk, (pa_A cn), (pa_A bk), dr, md, co, dt, se) (nI x) := by
  have key : ∀ n k, k ≤ 8 → 8 < n + k → (∀ s, s < k → c (8 * x + s) = f s) → wX_isDraft_2 post (nI x) (nI d) (nI us) (pa_A st) (pa_A c) iu mk (pa_A cn) (pa_A bk) dr md co dt se n (nI k) := by
    intro n
    induction n with
    | zero => intro k hk hn; omega
    | succ n ih =>
      intro k hk hn hp
      refine pk_le 8 k (fun h => h1 fun s hs => hp s (by omega)) (fun h => ?_)
      have a := hc (8 * x + k)
      have b := (hf k h).2
      refine ⟨pa_in8 hx h, vp_in_nI h (by omega), pk_eq (c (8 * x + k)) (f k) (fun e => ?_) (fun e => ?_) (pa_c8 c hx h) ((pa_ck dr (by omega)).trans (hf k h).1)⟩
      · refine nm_r (nI_1 k) (ih (k + 1) (by omega) (by omega) (fun s hs => ?_))
        by_cases z : s = k
        · rw [z]; exact e
        · exact hp s (by omega)
      · exact h0 (fun q => e (q k h))
  exact Exists.intro 9 (key 9 0 (by omega) (by omega) (fun s hs => by omega))
theorem pa_i132 {post : Int32 → SX → Prop} {key y : Nat} {f : Nat → Nat} (hk : key < 64) (hy : y < 520) (hd : ∀ s, s < 8 → dr s = nI (f s))
    (hp : post (nI y) ((nI d), (nI us), (pa_A st), (pa_A (pa_blk c (8 * y) 8 f)), iu, mk, (pa_A (pa_up cn y (bk key))), (pa_A (pa_up bk key y)), dr, md, co, dt, se)) :
    ∀ n k, k ≤ 8 → 8 < n + k → wX_intern_132 post (nI key) (nI y) (nI d) (nI us) n (nI k) (pa_A st) (pa_A (pa_blk c (8 * y) k f)) iu mk (pa_A cn) (pa_A bk) dr md co dt se := by
  intro n
  induction n with
  | zero => intro k hk hn; omega
  | succ n ih =>
    intro k hk8 hn
    refine pk_le 8 k (fun h => ?_) (fun h => ?_)
    · obtain rfl : k = 8 := by omega
      refine ⟨vp_in_nI hk (by omega), vp_in_nI hy (by omega), nm_r (e' := pa_A (pa_up cn y (bk key))) ?_ ⟨vp_in_nI hk (by omega), nm_r (e' := pa_A (pa_up bk key y)) ?_ hp⟩⟩
      · rw [nI_clamp (n := y) (by omega), nI_clamp (n := key) (by omega)]
        exact pa_upA cn y (bk key)
      · rw [nI_clamp (n := key) (by omega)]
        exact pa_upA bk key y
    · refine ⟨vp_in_nI h (by omega), pa_in8 hy h, nm_r (e' := pa_A (pa_blk c (8 * y) (k + 1) f)) ?_ (nm_r (nI_1 k) (ih (k + 1) (by omega) (by omega)))⟩
      rw [pa_cl8 hy h, pa_ck dr (by omega), hd k h]
      exact pa_blk_A c (8 * y) k f
theorem pa_i112 {post : Int32 → SX → Prop} {key y : Nat} {f : Nat → Nat} (hk : key < 64) (hy : y < 520) (hd : ∀ s, s < 8 → dr s = nI (f s))
    (hp : post (nI y) ((nI d), (nI (us + 1)), (pa_A st), (pa_A (pa_blk c (8 * y) 8 f)), (upd iu y 1), mk, (pa_A (pa_up cn y (bk key))), (pa_A (pa_up bk key y)), dr, md, co, dt, se)) : wX_intern_112 post (nI key) (nI y) (nI d) (nI us) (pa_A st) (pa_A c) iu mk (pa_A cn) (pa_A bk) dr md co dt se := by
  refine And.intro (vp_in_nI hy (by omega)) (nm_r (e' := upd iu y 1) ?_ (nm_r (nI_1 us) ⟨9, ?_⟩))
  · rw [nI_clamp (n := y) (by omega)]
    rfl
  · have z := pa_i132 (d := d) (us := us + 1) (st := st) (c := c) (cn := cn) (bk := bk) (iu := upd iu y 1) (mk := mk) (md := md) (co := co) (dt := dt) (se := se) hk hy hd hp 9 0 (by omega) (by omega)
    rw [pa_blk_0] at z
    exact z
theorem pa_i90 {post : Int32 → SX → Prop} {key : Nat} (h0 : ¬ iu 0 = 0) (h1 : ¬ iu 1 = 0) (hct : pa_ct iu 520 < 520)
    (hp : ∀ y, 2 ≤ y → y < 520 → iu y = 0 → wX_intern_112 post (nI key) (nI y) (nI d) (nI us) (pa_A st) (pa_A c) iu mk (pa_A cn) (pa_A bk) dr md co dt se) :
    ∀ n x, 2 ≤ x → x ≤ 519 → 519 < n + x → (∀ z, z < x → ¬ iu z = 0) → wX_intern_90 post (nI key) (nI d) (nI us) (pa_A st) (pa_A c) iu mk (pa_A cn) (pa_A bk) dr md co dt se n (nI x) := by
  intro n
  induction n with
  | zero => intro x h2 hx hn; omega
  | succ n ih =>
    intro x h2 hx hn hz
    refine pk_le 519 x (fun h => ?_) (fun h => ?_)
    · obtain ⟨k, hk, e⟩ := pa_ct_free hct
      have kx : k = x := by
        rcases Nat.lt_or_ge k x with q | q
        · exact absurd e (hz k q)
        · omega
      subst kx
      exact hp k h2 (by omega) e
    · refine ⟨vp_in_nI (by omega) (by omega), ?_⟩
      by_cases z : iu x = 0
      · exact br_t ((pa_ck iu (by omega)).trans z) (hp x h2 (by omega) z)
      · refine br_f (fun q => z ((pa_ck iu (by omega)).symm.trans q)) (nm_r (nI_1 x) (ih (x + 1) (by omega) (by omega) (by omega) (fun w hw => ?_)))
        by_cases e : w = x
        · rw [e]; exact z
        · exact hz w (by omega)
theorem pa_i53 {post : Int32 → SX → Prop} {key : Nat} {f : Nat → Nat} {L : List Nat} (hc : ∀ i, c i < 520) (hf : ∀ s, s < 8 → dr s = nI (f s) ∧ f s < 520)
    (hL : ∀ x, x ∈ L → 2 ≤ x ∧ x < 520) (hF : ∀ x, x ∈ L → (∀ s, s < 8 → c (8 * x + s) = f s) → post (nI x) ((nI d), (nI us), (pa_A st), (pa_A c), iu, mk, (pa_A cn), (pa_A bk), dr, md, co, dt, se))
    (hN : (∀ x, x ∈ L → ¬ (∀ s, s < 8 → c (8 * x + s) = f s)) → ∃ n90, wX_intern_90 post (nI key) (nI d) (nI us) (pa_A st) (pa_A c) iu mk (pa_A cn) (pa_A bk) dr md co dt se n90 2) :
    ∀ (l : List Nat) (h k n : Nat), pa_Ch cn h l → (∀ x, x ∈ l → x ∈ L) → (∀ x, x ∈ L → x ∈ l ∨ ¬ (∀ s, s < 8 → c (8 * x + s) = f s)) → k + l.length ≤ 520 → l.length < n → wX_intern_53 post (nI key) (nI d) (nI us) (pa_A st) (pa_A c) iu mk (pa_A cn) (pa_A bk) dr md co dt se n (nI h) (nI k)
  | [], h, k, 0, _, _, _, _, q => by simp at q
  | [], h, k, n + 1, hc', _, ha, _, _ => by
    have e : h = 0 := hc'
    subst e
    have z : ∃ n90, wX_intern_90 post (nI key) (nI d) (nI us) (pa_A st) (pa_A c) iu mk (pa_A cn) (pa_A bk) dr md co dt se n90 2 := hN (fun x hx => (ha x hx).elim (fun q => absurd q (by simp)) id)
    exact br_c (fun _ => z) (fun _ => br_t nI_0 z)
  | x :: l, h, k, 0, _, _, _, _, q => by simp at q
  | x :: l, h, k, n + 1, hc', hs, ha, hk, hn => by
    obtain ⟨rfl, ht⟩ := hc'
    rw [List.length_cons] at hk hn
    obtain ⟨x2, x5⟩ := hL h (hs h (List.mem_cons_self ..))
    refine br_f (nI_ge (b := 520) (by omega) (by decide)) (br_f (nI_ne0 (by omega) (by omega)) (pa_isDraft x5 hc hf (fun q => ?_) (fun q => ?_)))
    · exact br_f (by decide) (hF h (hs h (List.mem_cons_self ..)) q)
    · refine br_t rfl ⟨vp_in_nI x5 (by omega), nm_r (pa_cA cn (by omega)) (nm_r (nI_1 k) (pa_i53 hc hf hL hF hN l (cn h) (k + 1) n ht (fun y hy => hs y (List.mem_cons_of_mem _ hy)) (fun y hy => ?_) (by omega) (by omega)))⟩
      rcases ha y hy with w | w
      · rcases List.mem_cons.mp w with v | v
        · rw [v]; exact Or.inr q
        · exact Or.inl v
      · exact Or.inr w
theorem pa_ls_len {l : List Nat} (hn : l.Nodup) (h : ∀ x, x ∈ l → x < 520) : l.length ≤ 520 := by
  have := List.Nodup.length_le_of_subset (l₂ := List.range 520) hn (fun x hx => List.mem_range.mpr (h x hx))
  rw [List.length_range] at this
  exact this
theorem pa_intern {post : Int32 → SX → Prop} {f : Nat → Nat} (H : pa_HI us c iu cn bk) (hus : us < 520) (hf : ∀ s, s < 8 → dr s = nI (f s) ∧ f s < 520)
    (hp : ∀ r us' c' iu' cn' bk', pa_HI us' c' iu' cn' bk' → pa_Ex c iu c' iu' → us' ≤ us + 1 → pa_U iu' r → (∀ s, s < 8 → c' (8 * r + s) = f s) → post (nI r) ((nI d), (nI us'), (pa_A st), (pa_A c'), iu', mk, (pa_A cn'), (pa_A bk'), dr, md, co, dt, se)) :
    wpX_intern post ((nI d), (nI us), (pa_A st), (pa_A c), iu, mk, (pa_A cn), (pa_A bk), dr, md, co, dt, se) := by
  have H' := H
  obtain ⟨e, ⟨i0, i1⟩, hc, hu, ls, hl⟩ := H
  obtain ⟨kx, k64⟩ := pa_hash_kx f
  obtain ⟨q1, q2, q3⟩ := hl _ k64
  have hL : ∀ x, x ∈ ls (pa_hash f) → 2 ≤ x ∧ x < 520 := fun x hx => ⟨((q3 x).mp hx).1.1, ((q3 x).mp hx).1.2.1⟩
  have len := pa_ls_len q2 (fun x hx => (hL x hx).2)
  have fin : ∃ n, wX_intern_53 post (nI (pa_hash f)) (nI d) (nI us) (pa_A st) (pa_A c) iu mk (pa_A cn) (pa_A bk) dr md co dt se n (nI (bk (pa_hash f))) (nI 0) := by
    refine ⟨_, pa_i53 hc hf hL (fun x hx hs => ?_) (fun hno => ?_) (ls (pa_hash f)) (bk (pa_hash f)) 0 ((ls (pa_hash f)).length + 1) q1 (fun _ h => h) (fun _ h => Or.inl h) (by omega) (by omega)⟩
    · exact hp x us c iu cn bk H' (pa_Ex_r c iu) (by omega) ((q3 x).mp hx).1 hs
    · refine ⟨_, pa_i90 i0 i1 (by omega) (fun y y2 y5 y0 => ?_) 520 2 (by omega) (by omega) (by omega) (fun z hz => ?_)⟩
      · obtain ⟨a1, a2, a3, a4⟩ := pa_ins H' (fun s hs => (hf s hs).2) y2 y5 y0 (fun x hx hs => hno x ((q3 x).mpr ⟨hx, pa_hash_eq hs⟩) hs)
        exact pa_i112 k64 y5 (fun s hs => (hf s hs).1) (hp y _ _ _ _ _ a1 a2 (by omega) a3 a4)
      · rcases (by omega : z = 0 ∨ z = 1) with w | w
        · rw [w]; exact i0
        · rw [w]; exact i1
  have key : ∀ n k, k ≤ 8 → 8 < n + k → wX_intern_4 post (nI d) (nI us) (pa_A st) (pa_A c) iu mk (pa_A cn) (pa_A bk) dr md co dt se n (pa_mix f k) (nI k) := by
    intro n
    induction n with
    | zero => intro k hk hn; omega
    | succ n ih =>
      intro k hk hn
      refine pk_le 8 k (fun h => ?_) (fun h => ?_)
      · obtain rfl : k = 8 := by omega
        exact nm_r kx ⟨vp_in_nI k64 (by omega), nm_r (pa_cA bk (by omega)) fin⟩
      · refine ⟨vp_in_nI h (by omega), nm_r (e' := pa_mix f (k + 1)) ?_ (nm_r (nI_1 k) (ih (k + 1) (by omega) (by omega)))⟩
        rw [pa_ck dr (by omega), (hf k h).1]
        rfl
  exact Exists.intro 9 (key 9 0 (by omega) (by omega))
end
end
section
theorem pa_fill {dr : Nat → Int32} {g : Nat → Nat} {k : Nat} (h : ∀ s, s < k → dr s = nI (g s)) : ∀ s, s < k + 1 → upd dr k (nI (g k)) s = nI (g s) := by
  intro s hs
  by_cases z : s = k
  · rw [z, pk_us]
  · rw [pk_un z, h s (by omega)]
theorem pa_fill8 (W : Nat → Nat → (Nat → Int32) → Prop) (g : Nat → Nat) (hx : ∀ n dr, (∀ s, s < 8 → dr s = nI (g s)) → W (n + 1) 8 dr)
    (hs : ∀ n k dr, k < 8 → W n (k + 1) (upd dr k (nI (g k))) → W (n + 1) k dr) : ∀ n k dr, k ≤ 8 → 8 < n + k → (∀ s, s < k → dr s = nI (g s)) → W n k dr := by
  intro n
  induction n with
  | zero => intro k dr hk hn; omega
  | succ n ih =>
    intro k dr hk hn hd
    by_cases z : k = 8
    · subst z
      exact hx n dr hd
    · exact hs n k dr (by omega) (ih (k + 1) _ (by omega) (by omega) (pa_fill hd))
theorem pa_l8 {σ : Type} (V : (Nat → Nat) → (Nat → Int32) → Nat → Nat → Prop) (w us0 : Nat) (c0 : Nat → Nat) (iu0 : Nat → Int32)
    (hV : ∀ c iu c' iu' k r, pa_Ex c iu c' iu' → V c iu k r → V c' iu' k r)
    (W : Nat → Nat → Nat → (Nat → Nat) → (Nat → Int32) → (Nat → Nat) → (Nat → Nat) → (Nat → Int32) → σ → Prop)
    (hx : ∀ n us c iu cn bk ar t (x : Nat → Nat), pa_HI us c iu cn bk → us ≤ us0 + 8 * w → pa_Ex c0 iu0 c iu → (∀ j, j < 8 → ar j = nI (x j) ∧ V c iu j (x j)) → W (n + 1) 8 us c iu cn bk ar t)
    (hs : ∀ n k us c iu cn bk ar t, k < 8 → pa_HI us c iu cn bk → us + w ≤ us0 + 8 * w → pa_Ex c0 iu0 c iu →
      (∀ r us' c' iu' cn' bk' t', pa_HI us' c' iu' cn' bk' → us' ≤ us + w → pa_Ex c iu c' iu' → V c' iu' k r → W n (k + 1) us' c' iu' cn' bk' (upd ar k (nI r)) t') → W (n + 1) k us c iu cn bk ar t) :
    ∀ n k us c iu cn bk ar t (x : Nat → Nat), k ≤ 8 → 8 < n + k → pa_HI us c iu cn bk → us ≤ us0 + k * w → pa_Ex c0 iu0 c iu → (∀ j, j < k → ar j = nI (x j) ∧ V c iu j (x j)) → W n k us c iu cn bk ar t := by
  intro n
  induction n with
  | zero => intro k us c iu cn bk ar t x hk hn; omega
  | succ n ih =>
    intro k us c iu cn bk ar t x hk hn H hu he hv
    by_cases z : k = 8
    · subst z
      exact hx n us c iu cn bk ar t x H hu he hv
    · have hk8 : k < 8 := by omega
      have hw : (k + 1) * w ≤ 8 * w := Nat.mul_le_mul_right w (by omega)
      have hw1 : (k + 1) * w = k * w + w := Nat.succ_mul k w
      refine hs n k us c iu cn bk ar t hk8 H (by omega) he (fun r us' c' iu' cn' bk' t' H' hu' he' hr => ?_)
      refine ih (k + 1) us' c' iu' cn' bk' _ t' (pa_up x k r) (by omega) (by omega) H' (by omega) (pa_Ex_t he he') (fun j hj => ?_)
      by_cases q : j = k
      · subst q
        rw [pk_us, pa_up_s]
        exact ⟨rfl, hr⟩
      · rw [pk_un q, pa_up_n q]
        obtain ⟨a, b⟩ := hv j (by omega)
        exact ⟨a, hV _ _ _ _ _ _ he' b⟩
section
variable {d us : Nat} {st c cn bk : Nat → Nat} {iu mk dr md co dt se : Nat → Int32}
theorem pa_internSet {post : Int32 → SX → Prop} {x : Nat → Nat} (H : pa_HI us c iu cn bk) (hus : us < 520) (hx : ∀ s, s < 8 → se s = nI (x s) ∧ x s < 520)
    (hp : ∀ r us' c' iu' cn' bk' dr', pa_HI us' c' iu' cn' bk' → pa_Ex c iu c' iu' → us' ≤ us + 1 → pa_U iu' r → (∀ s, s < 8 → c' (8 * r + s) = x s) → post (nI r) ((nI d), (nI us'), (pa_A st), (pa_A c'), iu', mk, (pa_A cn'), (pa_A bk'), dr', md, co, dt, se)) :
    wpX_internSet post ((nI d), (nI us), (pa_A st), (pa_A c), iu, mk, (pa_A cn), (pa_A bk), dr, md, co, dt, se) := by
  refine Exists.intro 9 (pa_fill8 (fun n k dr => wX_internSet_2 post (nI d) (nI us) n (nI k) (pa_A st) (pa_A c) iu mk (pa_A cn) (pa_A bk) dr md co dt se) x (fun n dr hd => ?_) (fun n k dr hk ih => ?_) 9 0 dr (by omega) (by omega) (fun s hs => by omega))
  · refine br_t (nI_le (a := 8) (b := 8) (by omega) (by decide)) (pa_intern H hus (f := x) (fun s hs => ⟨hd s hs, (hx s hs).2⟩) (fun r us' c' iu' cn' bk' a1 a2 a3 a4 a5 => ?_))
    exact hp r us' c' iu' cn' bk' dr a1 a2 a3 a4 a5
  · refine br_f (nI_ge (b := 8) hk (by decide)) ⟨vp_in_nI hk (by omega), vp_in_nI hk (by omega), nm_r (e' := upd dr k (nI (x k))) ?_ (nm_r (nI_1 k) ih)⟩
    rw [nI_clamp (by omega), (hx k hk).1]
theorem pa_rootOf {post : Int32 → SX → Prop} {x : Nat → Nat} (H : pa_HI us c iu cn bk) (hus : us < 520) (hx : ∀ s, s < 8 → md s = nI (x s) ∧ x s < 520)
    (hp : ∀ r us' c' iu' cn' bk' dr', pa_HI us' c' iu' cn' bk' → pa_Ex c iu c' iu' → us' ≤ us + 1 → pa_U iu' r → (∀ s, s < 8 → c' (8 * r + s) = x s) → post (nI r) ((nI d), (nI us'), (pa_A st), (pa_A c'), iu', mk, (pa_A cn'), (pa_A bk'), dr', md, co, dt, se)) :
    wpX_rootOfMiddle post ((nI d), (nI us), (pa_A st), (pa_A c), iu, mk, (pa_A cn), (pa_A bk), dr, md, co, dt, se) := by
  refine Exists.intro 9 (pa_fill8 (fun n k dr => wX_rootOfMiddle_2 post (nI d) (nI us) n (nI k) (pa_A st) (pa_A c) iu mk (pa_A cn) (pa_A bk) dr md co dt se) x (fun n dr hd => ?_) (fun n k dr hk ih => ?_) 9 0 dr (by omega) (by omega) (fun s hs => by omega))
  · refine br_t (nI_le (a := 8) (b := 8) (by omega) (by decide)) (pa_intern H hus (f := x) (fun s hs => ⟨hd s hs, (hx s hs).2⟩) (fun r us' c' iu' cn' bk' a1 a2 a3 a4 a5 => ?_))
    exact hp r us' c' iu' cn' bk' dr a1 a2 a3 a4 a5
  · refine br_f (nI_ge (b := 8) hk (by decide)) ⟨vp_in_nI hk (by omega), vp_in_nI hk (by omega), nm_r (e' := upd dr k (nI (x k))) ?_ (nm_r (nI_1 k) ih)⟩
    rw [nI_clamp (by omega), (hx k hk).1]
/-- what every maker of a node of the second column asks of its continuation -/
def pa_K2 (us : Nat) (c : Nat → Nat) (iu : Nat → Int32) (G : Nat → Nat → Nat) (P : Nat → Nat → (Nat → Nat) → (Nat → Int32) → (Nat → Nat) → (Nat → Nat) → (Nat → Int32) → (Nat → Int32) → Prop) : Prop :=
  ∀ r us' c' iu' cn' bk' dr' se', pa_HI us' c' iu' cn' bk' → us' ≤ us + 9 → pa_Ex c iu c' iu' → pa_V2 c' iu' r G → P r us' c' iu' cn' bk' dr' se'
/-- the loop over the second column, for any maker -/
theorem pa_mk2 {post Q : Int32 → SX → Prop} {G : Nat → Nat → Nat} (H : pa_HI us c iu cn bk) (hus : us + 9 ≤ 520)
    (W : Nat → Nat → Nat → (Nat → Nat) → (Nat → Int32) → (Nat → Nat) → (Nat → Nat) → (Nat → Int32) → (Nat → Int32) → Prop)
    (hx : ∀ n us c iu cn bk se dr, wpX_internSet Q ((nI d), (nI us), (pa_A st), (pa_A c), iu, mk, (pa_A cn), (pa_A bk), dr, md, co, dt, se) → W (n + 1) 8 us c iu cn bk se dr)
    (hq : ∀ r us c iu cn bk dr se, post (nI r) ((nI d), (nI us), (pa_A st), (pa_A c), iu, mk, (pa_A cn), (pa_A bk), dr, md, co, dt, se) → Q (nI r) ((nI d), (nI us), (pa_A st), (pa_A c), iu, mk, (pa_A cn), (pa_A bk), dr, md, co, dt, se))
    (hs : ∀ n k us' c' iu' cn' bk' se' dr', k < 8 → pa_HI us' c' iu' cn' bk' → us' < 520 → pa_Ex c iu c' iu' →
      (∀ r us'' c'' iu'' cn'' bk'' dr'', pa_HI us'' c'' iu'' cn'' bk'' → us'' ≤ us' + 1 → pa_Ex c' iu' c'' iu'' → pa_V1 c'' iu'' r (G k) → W n (k + 1) us'' c'' iu'' cn'' bk'' (upd se' k (nI r)) dr'') → W (n + 1) k us' c' iu' cn' bk' se' dr')
    (hp : pa_K2 us c iu G (fun r us' c' iu' cn' bk' dr' se' => post (nI r) ((nI d), (nI us'), (pa_A st), (pa_A c'), iu', mk, (pa_A cn'), (pa_A bk'), dr', md, co, dt, se'))) : W 9 0 us c iu cn bk se dr := by
  refine pa_l8 (fun c iu s r => pa_V1 c iu r (G s)) 1 us c iu (fun _ _ _ _ _ _ e h => pa_V1_ex e h) W ?_ ?_ 9 0 us c iu cn bk se dr (fun _ => 0) (by omega) (by omega) H (by omega) (pa_Ex_r c iu) (fun j hj => by omega)
  · intro n us' c' iu' cn' bk' se' dr' x H' hu' he' hv'
    refine hx n us' c' iu' cn' bk' se' dr' (pa_internSet (x := x) H' (by omega) (fun s hs => ⟨(hv' s hs).1, (hv' s hs).2.1.2.1⟩) (fun r us'' c'' iu'' cn'' bk'' dr'' a1 a2 a3 a4 a5 => ?_))
    refine hq r us'' c'' iu'' cn'' bk'' dr'' se' (hp r us'' c'' iu'' cn'' bk'' dr'' se' a1 (by omega) (pa_Ex_t he' a2) ⟨a4, fun s hs => ?_⟩)
    rw [a5 s hs]
    exact pa_V1_ex a2 (hv' s hs).2
  · intro n k us' c' iu' cn' bk' se' dr' hk H' hu' he' hc'
    exact hs n k us' c' iu' cn' bk' se' dr' hk H' (by omega) he' hc'
end
end
section
theorem pa_g8 : (8 : Int32) ≤ nI 8 := by decide
theorem pa_n8 {k : Nat} (h : k < 8) : ¬ (8 : Int32) ≤ nI k := nI_ge (b := 8) h (by decide)
/-- one column of a comparison: what is left, halved -/
def pa_c1 (x y : Int32) : Int32 := (x - y) >>> ((1 : Int32) &&& 31)
def pa_g1 (x : Int32) : Nat := if x < 0 then 0 else 1
theorem pa_g1_le (x : Int32) : pa_g1 x ≤ 1 := by unfold pa_g1; split <;> omega
/-- the residue as the component reckons it -/
def pa_res (x m : Int32) : Int32 := if 0 ≤ x - x / m * m then x - x / m * m else x - x / m * m + m
def pa_g2 (x : Int32) : Nat := if x = 0 then 1 else 0
theorem pa_g2_le (x : Int32) : pa_g2 x ≤ 1 := by unfold pa_g2; split <;> omega
theorem pa_residue {post : Int32 → Prop} {x : Int32} {m : Nat} (h0 : 0 < m) (h7 : m ≤ 7) (hp : post (pa_res x (nI m))) : wpX_residue post x (nI m) := by
  refine br_f (nI_nle h0 (by omega)) (And.intro (nI_ne0 h0 (by omega)) (nm_e ?_))
  unfold pa_res at hp
  by_cases z : 0 ≤ x - x / nI m * nI m
  · rw [if_pos z] at hp
    exact br_t z hp
  · rw [if_neg z] at hp
    exact br_f z hp
def pa_cmb (kd a b : Nat) : Nat := if kd = 0 then 1 - a else if kd = 1 then a &&& b else if kd = 2 then a ||| b else if kd = 3 then a ^^^ b else (1 - a) ||| b
theorem pa_cmb_le : ∀ kd, kd < 5 → ∀ a, a < 2 → ∀ b, b < 2 → pa_cmb kd a b ≤ 1 := by decide
theorem pa_nor (a b : Nat) : nI a ||| nI b = nI (a ||| b) := by
  apply Int32.toBitVec_inj.1
  show BitVec.ofNat 32 a ||| BitVec.ofNat 32 b = BitVec.ofNat 32 (a ||| b)
  apply BitVec.eq_of_getLsbD_eq
  intro i hi
  simp [hi]
theorem pa_combine {post : Int32 → Prop} {kd a b : Nat} (hk : kd ≤ 4) (ha : a ≤ 1) (hb : b ≤ 1) (hp : post (nI (pa_cmb kd a b))) : wpX_combine post (nI kd) (nI a) (nI b) := by
  have e : (1 : Int32) - nI a = nI (1 - a) := pk_sub (a := 1) ha
  unfold pa_cmb at hp
  refine pk_eq kd 0 (fun h => ?_) (fun h => ?_)
  · rw [if_pos h] at hp
    rw [e]; exact hp
  rw [if_neg h] at hp
  refine pk_eq kd 1 (fun h => ?_) (fun h => ?_)
  · rw [if_pos h] at hp
    rw [nx_and]; exact hp
  rw [if_neg h] at hp
  refine pk_eq kd 2 (fun h => ?_) (fun h => ?_)
  · rw [if_pos h] at hp
    rw [pa_nor]; exact hp
  rw [if_neg h] at hp
  refine pk_eq kd 3 (fun h => ?_) (fun h => ?_)
  · rw [if_pos h] at hp
    rw [nx_xor]; exact hp
  rw [if_neg h] at hp
  rw [e, pa_nor]; exact hp
section
variable {d us : Nat} {st c cn bk : Nat → Nat} {iu mk dr md co dt se : Nat → Int32}
theorem pa_cmpNode {post : Int32 → SX → Prop} {k : Int32} (H : pa_HI us c iu cn bk) (hus : us + 9 ≤ 520)
    (hp : pa_K2 us c iu (fun s t => pa_g1 (pa_c1 (pa_c1 k (dt s)) (dt t))) (fun r us' c' iu' cn' bk' dr' se' => post (nI r) ((nI d), (nI us'), (pa_A st), (pa_A c'), iu', mk, (pa_A cn'), (pa_A bk'), dr', md, co, dt, se'))) : wpX_comparisonNode post ((nI d), (nI us), (pa_A st), (pa_A c), iu, mk, (pa_A cn), (pa_A bk), dr, md, co, dt, se) k := by
  refine Exists.intro 9 (pa_mk2 H hus (fun n k2 us c iu cn bk se dr => wX_comparisonNode_2 post k n (nI k2) (nI d) (nI us) (pa_A st) (pa_A c) iu mk (pa_A cn) (pa_A bk) dr md co dt se) (fun n us c iu cn bk se dr h => br_t pa_g8 h) (fun r us c iu cn bk dr se h => h) (fun n k2 us' c' iu' cn' bk' se' dr' hk H' hu' he' hc' => ?_) hp)
  refine br_f (pa_n8 hk) ⟨vp_in_nI hk (by omega), nm_r (e' := pa_c1 k (dt k2)) (by rw [nI_clamp (by omega)]; rfl) ⟨9, ?_⟩⟩
  refine pa_fill8 (fun m j dr => wX_comparisonNode_22 post (wX_comparisonNode_2 post k n) k (nI k2) (pa_c1 k (dt k2)) (nI d) (nI us') m (nI j) (pa_A st) (pa_A c') iu' mk (pa_A cn') (pa_A bk') dr md co dt se') (fun t => pa_g1 (pa_c1 (pa_c1 k (dt k2)) (dt t))) (fun m dr hd => ?_) (fun m j dr hj ih => ?_) 9 0 dr' (by omega) (by omega) (fun s hs => by omega)
  · refine br_t pa_g8 (pa_intern H' hu' (f := fun t => pa_g1 (pa_c1 (pa_c1 k (dt k2)) (dt t))) (fun s hs => ⟨hd s hs, Nat.lt_of_le_of_lt (pa_g1_le _) (by omega)⟩) (fun r us'' c'' iu'' cn'' bk'' a1 a2 a3 a4 a5 => ?_))
    exact ⟨vp_in_nI hk (by omega), nm_r (e' := upd se' k2 (nI r)) (by rw [nI_clamp (by omega)]) (nm_r (nI_1 k2) (hc' r us'' c'' iu'' cn'' bk'' dr a1 a3 a2 ⟨a4, fun s hs => ⟨a5 s hs, pa_g1_le _⟩⟩))⟩
  · refine br_f (pa_n8 hj) ⟨vp_in_nI hj (by omega), ?_⟩
    by_cases z : pa_c1 (pa_c1 k (dt k2)) (dt j) < 0
    · refine br_t (by rw [nI_clamp (by omega)]; exact z) ⟨vp_in_nI hj (by omega), nm_r (e' := upd dr j (nI (pa_g1 (pa_c1 (pa_c1 k (dt k2)) (dt j))))) ?_ (nm_r (nI_1 j) ih)⟩
      unfold pa_g1
      rw [nI_clamp (by omega), if_pos z]
      rfl
    · refine br_f (by rw [nI_clamp (by omega)]; exact z) ⟨vp_in_nI hj (by omega), nm_r (e' := upd dr j (nI (pa_g1 (pa_c1 (pa_c1 k (dt k2)) (dt j))))) ?_ (nm_r (nI_1 j) ih)⟩
      unfold pa_g1
      rw [nI_clamp (by omega), if_neg z]
      rfl
theorem pa_resNode {post : Int32 → SX → Prop} {m : Nat} {k : Int32} (H : pa_HI us c iu cn bk) (hus : us + 9 ≤ 520) (h0 : 0 < m) (h7 : m ≤ 7)
    (hp : pa_K2 us c iu (fun s t => pa_g2 (pa_res (k - 2 * dt s - 4 * dt t) (nI m))) (fun r us' c' iu' cn' bk' dr' se' => post (nI r) ((nI d), (nI us'), (pa_A st), (pa_A c'), iu', mk, (pa_A cn'), (pa_A bk'), dr', md, co, dt, se'))) : wpX_residueNode post ((nI d), (nI us), (pa_A st), (pa_A c), iu, mk, (pa_A cn), (pa_A bk), dr, md, co, dt, se) (nI m) k := by
  refine Exists.intro 9 (pa_mk2 H hus (fun n k2 us c iu cn bk se dr => wX_residueNode_2 post (nI m) k n (nI k2) (nI d) (nI us) (pa_A st) (pa_A c) iu mk (pa_A cn) (pa_A bk) dr md co dt se) (fun n us c iu cn bk se dr h => br_t pa_g8 h) (fun r us c iu cn bk dr se h => h) (fun n k2 us' c' iu' cn' bk' se' dr' hk H' hu' he' hc' => ?_) hp)
  refine br_f (pa_n8 hk) ⟨vp_in_nI hk (by omega), nm_r (e' := k - 2 * dt k2) (by rw [nI_clamp (by omega)]) ⟨9, ?_⟩⟩
  refine pa_fill8 (fun q j dr => wX_residueNode_23 post (wX_residueNode_2 post (nI m) k n) (nI m) k (nI k2) (k - 2 * dt k2) (nI d) (nI us') q (nI j) (pa_A st) (pa_A c') iu' mk (pa_A cn') (pa_A bk') dr md co dt se') (fun t => pa_g2 (pa_res (k - 2 * dt k2 - 4 * dt t) (nI m))) (fun q dr hd => ?_) (fun q j dr hj ih => ?_) 9 0 dr' (by omega) (by omega) (fun s hs => by omega)
  · refine br_t pa_g8 (pa_intern H' hu' (f := fun t => pa_g2 (pa_res (k - 2 * dt k2 - 4 * dt t) (nI m))) (fun s hs => ⟨hd s hs, Nat.lt_of_le_of_lt (pa_g2_le _) (by omega)⟩) (fun r us'' c'' iu'' cn'' bk'' a1 a2 a3 a4 a5 => ?_))
    exact ⟨vp_in_nI hk (by omega), nm_r (e' := upd se' k2 (nI r)) (by rw [nI_clamp (by omega)]) (nm_r (nI_1 k2) (hc' r us'' c'' iu'' cn'' bk'' dr a1 a3 a2 ⟨a4, fun s hs => ⟨a5 s hs, pa_g2_le _⟩⟩))⟩
  · refine br_f (pa_n8 hj) ⟨vp_in_nI hj (by omega), ?_⟩
    rw [pa_ck dt (by omega)]
    refine pa_residue h0 h7 ?_
    by_cases z : pa_res (k - 2 * dt k2 - 4 * dt j) (nI m) = 0
    · refine br_t z ⟨vp_in_nI hj (by omega), nm_r (e' := upd dr j (nI (pa_g2 (pa_res (k - 2 * dt k2 - 4 * dt j) (nI m))))) ?_ (nm_r (nI_1 j) ih)⟩
      unfold pa_g2
      rw [nI_clamp (by omega), if_pos z]
      rfl
    · refine br_f z ⟨vp_in_nI hj (by omega), nm_r (e' := upd dr j (nI (pa_g2 (pa_res (k - 2 * dt k2 - 4 * dt j) (nI m))))) ?_ (nm_r (nI_1 j) ih)⟩
      unfold pa_g2
      rw [nI_clamp (by omega), if_neg z]
      rfl
theorem pa_pairNode {post : Int32 → SX → Prop} {kd f g : Nat} {F G : Nat → Nat → Nat} (H : pa_HI us c iu cn bk) (hus : us + 9 ≤ 520) (hkd : kd ≤ 4) (hF : pa_V2 c iu f F) (hG : pa_V2 c iu g G)
    (hp : pa_K2 us c iu (fun s t => pa_cmb kd (F s t) (G s t)) (fun r us' c' iu' cn' bk' dr' se' => post (nI r) ((nI d), (nI us'), (pa_A st), (pa_A c'), iu', mk, (pa_A cn'), (pa_A bk'), dr', md, co, dt, se'))) : wpX_pairNode post ((nI d), (nI us), (pa_A st), (pa_A c), iu, mk, (pa_A cn), (pa_A bk), dr, md, co, dt, se) (nI kd) (nI f) (nI g) := by
  refine Exists.intro 9 (pa_mk2 H hus (fun n k2 us c iu cn bk se dr => wX_pairNode_3 post (nI kd) (nI f) (nI g) n (nI k2) (nI d) (nI us) (pa_A st) (pa_A c) iu mk (pa_A cn) (pa_A bk) dr md co dt se) (fun n us c iu cn bk se dr h => br_t pa_g8 h) (fun r us c iu cn bk dr se h => h) (fun n k2 us' c' iu' cn' bk' se' dr' hk H' hu' he' hc' => ?_) hp)
  have vf := pa_V2_ex he' hF
  have vg := pa_V2_ex he' hG
  have f5 := vf.1.2.1
  have g5 := vg.1.2.1
  have xf := vf.2 k2 hk
  have xg := vg.2 k2 hk
  have le : ∀ t, t < 8 → pa_cmb kd (F k2 t) (G k2 t) ≤ 1 := fun t ht => pa_cmb_le kd (by omega) _ (by have := (xf.2 t ht).2; omega) _ (by have := (xg.2 t ht).2; omega)
  refine br_f (pa_n8 hk) ⟨pa_in8 f5 hk, nm_r (pa_c8 c' f5 hk) ⟨pa_in8 g5 hk, nm_r (pa_c8 c' g5 hk) ⟨9, ?_⟩⟩⟩
  refine pa_fill8 (fun q j dr => wX_pairNode_41 post (wX_pairNode_3 post (nI kd) (nI f) (nI g) n) (nI kd) (nI f) (nI g) (nI k2) (nI (c' (8 * f + k2))) (nI (c' (8 * g + k2))) (nI d) (nI us') q (nI j) (pa_A st) (pa_A c') iu' mk (pa_A cn') (pa_A bk') dr md co dt se') (fun t => pa_cmb kd (F k2 t) (G k2 t)) (fun q dr hd => ?_) (fun q j dr hj ih => ?_) 9 0 dr' (by omega) (by omega) (fun s hs => by omega)
  · refine br_t pa_g8 (pa_intern H' hu' (f := fun t => pa_cmb kd (F k2 t) (G k2 t)) (fun s hs => ⟨hd s hs, Nat.lt_of_le_of_lt (le s hs) (by omega)⟩) (fun r us'' c'' iu'' cn'' bk'' a1 a2 a3 a4 a5 => ?_))
    exact ⟨vp_in_nI hk (by omega), nm_r (e' := upd se' k2 (nI r)) (by rw [nI_clamp (by omega)]) (nm_r (nI_1 k2) (hc' r us'' c'' iu'' cn'' bk'' dr a1 a3 a2 ⟨a4, fun s hs => ⟨a5 s hs, le s hs⟩⟩))⟩
  · have ef := xf.2 j hj
    have eg := xg.2 j hj
    refine br_f (pa_n8 hj) ⟨pa_in8 xf.1.2.1 hj, pa_in8 xg.1.2.1 hj, ?_⟩
    rw [pa_c8 c' xf.1.2.1 hj, pa_c8 c' xg.1.2.1 hj, ef.1, eg.1]
    refine pa_combine hkd ef.2 eg.2 ⟨vp_in_nI hj (by omega), nm_r (e' := upd dr j (nI (pa_cmb kd (F k2 j) (G k2 j)))) (by rw [nI_clamp (by omega)]) (nm_r (nI_1 j) ih)⟩
end
end
section
def pa_jo (an a b : Nat) : Nat := if an = 1 then a ||| b else a &&& b
theorem pa_jo_le {an a b : Nat} (ha : a ≤ 1) (hb : b ≤ 1) : pa_jo an a b ≤ 1 := by
  have h : ∀ a, a < 2 → ∀ b, b < 2 → a ||| b ≤ 1 ∧ a &&& b ≤ 1 := by decide
  obtain ⟨p, q⟩ := h a (by omega) b (by omega)
  unfold pa_jo
  split
  · exact p
  · exact q
def pa_sn (an b : Nat) (F G : Nat → Nat → Nat) (s t : Nat) : Nat :=
  pa_jo an (pa_jo an (pa_jo an (pa_jo an (F s t) (F (s ^^^ b) t)) (pa_jo an (G s t) (G (s ^^^ b) t))) (pa_jo an (F s (t ^^^ b)) (F (s ^^^ b) (t ^^^ b)))) (pa_jo an (G s (t ^^^ b)) (G (s ^^^ b) (t ^^^ b)))
def pa_ren (u v fl s : Nat) : Nat := (((s &&& (7 ^^^ 2 ^ u)) &&& (7 ^^^ 2 ^ v)) ||| (s / 2 ^ v % 2 * 2 ^ u) ||| (s / 2 ^ u % 2 * 2 ^ v)) ^^^ fl
theorem pa_ren_e : ∀ u, u < 3 → ∀ v, v < 3 → ∀ fl, fl < 8 → ∀ s, s < 8 → ((((nI s &&& (((1 : Int32) <<< (nI u &&& 31)) ^^^ (-1))) &&& (((1 : Int32) <<< (nI v &&& 31)) ^^^ (-1))) ||| (((nI s >>> (nI v &&& 31)) &&& 1) <<< (nI u &&& 31))) ||| (((nI s >>> (nI u &&& 31)) &&& 1) <<< (nI v &&& 31))) ^^^ nI fl = nI (pa_ren u v fl s) ∧ pa_ren u v fl s < 8 := by decide +kernel
theorem pa_renamed {post : Int32 → Prop} {s u v fl : Nat} (hs : s < 8) (hu : u < 3) (hv : v < 3) (hf : fl < 8) (hp : post (nI (pa_ren u v fl s))) : wpX_renamed post (nI s) (nI u) (nI v) (nI fl) := by
  have e := (pa_ren_e u hu v hv fl hf s hs).1
  refine nm_e (nm_e (nm_e ?_))
  rw [e]
  exact hp
section
variable {d us : Nat} {st c cn bk : Nat → Nat} {iu mk dr md co dt se : Nat → Int32}
theorem pa_joined {post : Int32 → Prop} {x y s an : Nat} (hx : x < 520) (hy : y < 520) (hs : s < 8) (han : an ≤ 1) (hp : post (nI (pa_jo an (c (8 * x + s)) (c (8 * y + s))))) : wpX_joined post ((nI d), (nI us), (pa_A st), (pa_A c), iu, mk, (pa_A cn), (pa_A bk), dr, md, co, dt, se) (nI x) (nI y) (nI s) (nI an) := by
  unfold pa_jo at hp
  refine And.intro (pa_in8 hx hs) (nm_r (pa_c8 c hx hs) ⟨pa_in8 hy hs, nm_r (pa_c8 c hy hs) (pk_eq an 1 (fun h => ?_) (fun h => ?_))⟩)
  · rw [if_pos h] at hp
    rw [pa_nor]; exact hp
  · rw [if_neg h] at hp
    rw [nx_and]; exact hp
theorem pa_setNode {post : Int32 → SX → Prop} {f g b an : Nat} {F G : Nat → Nat → Nat} (H : pa_HI us c iu cn bk) (hus : us + 9 ≤ 520) (hb : ∀ s, s < 8 → s ^^^ b < 8) (han : an ≤ 1) (hF : pa_V2 c iu f F) (hG : pa_V2 c iu g G)
    (hp : pa_K2 us c iu (pa_sn an b F G) (fun r us' c' iu' cn' bk' dr' se' => post (nI r) ((nI d), (nI us'), (pa_A st), (pa_A c'), iu', mk, (pa_A cn'), (pa_A bk'), dr', md, co, dt, se'))) : wpX_setNode post ((nI d), (nI us), (pa_A st), (pa_A c), iu, mk, (pa_A cn), (pa_A bk), dr, md, co, dt, se) (nI f) (nI g) (nI b) (nI an) := by
  refine Exists.intro 9 (pa_mk2 H hus (fun n k2 us c iu cn bk se dr => wX_setNode_3 post (nI f) (nI g) (nI b) (nI an) n (nI k2) (nI d) (nI us) (pa_A st) (pa_A c) iu mk (pa_A cn) (pa_A bk) dr md co dt se) (fun n us c iu cn bk se dr h => br_t pa_g8 h) (fun r us c iu cn bk dr se h => h) (fun n k2 us' c' iu' cn' bk' se' dr' hk H' hu' he' hc' => ?_) hp)
  have vf := pa_V2_ex he' hF
  have vg := pa_V2_ex he' hG
  have f5 := vf.1.2.1
  have g5 := vg.1.2.1
  have hkb := hb k2 hk
  have xw := vf.2 k2 hk
  have xx := vf.2 (k2 ^^^ b) hkb
  have xy := vg.2 k2 hk
  have xz := vg.2 (k2 ^^^ b) hkb
  have le : ∀ t, t < 8 → pa_sn an b F G k2 t ≤ 1 := fun t ht => pa_jo_le (pa_jo_le (pa_jo_le (pa_jo_le (xw.2 t ht).2 (xx.2 t ht).2) (pa_jo_le (xy.2 t ht).2 (xz.2 t ht).2)) (pa_jo_le (xw.2 _ (hb t ht)).2 (xx.2 _ (hb t ht)).2)) (pa_jo_le (xy.2 _ (hb t ht)).2 (xz.2 _ (hb t ht)).2)
  refine br_f (pa_n8 hk) ?_
  rw [nx_xor k2 b]
  refine ⟨pa_in8 f5 hk, nm_r (pa_c8 c' f5 hk) ⟨pa_in8 f5 hkb, nm_r (pa_c8 c' f5 hkb) ⟨pa_in8 g5 hk, nm_r (pa_c8 c' g5 hk) ⟨pa_in8 g5 hkb, nm_r (pa_c8 c' g5 hkb) ⟨9, ?_⟩⟩⟩⟩⟩
  refine pa_fill8 (fun q j dr => wX_setNode_73 post (wX_setNode_3 post (nI f) (nI g) (nI b) (nI an) n) (nI f) (nI g) (nI b) (nI an) (nI k2) (nI (c' (8 * f + k2))) (nI (c' (8 * f + (k2 ^^^ b)))) (nI (c' (8 * g + k2))) (nI (c' (8 * g + (k2 ^^^ b)))) (nI d) (nI us') q (nI j) (pa_A st) (pa_A c') iu' mk (pa_A cn') (pa_A bk') dr md co dt se') (pa_sn an b F G k2) (fun q dr hd => ?_) (fun q j dr hj ih => ?_) 9 0 dr' (by omega) (by omega) (fun s hs => by omega)
  · refine br_t pa_g8 (pa_intern H' hu' (f := pa_sn an b F G k2) (fun s hs => ⟨hd s hs, Nat.lt_of_le_of_lt (le s hs) (by omega)⟩) (fun r us'' c'' iu'' cn'' bk'' a1 a2 a3 a4 a5 => ?_))
    exact ⟨vp_in_nI hk (by omega), nm_r (e' := upd se' k2 (nI r)) (by rw [nI_clamp (by omega)]) (nm_r (nI_1 k2) (hc' r us'' c'' iu'' cn'' bk'' dr a1 a3 a2 ⟨a4, fun s hs => ⟨a5 s hs, le s hs⟩⟩))⟩
  · have hjb := hb j hj
    have ih' : upd dr j (nI (pa_sn an b F G k2 j)) = upd dr j (nI (pa_jo an (pa_jo an (pa_jo an (pa_jo an (c' (8 * c' (8 * f + k2) + j)) (c' (8 * c' (8 * f + (k2 ^^^ b)) + j))) (pa_jo an (c' (8 * c' (8 * g + k2) + j)) (c' (8 * c' (8 * g + (k2 ^^^ b)) + j)))) (pa_jo an (c' (8 * c' (8 * f + k2) + (j ^^^ b))) (c' (8 * c' (8 * f + (k2 ^^^ b)) + (j ^^^ b))))) (pa_jo an (c' (8 * c' (8 * g + k2) + (j ^^^ b))) (c' (8 * c' (8 * g + (k2 ^^^ b)) + (j ^^^ b)))))) := by
      rw [(xw.2 j hj).1, (xx.2 j hj).1, (xy.2 j hj).1, (xz.2 j hj).1, (xw.2 _ hjb).1, (xx.2 _ hjb).1, (xy.2 _ hjb).1, (xz.2 _ hjb).1]
      rfl
    rw [ih'] at ih
    refine br_f (pa_n8 hj) ?_
    rw [nx_xor j b]
    refine pa_joined xw.1.2.1 xx.1.2.1 hj han (pa_joined xy.1.2.1 xz.1.2.1 hj han (pa_joined xw.1.2.1 xx.1.2.1 hjb han (pa_joined xy.1.2.1 xz.1.2.1 hjb han ?_)))
    refine pk_eq an 1 (fun h => ?_) (fun h => ?_)
    · refine ⟨vp_in_nI hj (by omega), nm_r ?_ (nm_r (nI_1 j) ih)⟩
      rw [nI_clamp (by omega), pa_nor, pa_nor, pa_nor]
      simp only [pa_jo, if_pos h]
    · refine ⟨vp_in_nI hj (by omega), nm_r ?_ (nm_r (nI_1 j) ih)⟩
      rw [nI_clamp (by omega), nx_and, nx_and, nx_and]
      simp only [pa_jo, if_neg h]
theorem pa_renNode {post : Int32 → SX → Prop} {f u v fl : Nat} {F : Nat → Nat → Nat} (H : pa_HI us c iu cn bk) (hus : us + 9 ≤ 520) (hu3 : u < 3) (hv3 : v < 3) (hfl : fl < 8) (hF : pa_V2 c iu f F)
    (hp : pa_K2 us c iu (fun s t => F (pa_ren u v fl s) (pa_ren u v fl t)) (fun r us' c' iu' cn' bk' dr' se' => post (nI r) ((nI d), (nI us'), (pa_A st), (pa_A c'), iu', mk, (pa_A cn'), (pa_A bk'), dr', md, co, dt, se'))) : wpX_renamedNode post ((nI d), (nI us), (pa_A st), (pa_A c), iu, mk, (pa_A cn), (pa_A bk), dr, md, co, dt, se) (nI f) (nI u) (nI v) (nI fl) := by
  refine Exists.intro 9 (pa_mk2 H hus (fun n k2 us c iu cn bk se dr => wX_renamedNode_3 post (nI f) (nI u) (nI v) (nI fl) n (nI k2) (nI d) (nI us) (pa_A st) (pa_A c) iu mk (pa_A cn) (pa_A bk) dr md co dt se) (fun n us c iu cn bk se dr h => br_t pa_g8 h) (fun r us c iu cn bk dr se h => h) (fun n k2 us' c' iu' cn' bk' se' dr' hk H' hu' he' hc' => ?_) hp)
  have vf := pa_V2_ex he' hF
  have f5 := vf.1.2.1
  have rl : ∀ s, s < 8 → pa_ren u v fl s < 8 := fun s hs => (pa_ren_e u hu3 v hv3 fl hfl s hs).2
  have xf := vf.2 _ (rl k2 hk)
  refine br_f (pa_n8 hk) (pa_renamed hk hu3 hv3 hfl ⟨pa_in8 f5 (rl k2 hk), nm_r (pa_c8 c' f5 (rl k2 hk)) ⟨9, ?_⟩⟩)
  refine pa_fill8 (fun q j dr => wX_renamedNode_34 post (wX_renamedNode_3 post (nI f) (nI u) (nI v) (nI fl) n) (nI f) (nI u) (nI v) (nI fl) (nI k2) (nI (c' (8 * f + pa_ren u v fl k2))) (nI d) (nI us') q (nI j) (pa_A st) (pa_A c') iu' mk (pa_A cn') (pa_A bk') dr md co dt se') (fun t => F (pa_ren u v fl k2) (pa_ren u v fl t)) (fun q dr hd => ?_) (fun q j dr hj ih => ?_) 9 0 dr' (by omega) (by omega) (fun s hs => by omega)
  · refine br_t pa_g8 (pa_intern H' hu' (f := fun t => F (pa_ren u v fl k2) (pa_ren u v fl t)) (fun s hs => ⟨hd s hs, Nat.lt_of_le_of_lt (xf.2 _ (rl s hs)).2 (by omega)⟩) (fun r us'' c'' iu'' cn'' bk'' a1 a2 a3 a4 a5 => ?_))
    exact ⟨vp_in_nI hk (by omega), nm_r (e' := upd se' k2 (nI r)) (by rw [nI_clamp (by omega)]) (nm_r (nI_1 k2) (hc' r us'' c'' iu'' cn'' bk'' dr a1 a3 a2 ⟨a4, fun s hs => ⟨a5 s hs, (xf.2 _ (rl s hs)).2⟩⟩))⟩
  · refine br_f (pa_n8 hj) (pa_renamed hj hu3 hv3 hfl ⟨pa_in8 xf.1.2.1 (rl j hj), vp_in_nI hj (by omega), nm_r (e' := upd dr j (nI (F (pa_ren u v fl k2) (pa_ren u v fl j)))) ?_ (nm_r (nI_1 j) ih)⟩)
    rw [nI_clamp (n := j) (by omega), pa_c8 c' xf.1.2.1 (rl j hj), (xf.2 _ (rl j hj)).1]
end
end
section
/-- one round of marking: nothing is lost, and the children of what was marked are marked -/
def pa_St (c : Nat → Nat) (mk mk' : Nat → Int32) : Prop := (∀ n, ¬ mk n = 0 → ¬ mk' n = 0) ∧ (∀ n s, 2 ≤ n → n < 520 → s < 8 → ¬ mk n = 0 → ¬ mk' (c (8 * n + s)) = 0)
def pa_Cl (c : Nat → Nat) (R : Nat → Prop) : Prop := ∀ n s, 2 ≤ n → n < 520 → s < 8 → R n → R (c (8 * n + s))
/-- a root and what lies below it, but for the ends -/
def pa_Rc (c : Nat → Nat) (r x : Nat) : Prop := x = r ∨ (∃ s, s < 8 ∧ x = c (8 * r + s)) ∨ ∃ s t, s < 8 ∧ t < 8 ∧ x = c (8 * c (8 * r + s) + t)
def pa_Lr (c : Nat → Nat) (r : Nat) : List Nat := r :: (List.range 8).flatMap (fun s => c (8 * r + s) :: (List.range 8).map (fun t => c (8 * c (8 * r + s) + t)))
theorem pa_Lr_len (c : Nat → Nat) (r : Nat) : (pa_Lr c r).length = 73 := rfl
theorem pa_Rc_mem {c : Nat → Nat} {r x : Nat} (h : pa_Rc c r x) : x ∈ pa_Lr c r := by
  unfold pa_Lr
  rcases h with h | ⟨s, hs, h⟩ | ⟨s, t, hs, ht, h⟩
  · rw [h]; exact List.mem_cons_self ..
  · refine List.mem_cons_of_mem _ (List.mem_flatMap.mpr ⟨s, List.mem_range.mpr hs, ?_⟩)
    rw [h]; exact List.mem_cons_self ..
  · refine List.mem_cons_of_mem _ (List.mem_flatMap.mpr ⟨s, List.mem_range.mpr hs, List.mem_cons_of_mem _ (List.mem_map.mpr ⟨t, List.mem_range.mpr ht, h.symm⟩)⟩)
def pa_LL (c st : Nat → Nat) : Nat → List Nat
  | 0 => []
  | d + 1 => pa_LL c st d ++ pa_Lr c (st d)
theorem pa_LL_len (c st : Nat → Nat) : ∀ d, (pa_LL c st d).length = 73 * d
  | 0 => rfl
  | d + 1 => by
    show (pa_LL c st d ++ pa_Lr c (st d)).length = _
    rw [List.length_append, pa_LL_len c st d, pa_Lr_len]
    omega
theorem pa_LL_mem {c st : Nat → Nat} {p x : Nat} (h : x ∈ pa_Lr c (st p)) : ∀ {d}, p < d → x ∈ pa_LL c st d
  | 0, q => by omega
  | d + 1, q => by
    show x ∈ pa_LL c st d ++ pa_Lr c (st d)
    rw [List.mem_append]
    by_cases z : p = d
    · rw [z] at h
      exact Or.inr h
    · exact Or.inl (pa_LL_mem h (by omega))
theorem pa_Rc_cl {c : Nat → Nat} {iu : Nat → Int32} {r n s : Nat} {F : Nat → Nat → Nat → Nat} (hr : pa_V3 c iu r F) (h : pa_Rc c r n) (hs : s < 8) : c (8 * n + s) < 2 ∨ pa_Rc c r (c (8 * n + s)) := by
  rcases h with h | ⟨s1, h1, h⟩ | ⟨s1, s2, h1, h2, h⟩
  · rw [h]
    exact Or.inr (Or.inr (Or.inl ⟨s, hs, rfl⟩))
  · rw [h]
    exact Or.inr (Or.inr (Or.inr ⟨s1, s, h1, hs, rfl⟩))
  · rw [h]
    have := pa_V3_at hr h1 h2 hs
    omega
theorem pa_V3_keep {c : Nat → Nat} {iu iu' : Nat → Int32} {r : Nat} {F : Nat → Nat → Nat → Nat} (hr : pa_V3 c iu r F) (h : ∀ n, pa_U iu n → pa_Rc c r n → pa_U iu' n) : pa_V3 c iu' r F := by
  refine ⟨h r hr.1 (Or.inl rfl), fun s hs => ?_⟩
  have a := hr.2 s hs
  refine ⟨h _ a.1 (Or.inr (Or.inl ⟨s, hs, rfl⟩)), fun t ht => ?_⟩
  have b := a.2 t ht
  exact ⟨h _ b.1 (Or.inr (Or.inr ⟨s, t, hs, ht, rfl⟩)), b.2⟩
theorem pa_St_all {c : Nat → Nat} {iu : Nat → Int32} {r : Nat} {F : Nat → Nat → Nat → Nat} {m0 m1 m2 m3 : Nat → Int32} (hr : pa_V3 c iu r F) (h0 : ¬ m0 r = 0) (h1 : pa_St c m0 m1) (h2 : pa_St c m1 m2) (h3 : pa_St c m2 m3) {n : Nat} (h : pa_Rc c r n) : ¬ m3 n = 0 := by
  rcases h with h | ⟨s1, q1, h⟩ | ⟨s1, s2, q1, q2, h⟩
  · rw [h]
    exact h3.1 _ (h2.1 _ (h1.1 _ h0))
  · rw [h]
    exact h3.1 _ (h2.1 _ (h1.2 r s1 hr.1.1 hr.1.2.1 q1 h0))
  · rw [h]
    have a := (hr.2 s1 q1).1
    exact h3.1 _ (h2.2 _ s2 a.1 a.2.1 q2 (h1.2 r s1 hr.1.1 hr.1.2.1 q1 h0))
section
variable {d us : Nat} {st c cn bk : Nat → Nat} {iu mk dr md co dt se : Nat → Int32}
theorem pa_clear {post : SX → Prop} (hp : ∀ mk', (∀ n, n < 520 → mk' n = 0) → post ((nI d), (nI us), (pa_A st), (pa_A c), iu, mk', (pa_A cn), (pa_A bk), dr, md, co, dt, se)) : wpX_clearMarks post ((nI d), (nI us), (pa_A st), (pa_A c), iu, mk, (pa_A cn), (pa_A bk), dr, md, co, dt, se) := by
  have key : ∀ n k mk, k ≤ 520 → 520 < n + k → (∀ j, j < k → mk j = 0) → wX_clearMarks_2 post (nI d) (nI us) n (nI k) (pa_A st) (pa_A c) iu mk (pa_A cn) (pa_A bk) dr md co dt se := by
    intro n
    induction n with
    | zero => intro k mk hk hn; omega
    | succ n ih =>
      intro k mk hk hn hz
      refine pk_le 520 k (fun h => hp mk (fun j hj => hz j (by omega))) (fun h => ?_)
      refine ⟨vp_in_nI h (by omega), nm_r (e' := upd mk k 0) (by rw [nI_clamp (by omega)]; rfl) (nm_r (nI_1 k) (ih (k + 1) _ (by omega) (by omega) (fun j hj => ?_)))⟩
      by_cases z : j = k
      · rw [z, pk_us]
      · rw [pk_un z]; exact hz j (by omega)
  exact Exists.intro 521 (key 521 0 mk (by omega) (by omega) (fun j hj => by omega))
theorem pa_sp10 {post : SX → Prop} {J : Int32 → (Nat → Int32) → (Nat → Int32) → (Nat → Int32) → (Nat → Int32) → (Nat → Int32) → (Nat → Int32) → (Nat → Int32) → (Nat → Int32) → (Nat → Int32) → (Nat → Int32) → (Nat → Int32) → Prop} {x1 : Int32} {R : Nat → Prop} {m0 : Nat → Int32}
    (hc : ∀ i, c i < 520) (hR : pa_Cl c R) (hJ : ∀ m', pa_St c m0 m' → (∀ n, n < 520 → ¬ m' n = 0 → R n) → J (x1 + 1) (pa_A st) (pa_A c) iu m' (pa_A cn) (pa_A bk) dr md co dt se) :
    ∀ n k mk, 16 ≤ k → k ≤ 4160 → 4160 < n + k → (∀ j, ¬ m0 j = 0 → ¬ mk j = 0) → (∀ j, 16 ≤ j → j < k → ¬ m0 (j / 8) = 0 → ¬ mk (c j) = 0) → (∀ j, j < 520 → ¬ mk j = 0 → R j) → wX_spreadMarks_10 post J x1 (nI d) (nI us) n (nI k) (pa_A st) (pa_A c) iu mk (pa_A cn) (pa_A bk) dr md co dt se := by
  intro n
  induction n with
  | zero => intro k mk hk hk2 hn; omega
  | succ n ih =>
    intro k mk hk hk2 hn a1 a2 a3
    refine pk_le 4160 k (fun h => nm_e (hJ mk ⟨a1, fun m s hm2 hm hs q => ?_⟩ a3)) (fun h => ?_)
    · refine a2 (8 * m + s) (by omega) (by omega) ?_
      rw [show (8 * m + s) / 8 = m from by omega]
      exact q
    · have e8 : nI k / 8 = nI (k / 8) := pk_div (d := 8) (by omega) (by omega) (by omega)
      rw [e8]
      refine ⟨by decide, vp_in_nI (by omega) (by omega), ?_⟩
      by_cases z : mk (k / 8) = 0
      · refine br_t ((pa_ck mk (by omega)).trans z) (nm_r (nI_1 k) (ih (k + 1) mk (by omega) (by omega) (by omega) a1 (fun j hj1 hj2 q => ?_) a3))
        by_cases w : j = k
        · rw [w] at q
          exact absurd z (a1 _ q)
        · exact a2 j hj1 (by omega) q
      · have ck := hc k
        have mono : ∀ j, ¬ mk j = 0 → ¬ upd mk (c k) 1 j = 0 := fun j q => by
          by_cases w : j = c k
          · rw [w, pk_us]; decide
          · rw [pk_un w]; exact q
        refine br_f (fun q => z ((pa_ck mk (by omega)).symm.trans q)) ⟨vp_in_nI h (by omega), ?_⟩
        rw [pa_cA c (by omega)]
        refine ⟨vp_in_nI ck (by omega), nm_r (e' := upd mk (c k) 1) (by rw [nI_clamp (by omega)]; rfl) (nm_r (nI_1 k) (ih (k + 1) _ (by omega) (by omega) (by omega) (fun j q => mono j (a1 j q)) (fun j hj1 hj2 q => ?_) (fun j hj q => ?_)))⟩
        · by_cases w : j = k
          · rw [w, pk_us]; decide
          · exact mono _ (a2 j hj1 (by omega) q)
        · by_cases w : j = c k
          · have r8 := hR (k / 8) (k % 8) (by omega) (by omega) (by omega) (a3 (k / 8) (by omega) z)
            rw [show 8 * (k / 8) + k % 8 = k from by omega] at r8
            rw [w]; exact r8
          · rw [pk_un w] at q
            exact a3 j hj q
theorem pa_spread {post : SX → Prop} {R : Nat → Prop} (hc : ∀ i, c i < 520) (hR : pa_Cl c R) (h0 : ∀ n, n < 520 → ¬ mk n = 0 → R n)
    (hp : ∀ m1 m2 m3, pa_St c mk m1 → pa_St c m1 m2 → pa_St c m2 m3 → (∀ n, n < 520 → ¬ m3 n = 0 → R n) → post ((nI d), (nI us), (pa_A st), (pa_A c), iu, m3, (pa_A cn), (pa_A bk), dr, md, co, dt, se)) : wpX_spreadMarks post ((nI d), (nI us), (pa_A st), (pa_A c), iu, mk, (pa_A cn), (pa_A bk), dr, md, co, dt, se) := by
  have go : ∀ (m : Nat → Int32) (j : Int32) (n : Nat), (∀ n, n < 520 → ¬ m n = 0 → R n) → ¬ 3 ≤ j → (∀ m', pa_St c m m' → (∀ n, n < 520 → ¬ m' n = 0 → R n) → wX_spreadMarks_2 post (nI d) (nI us) n (j + 1) (pa_A st) (pa_A c) iu m' (pa_A cn) (pa_A bk) dr md co dt se) → wX_spreadMarks_2 post (nI d) (nI us) (n + 1) j (pa_A st) (pa_A c) iu m (pa_A cn) (pa_A bk) dr md co dt se := by
    intro m j n hm hj hJ
    exact br_f hj ⟨4145, pa_sp10 (m0 := m) hc hR hJ 4145 16 m (by omega) (by omega) (by omega) (fun _ q => q) (fun i h1 h2 => by omega) hm⟩
  refine Exists.intro (0 + 1 + 1 + 1 + 1) (go mk 0 _ h0 (by decide) (fun m1 a1 b1 => go m1 _ _ b1 (by decide) (fun m2 a2 b2 => go m2 _ _ b2 (by decide) (fun m3 a3 b3 => ?_))))
  exact br_t (by decide) (hp m1 m2 m3 a1 a2 a3 b3)
end
end
section
section
variable {d us : Nat} {st c cn bk : Nat → Nat} {iu mk dr md co dt se : Nat → Int32}
theorem pa_kept {post : Int32 → SX → Prop} : ∀ (l lk : List Nat) (cn : Nat → Nat) (kp h k n : Nat), pa_Ch cn h l → pa_Ch cn kp lk → (l ++ lk).Nodup → (∀ x, x ∈ l → 2 ≤ x ∧ x < 520) → k + l.length ≤ 520 → l.length < n →
    (∀ r cn' lk', pa_Ch cn' r lk' → lk'.Nodup → (∀ x, x ∈ lk' ↔ (x ∈ l ∧ ¬ mk x = 0) ∨ x ∈ lk) → (∀ x, x ∉ l → cn' x = cn x) → post (nI r) ((nI d), (nI us), (pa_A st), (pa_A c), iu, mk, (pa_A cn'), (pa_A bk), dr, md, co, dt, se)) →
    wX_keptChain_7 post (nI d) (nI us) n (nI kp) (nI h) (nI k) (pa_A st) (pa_A c) iu mk (pa_A cn) (pa_A bk) dr md co dt se
  | [], lk, cn, kp, h, k, 0, _, _, _, _, _, q, _ => by simp at q
  | [], lk, cn, kp, h, k, n + 1, h1, h2, h3, _, _, _, hp => by
    have e : h = 0 := h1
    subst e
    have z := hp kp cn lk h2 h3 (fun x => ⟨Or.inr, fun w => w.elim (fun w => absurd w.1 (by simp)) id⟩) (fun _ _ => rfl)
    exact br_c (fun _ => z) (fun _ => br_t nI_0 z)
  | x :: l, lk, cn, kp, h, k, 0, _, _, _, _, _, q, _ => by simp at q
  | x :: l, lk, cn, kp, h, k, n + 1, h1, h2, h3, h4, h5, h6, hp => by
    obtain ⟨rfl, ht⟩ := h1
    rw [List.length_cons] at h5 h6
    obtain ⟨x2, x5⟩ := h4 h (List.mem_cons_self ..)
    have h3' : (h :: (l ++ lk)).Nodup := h3
    obtain ⟨nm, nd⟩ := List.nodup_cons.mp h3'
    have nl : h ∉ l := fun q => nm (List.mem_append.mpr (Or.inl q))
    have nk : h ∉ lk := fun q => nm (List.mem_append.mpr (Or.inr q))
    have h4' : ∀ y, y ∈ l → 2 ≤ y ∧ y < 520 := fun y hy => h4 y (List.mem_cons_of_mem _ hy)
    refine br_f (nI_ge (b := 520) (by omega) (by decide)) (br_f (nI_ne0 (by omega) (by omega)) ⟨vp_in_nI x5 (by omega), nm_r (pa_cA cn (by omega)) ⟨vp_in_nI x5 (by omega), ?_⟩⟩)
    by_cases z : mk h = 0
    · refine br_t ((pa_ck mk (by omega)).trans z) (nm_r (nI_1 k) (pa_kept l lk cn kp (cn h) (k + 1) n ht h2 nd h4' (by omega) (by omega) (fun r cn' lk' a1 a2 a3 a4 => hp r cn' lk' a1 a2 (fun y => ?_) (fun y hy => a4 y (fun q => hy (List.mem_cons_of_mem _ q))))))
      rw [a3 y, List.mem_cons]
      constructor
      · exact fun w => w.elim (fun w => Or.inl ⟨Or.inr w.1, w.2⟩) Or.inr
      · intro w
        rcases w with ⟨w | w, q⟩ | w
        · rw [w] at q
          exact absurd z q
        · exact Or.inl ⟨w, q⟩
        · exact Or.inr w
    · refine br_f (fun q => z ((pa_ck mk (by omega)).symm.trans q)) ⟨vp_in_nI x5 (by omega), nm_r (e' := pa_A (pa_up cn h kp)) ?_ (nm_r (nI_1 k) (pa_kept l (h :: lk) (pa_up cn h kp) h (cn h) (k + 1) n ?_ ?_ ?_ h4' (by omega) (by omega) (fun r cn' lk' a1 a2 a3 a4 => hp r cn' lk' a1 a2 (fun y => ?_) (fun y hy => ?_))))⟩
      · rw [nI_clamp (n := h) (by omega)]
        exact pa_upA cn h kp
      · exact pa_Ch_fr (fun y hy => pa_up_n (fun q => nl (q ▸ hy))) ht
      · refine ⟨rfl, ?_⟩
        rw [pa_up_s]
        exact pa_Ch_fr (fun y hy => pa_up_n (fun q => nk (q ▸ hy))) h2
      · exact (List.perm_middle.nodup_iff).mpr h3'
      · rw [a3 y, List.mem_cons, List.mem_cons]
        constructor
        · intro w
          rcases w with w | w | w
          · exact Or.inl ⟨Or.inr w.1, w.2⟩
          · exact Or.inl ⟨Or.inl w, by rw [w]; exact z⟩
          · exact Or.inr w
        · intro w
          rcases w with ⟨w | w, q⟩ | w
          · exact Or.inr (Or.inl w)
          · exact Or.inl ⟨w, q⟩
          · exact Or.inr (Or.inr w)
      · rw [List.mem_cons] at hy
        rw [a4 y (fun q => hy (Or.inr q)), pa_up_n (fun q => hy (Or.inl q))]
theorem pa_keptC {post : Int32 → SX → Prop} {l : List Nat} {h : Nat} (h1 : pa_Ch cn h l) (h2 : l.Nodup) (h3 : ∀ x, x ∈ l → 2 ≤ x ∧ x < 520)
    (hp : ∀ r cn' lk', pa_Ch cn' r lk' → lk'.Nodup → (∀ x, x ∈ lk' ↔ x ∈ l ∧ ¬ mk x = 0) → (∀ x, x ∉ l → cn' x = cn x) → post (nI r) ((nI d), (nI us), (pa_A st), (pa_A c), iu, mk, (pa_A cn'), (pa_A bk), dr, md, co, dt, se)) : wpX_keptChain post ((nI d), (nI us), (pa_A st), (pa_A c), iu, mk, (pa_A cn), (pa_A bk), dr, md, co, dt, se) (nI h) := by
  have len := pa_ls_len h2 (fun x hx => (h3 x hx).2)
  refine Exists.intro (l.length + 1) (pa_kept l [] cn 0 h 0 (l.length + 1) h1 rfl (by rw [List.append_nil]; exact h2) h3 (by omega) (by omega) (fun r cn' lk' a1 a2 a3 a4 => hp r cn' lk' a1 a2 (fun x => ?_) a4))
  rw [a3 x]
  exact ⟨fun w => w.elim id (fun w => absurd w (by simp)), Or.inl⟩
theorem pa_m52 {post : SX → Prop} {M : Nat → Nat → Prop} (hM : ∀ k x, M k x → 2 ≤ x ∧ x < 520) (hdj : ∀ k k' x, M k x → M k' x → k = k')
    (hp : ∀ cn' bk', pa_LS cn' bk' (fun k x => M k x ∧ ¬ mk x = 0) → ∃ n87, wX_makeRoom_87 post (nI d) n87 2 2 (pa_A st) (pa_A c) iu mk (pa_A cn') (pa_A bk') dr md co dt se) :
    ∀ n key cn bk, key ≤ 64 → 64 < n + key → pa_LS cn bk (fun k x => M k x ∧ (k < key → ¬ mk x = 0)) → wX_makeRoom_52 post n (nI key) (nI d) (nI us) (pa_A st) (pa_A c) iu mk (pa_A cn) (pa_A bk) dr md co dt se := by
  intro n
  induction n with
  | zero => intro key cn bk hk hn; omega
  | succ n ih =>
    intro key cn bk hk hn hl
    obtain ⟨ls, hl⟩ := hl
    refine pk_le 64 key (fun h => ?_) (fun h => ?_)
    · refine hp cn bk ⟨ls, fun k hk' => ⟨(hl k hk').1, (hl k hk').2.1, fun x => ?_⟩⟩
      rw [(hl k hk').2.2 x]
      exact ⟨fun w => ⟨w.1, w.2 (by omega)⟩, fun w => ⟨w.1, fun _ => w.2⟩⟩
    · obtain ⟨q1, q2, q3⟩ := hl key h
      refine ⟨vp_in_nI h (by omega), ?_⟩
      rw [pa_cA bk (by omega)]
      refine pa_keptC q1 q2 (fun x hx => hM key x ((q3 x).mp hx).1) (fun r cn' lk' a1 a2 a3 a4 => ?_)
      refine ⟨vp_in_nI h (by omega), nm_r (e' := pa_A (pa_up bk key r)) (by rw [nI_clamp (n := key) (by omega)]; exact pa_upA bk key r) (nm_r (nI_1 key) (ih (key + 1) cn' (pa_up bk key r) (by omega) (by omega) ?_))⟩
      refine ⟨fun k => if k = key then lk' else ls k, fun k hk' => ?_⟩
      by_cases z : k = key
      · subst z
        simp only [↓reduceIte]
        rw [pa_up_s]
        refine ⟨a1, a2, fun x => ?_⟩
        rw [a3 x, q3 x]
        exact ⟨fun w => ⟨w.1.1, fun _ => w.2⟩, fun w => ⟨⟨w.1, fun _ => w.2 (by omega)⟩, w.2 (by omega)⟩⟩
      · simp only [if_neg z]
        rw [pa_up_n z]
        obtain ⟨p1, p2, p3⟩ := hl k hk'
        refine ⟨pa_Ch_fr (fun x hx => a4 x (fun q => z (hdj k key x ((p3 x).mp hx).1 ((q3 x).mp q).1))) p1, p2, fun x => ?_⟩
        rw [p3 x]
        exact ⟨fun w => ⟨w.1, fun _ => w.2 (by omega)⟩, fun w => ⟨w.1, fun _ => w.2 (by omega)⟩⟩
theorem pa_m122 {post : SX → Prop} {J : Int32 → Int32 → (Nat → Int32) → (Nat → Int32) → (Nat → Int32) → (Nat → Int32) → (Nat → Int32) → (Nat → Int32) → (Nat → Int32) → (Nat → Int32) → (Nat → Int32) → (Nat → Int32) → (Nat → Int32) → Prop} {x e : Nat} (hx : x < 520) (he : e ≤ 1)
    (hJ : J (nI (x + 1)) (nI (us + e)) (pa_A st) (pa_A c) (upd iu x (nI e)) mk (pa_A cn) (pa_A bk) dr md co dt se) : wX_makeRoom_122 post J (nI x) (nI e) (nI x) (nI d) (nI us) (pa_A st) (pa_A c) iu mk (pa_A cn) (pa_A bk) dr md co dt se := by
  refine And.intro (vp_in_nI hx (by omega)) (nm_r (e' := upd iu x (nI e)) ?_ ⟨vp_in_nI hx (by omega), ?_⟩)
  · rw [nI_clamp (n := x) (by omega)]
    rcases (by omega : e = 0 ∨ e = 1) with z | z <;> rw [z] <;> rfl
  · rw [nI_clamp (n := x) (by omega), pk_us]
    rcases (by omega : e = 0 ∨ e = 1) with z | z
    · subst z
      exact br_t nI_0 (nm_r (e' := nI (us + 0)) (nI_add us 0) (nm_r (nI_1 x) hJ))
    · subst z
      exact br_f (by decide) (nm_r (nI_1 us) (nm_r (nI_1 x) hJ))
theorem pa_m87 {post : SX → Prop} {iu0 : Nat → Int32}
    (hp : ∀ us' iu', us' = pa_ct iu' 520 → ¬ iu' 0 = 0 → ¬ iu' 1 = 0 → (∀ n, 2 ≤ n → n < 520 → (¬ iu' n = 0 ↔ ¬ iu0 n = 0 ∧ ¬ mk n = 0)) → post ((nI d), (nI us'), (pa_A st), (pa_A c), iu', mk, (pa_A cn), (pa_A bk), dr, md, co, dt, se)) :
    ∀ n x us iu, 2 ≤ x → x ≤ 520 → 520 < n + x → us = pa_ct iu x → ¬ iu 0 = 0 → ¬ iu 1 = 0 → (∀ j, 2 ≤ j → j < x → (¬ iu j = 0 ↔ ¬ iu0 j = 0 ∧ ¬ mk j = 0)) → (∀ j, x ≤ j → iu j = iu0 j) → wX_makeRoom_87 post (nI d) n (nI x) (nI us) (pa_A st) (pa_A c) iu mk (pa_A cn) (pa_A bk) dr md co dt se := by
  intro n
  induction n with
  | zero => intro x us iu h2 hx hn; omega
  | succ n ih =>
    intro x us iu h2 hx hn a1 a2 a3 a4 a5
    refine pk_le 520 x (fun h => ?_) (fun h => ?_)
    · obtain rfl : x = 520 := by omega
      exact hp us iu a1 a2 a3 a4
    · have step : ∀ e, e ≤ 1 → (¬ nI e = 0 ↔ ¬ iu0 x = 0 ∧ ¬ mk x = 0) → wX_makeRoom_87 post (nI d) n (nI (x + 1)) (nI (us + e)) (pa_A st) (pa_A c) (upd iu x (nI e)) mk (pa_A cn) (pa_A bk) dr md co dt se := by
        intro e he hi
        refine ih (x + 1) (us + e) (upd iu x (nI e)) (by omega) (by omega) (by omega) ?_ ?_ ?_ (fun j hj1 hj2 => ?_) (fun j hj => ?_)
        · show _ = pa_ct (upd iu x (nI e)) x + _
          rw [pk_us, pa_ct_eq (iu := upd iu x (nI e)) (ju := iu) (n := x) (fun k hk => by rw [pk_un (by omega)]), ← a1]
          rcases (by omega : e = 0 ∨ e = 1) with z | z
          · rw [z, nI_0, if_pos rfl]
          · rw [z, if_neg (by decide)]
        · rw [pk_un (by omega)]; exact a2
        · rw [pk_un (by omega)]; exact a3
        · by_cases z : j = x
          · rw [z, pk_us]; exact hi
          · rw [pk_un z]; exact a4 j hj1 (by omega)
        · rw [pk_un (by omega)]; exact a5 j (by omega)
      refine ⟨vp_in_nI h (by omega), ?_⟩
      have e0 := a5 x (Nat.le_refl _)
      by_cases z : iu x = 0
      · refine br_t ((pa_ck iu (by omega)).trans z) ?_
        exact pa_m122 (e := 0) h (by omega) (step 0 (by omega) ⟨fun q => absurd nI_0 q, fun q => absurd (e0.symm.trans z) q.1⟩)
      · refine br_f (fun q => z ((pa_ck iu (by omega)).symm.trans q)) ⟨vp_in_nI h (by omega), ?_⟩
        by_cases w : mk x = 0
        · refine br_t ((pa_ck mk (by omega)).trans w) ?_
          exact pa_m122 (e := 0) h (by omega) (step 0 (by omega) ⟨fun q => absurd nI_0 q, fun q => absurd w q.2⟩)
        · refine br_f (fun q => w ((pa_ck mk (by omega)).symm.trans q)) ?_
          exact pa_m122 (e := 1) h (by omega) (step 1 (by omega) ⟨fun _ => ⟨fun q => z (e0.trans q), w⟩, fun _ => by decide⟩)
theorem pa_m20 {post : SX → Prop} {R : Nat → Prop} (hd : d ≤ 5) (hs : ∀ p, p < d → st p < 520 ∧ R (st p)) (hc : ∀ i, c i < 520) (hR : pa_Cl c R)
    (hp : ∀ m0 m1 m2 m3, (∀ p, p < d → ¬ m0 (st p) = 0) → pa_St c m0 m1 → pa_St c m1 m2 → pa_St c m2 m3 → (∀ n, n < 520 → ¬ m3 n = 0 → R n) → ∃ n52, wX_makeRoom_52 post n52 0 (nI d) (nI us) (pa_A st) (pa_A c) iu m3 (pa_A cn) (pa_A bk) dr md co dt se) :
    ∀ n k mk, k ≤ d → d < n + k → (∀ j, j < 520 → ¬ mk j = 0 → R j) → (∀ p, p < k → ¬ mk (st p) = 0) → wX_makeRoom_20 post (nI d) (nI us) n (nI k) (pa_A st) (pa_A c) iu mk (pa_A cn) (pa_A bk) dr md co dt se := by
  intro n
  induction n with
  | zero => intro k mk hk hn; omega
  | succ n ih =>
    intro k mk hk hn a1 a2
    refine pk_le d k (fun h => ?_) (fun h => ?_)
    · obtain rfl : k = d := by omega
      exact pa_spread hc hR a1 (fun m1 m2 m3 b1 b2 b3 b4 => hp mk m1 m2 m3 a2 b1 b2 b3 b4)
    · obtain ⟨s5, sR⟩ := hs k h
      refine ⟨vp_in_nI (by omega) (by omega), ?_⟩
      rw [pa_cA st (by omega)]
      refine ⟨vp_in_nI s5 (by omega), nm_r (e' := upd mk (st k) 1) (by rw [nI_clamp (by omega)]; rfl) (nm_r (nI_1 k) (ih (k + 1) _ (by omega) (by omega) (fun j hj q => ?_) (fun p hp' => ?_)))⟩
      · by_cases z : j = st k
        · rw [z]; exact sR
        · rw [pk_un z] at q
          exact a1 j hj q
      · by_cases z : st p = st k
        · rw [z, pk_us]; decide
        · rw [pk_un z]
          exact a2 p (by have : p ≠ k := fun q => z (by rw [q]); omega)
theorem pa_makeRoom {post : SX → Prop} {F : Nat → Nat → Nat → Nat → Nat} (H : pa_HI us c iu cn bk) (hd : d ≤ 5) (hst : ∀ p, p < d → pa_V3 c iu (st p) (F p))
    (hp : ∀ us' iu' mk' cn' bk', pa_HI us' c iu' cn' bk' → us' ≤ 440 → (∀ p, p < d → pa_V3 c iu' (st p) (F p)) → post ((nI d), (nI us'), (pa_A st), (pa_A c), iu', mk', (pa_A cn'), (pa_A bk'), dr, md, co, dt, se)) : wpX_makeRoom post ((nI d), (nI us), (pa_A st), (pa_A c), iu, mk, (pa_A cn), (pa_A bk), dr, md, co, dt, se) := by
  have H' := H
  obtain ⟨e, ⟨i0, i1⟩, hc, hu, hl⟩ := H
  have us5 : us ≤ 520 := by rw [e]; exact pa_ct_le iu 520
  refine pk_lt 520 (us + 80) (fun h => ?_) (fun h => ?_) (hy := nI_add us 80)
  · have hR : pa_Cl c (fun x => x < 2 ∨ ∃ p, p < d ∧ pa_Rc c (st p) x) := by
      intro n s n2 n5 hs hn
      rcases hn with hn | ⟨p, hpd, hn⟩
      · omega
      · rcases pa_Rc_cl (hst p hpd) hn hs with q | q
        · exact Or.inl q
        · exact Or.inr ⟨p, hpd, q⟩
    refine pa_clear (fun mk0 z0 => Exists.intro (d + 1) (pa_m20 hd (R := fun x => x < 2 ∨ ∃ p, p < d ∧ pa_Rc c (st p) x) (fun p hpd => ⟨(hst p hpd).1.2.1, Or.inr ⟨p, hpd, Or.inl rfl⟩⟩) hc hR (fun m0 m1 m2 m3 b0 b1 b2 b3 b4 => ?_) (d + 1) 0 mk0 (by omega) (by omega) (fun j hj q => absurd (z0 j hj) q) (fun p hp => by omega)))
    refine ⟨65, pa_m52 (M := fun k x => pa_U iu x ∧ pa_hk c x = k) (fun k x h => ⟨h.1.1, h.1.2.1⟩) (fun k k' x a b => a.2.symm.trans b.2) (fun cn' bk' hls => ?_) 65 0 cn bk (by omega) (by omega) ?_⟩
    · refine ⟨519, pa_m87 (iu0 := iu) (fun us' iu' g1 g2 g3 g4 => ?_) 519 2 2 iu (by omega) (by omega) (by omega) ?_ i0 i1 (fun j h1 h2 => by omega) (fun _ _ => rfl)⟩
      · have Ui : ∀ n, pa_U iu' n ↔ pa_U iu n ∧ ¬ m3 n = 0 := fun n =>
          ⟨fun w => ⟨⟨w.1, w.2.1, ((g4 n w.1 w.2.1).mp w.2.2).1⟩, ((g4 n w.1 w.2.1).mp w.2.2).2⟩, fun w => ⟨w.1.1, w.1.2.1, (g4 n w.1.1 w.1.2.1).mpr ⟨w.1.2.2, w.2⟩⟩⟩
        refine hp us' iu' m3 cn' bk' ⟨g1, ⟨g2, g3⟩, hc, ?_, ?_⟩ ?_ ?_
        · exact fun m n hm hn hs => hu m n ((Ui m).mp hm).1 ((Ui n).mp hn).1 hs
        · obtain ⟨ls, hls⟩ := hls
          refine ⟨ls, fun k hk => ⟨(hls k hk).1, (hls k hk).2.1, fun x => ?_⟩⟩
          rw [(hls k hk).2.2 x]
          dsimp only
          rw [Ui x]
          exact ⟨fun w => ⟨⟨w.1.1, w.2⟩, w.1.2⟩, fun w => ⟨⟨w.1.1, w.2⟩, w.1.2⟩⟩
        · have cnt := pa_ct_list (0 :: 1 :: pa_LL c st d) iu' 520 (fun n hn q => ?_)
          · rw [List.length_cons, List.length_cons, pa_LL_len] at cnt
            omega
          · by_cases n2 : n < 2
            · rcases (by omega : n = 0 ∨ n = 1) with w | w
              · rw [w]; exact List.mem_cons_self ..
              · rw [w]; exact List.mem_cons_of_mem _ (List.mem_cons_self ..)
            · rcases b4 n hn ((g4 n (by omega) hn).mp q).2 with w | ⟨p, hpd, w⟩
              · omega
              · exact List.mem_cons_of_mem _ (List.mem_cons_of_mem _ (pa_LL_mem (pa_Rc_mem w) hpd))
        · intro p hpd
          exact pa_V3_keep (hst p hpd) (fun n hn hr => (Ui n).mpr ⟨hn, pa_St_all (hst p hpd) (b0 p hpd) b1 b2 b3 hr⟩)
      · show 2 = (0 + (if iu 0 = 0 then 0 else 1)) + (if iu 1 = 0 then 0 else 1)
        rw [if_neg i0, if_neg i1]
    · obtain ⟨ls, hls⟩ := hl
      refine ⟨ls, fun k hk => ⟨(hls k hk).1, (hls k hk).2.1, fun x => ?_⟩⟩
      rw [(hls k hk).2.2 x]
      exact ⟨fun w => ⟨w, fun q => by omega⟩, fun w => w.1⟩
  · exact hp us iu mk cn bk H' (by omega) hst
end
end
section
def pa_ps (q : Nat → Int32) (s : Nat) : Nat → Int32
  | 0 => 0
  | v + 1 => pa_ps q s v + (if s / 2 ^ v % 2 = 1 then q v else 0)
theorem pa_bitc : ∀ s, s < 8 → ∀ v, v < 3 → (((nI s >>> (nI v &&& 31)) &&& 1) = 1 ↔ s / 2 ^ v % 2 = 1) := by decide +kernel
/-- the coefficients' sum for a column -/
def pa_dot (a b e : Int32) (s : Nat) : Int32 := ((0 + (if s / 2 ^ 0 % 2 = 1 then a else 0)) + (if s / 2 ^ 1 % 2 = 1 then b else 0)) + (if s / 2 ^ 2 % 2 = 1 then e else 0)
/-- what every maker of a root asks of its continuation -/
def pa_K3 (c : Nat → Nat) (iu : Nat → Int32) (G : Nat → Nat → Nat → Nat) (P : Nat → Nat → (Nat → Nat) → (Nat → Int32) → (Nat → Nat) → (Nat → Nat) → (Nat → Int32) → (Nat → Int32) → (Nat → Int32) → Prop) : Prop :=
  ∀ r us' c' iu' cn' bk' dr' md' se', pa_HI us' c' iu' cn' bk' → pa_Ex c iu c' iu' → pa_V3 c' iu' r G → P r us' c' iu' cn' bk' dr' md' se'
section
variable {d us : Nat} {st c cn bk : Nat → Nat} {iu mk dr md co dt se : Nat → Int32}
theorem pa_tk42 {post : SX → Prop} {J : Int32 → (Nat → Int32) → (Nat → Int32) → (Nat → Int32) → (Nat → Int32) → (Nat → Int32) → (Nat → Int32) → (Nat → Int32) → (Nat → Int32) → (Nat → Int32) → (Nat → Int32) → (Nat → Int32) → Prop} {s : Nat} {dt0 : Nat → Int32} (hs : s < 8)
    (hJ : ∀ dt', dt' s = pa_ps co s 3 → (∀ j, j ≠ s → dt' j = dt0 j) → J (nI (s + 1)) (pa_A st) (pa_A c) iu mk (pa_A cn) (pa_A bk) dr md co dt' se) :
    ∀ n v dt, v ≤ 3 → 3 < n + v → dt s = pa_ps co s v → (∀ j, j ≠ s → dt j = dt0 j) → wX_takeCoefficients_42 post J (nI s) (nI d) (nI us) n (nI v) (pa_A st) (pa_A c) iu mk (pa_A cn) (pa_A bk) dr md co dt se := by
  intro n
  induction n with
  | zero => intro v dt hv hn; omega
  | succ n ih =>
    intro v dt hv hn h1 h2
    refine pk_le 3 v (fun h => ?_) (fun h => ?_)
    · obtain rfl : v = 3 := by omega
      exact nm_r (nI_1 s) (hJ dt h1 h2)
    · refine ⟨vp_in_nI hs (by omega), ?_⟩
      have step : ∀ y, y = pa_ps co s (v + 1) → wX_takeCoefficients_42 post J (nI s) (nI d) (nI us) n (nI (v + 1)) (pa_A st) (pa_A c) iu mk (pa_A cn) (pa_A bk) dr md co (upd dt s y) se := by
        intro y hy
        refine ih (v + 1) _ (by omega) (by omega) ?_ (fun j hj => ?_)
        · rw [pk_us]; exact hy
        · rw [pk_un hj]; exact h2 j hj
      by_cases z : s / 2 ^ v % 2 = 1
      · refine br_t ((pa_bitc s hs v h).mpr z) ⟨vp_in_nI h (by omega), vp_in_nI hs (by omega), nm_r (e' := upd dt s (dt s + co v)) ?_ (nm_r (nI_1 v) (step _ ?_))⟩
        · rw [nI_clamp (n := s) (by omega), nI_clamp (n := v) (by omega)]
        · rw [h1, pa_ps, if_pos z]
      · refine br_f (fun q => z ((pa_bitc s hs v h).mp q)) ⟨vp_in_nI hs (by omega), nm_r (e' := upd dt s (dt s + 0)) ?_ (nm_r (nI_1 v) (step _ ?_))⟩
        · rw [nI_clamp (n := s) (by omega)]
        · rw [h1, pa_ps, if_neg z]
theorem pa_tk {post : SX → Prop} {a b e : Int32} (hp : ∀ co' dt', (∀ s, s < 8 → dt' s = pa_dot a b e s) → post ((nI d), (nI us), (pa_A st), (pa_A c), iu, mk, (pa_A cn), (pa_A bk), dr, md, co', dt', se)) : wpX_takeCoefficients post ((nI d), (nI us), (pa_A st), (pa_A c), iu, mk, (pa_A cn), (pa_A bk), dr, md, co, dt, se) a b e := by
  refine nm_e (nm_e (nm_e ?_))
  have key : ∀ n s dt, s ≤ 8 → 8 < n + s → (∀ j, j < s → dt j = pa_dot a b e j) → wX_takeCoefficients_24 post (nI d) (nI us) n (nI s) (pa_A st) (pa_A c) iu mk (pa_A cn) (pa_A bk) dr md (upd (upd (upd co 0 a) 1 b) 2 e) dt se := by
    intro n
    induction n with
    | zero => intro s dt hs hn; omega
    | succ n ih =>
      intro s dt hs hn h1
      refine pk_le 8 s (fun h => ?_) (fun h => ?_)
      · exact hp _ dt (fun j hj => h1 j (by omega))
      · refine ⟨vp_in_nI h (by omega), nm_r (e' := upd dt s 0) (by rw [nI_clamp (by omega)]) ⟨4, ?_⟩⟩
        refine pa_tk42 (dt0 := dt) h (fun dt' g1 g2 => ?_) 4 0 (upd dt s 0) (by omega) (by omega) (by rw [pk_us]; rfl) (fun j hj => by rw [pk_un hj])
        refine ih (s + 1) dt' (by omega) (by omega) (fun j hj => ?_)
        by_cases z : j = s
        · rw [z, g1]; rfl
        · rw [g2 j z]; exact h1 j (by omega)
  exact ⟨9, key 9 0 dt (by omega) (by omega) (fun j hj => by omega)⟩
theorem pa_push {post : SX → Prop} {r : Nat} (hd : d < 5) (hp : post ((nI (d + 1)), (nI us), (pa_A (pa_up st d r)), (pa_A c), iu, mk, (pa_A cn), (pa_A bk), dr, md, co, dt, se)) : wpX_push post ((nI d), (nI us), (pa_A st), (pa_A c), iu, mk, (pa_A cn), (pa_A bk), dr, md, co, dt, se) (nI r) := by
  refine And.intro (vp_in_nI hd (by omega)) (nm_r (e' := pa_A (pa_up st d r)) ?_ (nm_r (nI_1 d) hp))
  rw [nI_clamp (by omega)]
  exact pa_upA st d r
theorem pa_at65 {post : Int32 → SX → Prop} {k : Int32} (H : pa_HI us c iu cn bk) (hus : us ≤ 440) (hd : d < 5)
    (hp : pa_K3 c iu (fun s t w => pa_g1 (pa_c1 (pa_c1 (pa_c1 k (dt s)) (dt t)) (dt w))) (fun r us' c' iu' cn' bk' dr' md' se' => post (nI (d + 1)) ((nI (d + 1)), (nI us'), (pa_A (pa_up st d r)), (pa_A c'), iu', mk, (pa_A cn'), (pa_A bk'), dr', md', co, dt, se'))) :
    ∃ n, wX_atMost_65 post k n 0 (nI d) (nI us) (pa_A st) (pa_A c) iu mk (pa_A cn) (pa_A bk) dr md co dt se := by
  refine ⟨9, pa_l8 (σ := (Nat → Int32) × (Nat → Int32)) (fun c iu s r => pa_V2 c iu r (fun t w => pa_g1 (pa_c1 (pa_c1 (pa_c1 k (dt s)) (dt t)) (dt w)))) 9 us c iu (fun _ _ _ _ _ _ e h => pa_V2_ex e h) (fun n j us c iu cn bk md q => wX_atMost_65 post k n (nI j) (nI d) (nI us) (pa_A st) (pa_A c) iu mk (pa_A cn) (pa_A bk) q.1 md co dt q.2) ?_ ?_ 9 0 us c iu cn bk md (dr, se) (fun _ => 0) (by omega) (by omega) H (by omega) (pa_Ex_r c iu) (fun j hj => by omega)⟩
  · intro n us' c' iu' cn' bk' md' q x H' hu' he' hv'
    refine br_t pa_g8 (pa_rootOf (x := x) H' (by omega) (fun s hs => ⟨(hv' s hs).1, (hv' s hs).2.1.2.1⟩) (fun r us'' c'' iu'' cn'' bk'' dr'' a1 a2 a3 a4 a5 => pa_push hd ?_))
    exact hp r us'' c'' iu'' cn'' bk'' dr'' md' q.2 a1 (pa_Ex_t he' a2) ⟨a4, fun s hs => by rw [a5 s hs]; exact pa_V2_ex a2 (hv' s hs).2⟩
  · intro n j us' c' iu' cn' bk' md' q hj H' hu' he' hc'
    refine br_f (pa_n8 hj) ⟨vp_in_nI hj (by omega), ?_⟩
    rw [pa_ck dt (by omega)]
    exact pa_cmpNode H' (by omega) (fun r us'' c'' iu'' cn'' bk'' dr'' se'' a1 a2 a3 a4 => ⟨vp_in_nI hj (by omega), nm_r (e' := upd md' j (nI r)) (by rw [nI_clamp (by omega)]) (nm_r (nI_1 j) (hc' r us'' c'' iu'' cn'' bk'' (dr'', se'') a1 a2 a3 a4))⟩)
theorem pa_co82 {post : Int32 → SX → Prop} {m : Nat} {k : Int32} (H : pa_HI us c iu cn bk) (hus : us ≤ 440) (hd : d < 5) (h0 : 0 < m) (h7 : m ≤ 7)
    (hp : pa_K3 c iu (fun s t w => pa_g2 (pa_res (pa_res (k - dt s) (nI m) - 2 * dt t - 4 * dt w) (nI m))) (fun r us' c' iu' cn' bk' dr' md' se' => post (nI (d + 1)) ((nI (d + 1)), (nI us'), (pa_A (pa_up st d r)), (pa_A c'), iu', mk, (pa_A cn'), (pa_A bk'), dr', md', co, dt, se'))) :
    ∃ n, wX_congruent_82 post (nI m) k n 0 (nI d) (nI us) (pa_A st) (pa_A c) iu mk (pa_A cn) (pa_A bk) dr md co dt se := by
  refine ⟨9, pa_l8 (σ := (Nat → Int32) × (Nat → Int32)) (fun c iu s r => pa_V2 c iu r (fun t w => pa_g2 (pa_res (pa_res (k - dt s) (nI m) - 2 * dt t - 4 * dt w) (nI m)))) 9 us c iu (fun _ _ _ _ _ _ e h => pa_V2_ex e h) (fun n j us c iu cn bk md q => wX_congruent_82 post (nI m) k n (nI j) (nI d) (nI us) (pa_A st) (pa_A c) iu mk (pa_A cn) (pa_A bk) q.1 md co dt q.2) ?_ ?_ 9 0 us c iu cn bk md (dr, se) (fun _ => 0) (by omega) (by omega) H (by omega) (pa_Ex_r c iu) (fun j hj => by omega)⟩
  · intro n us' c' iu' cn' bk' md' q x H' hu' he' hv'
    refine br_t pa_g8 (pa_rootOf (x := x) H' (by omega) (fun s hs => ⟨(hv' s hs).1, (hv' s hs).2.1.2.1⟩) (fun r us'' c'' iu'' cn'' bk'' dr'' a1 a2 a3 a4 a5 => pa_push hd ?_))
    exact hp r us'' c'' iu'' cn'' bk'' dr'' md' q.2 a1 (pa_Ex_t he' a2) ⟨a4, fun s hs => by rw [a5 s hs]; exact pa_V2_ex a2 (hv' s hs).2⟩
  · intro n j us' c' iu' cn' bk' md' q hj H' hu' he' hc'
    refine br_f (pa_n8 hj) ⟨vp_in_nI hj (by omega), ?_⟩
    rw [pa_ck dt (by omega)]
    exact pa_residue h0 h7 (pa_resNode H' (by omega) h0 h7 (fun r us'' c'' iu'' cn'' bk'' dr'' se'' a1 a2 a3 a4 => ⟨vp_in_nI hj (by omega), nm_r (e' := upd md' j (nI r)) (by rw [nI_clamp (by omega)]) (nm_r (nI_1 j) (hc' r us'' c'' iu'' cn'' bk'' (dr'', se'') a1 a2 a3 a4))⟩))
theorem pa_co132 {post : Int32 → SX → Prop} {e : Nat} {x : Nat → Nat} {G : Nat → Nat → Nat → Nat} (H : pa_HI us c iu cn bk) (hus : us < 520) (he0 : 0 < e) (hed : e ≤ d) (hd : d ≤ 5) (hv : ∀ s, s < 8 → md s = nI (x s) ∧ pa_V2 c iu (x s) (G s))
    (hp : pa_K3 c iu G (fun r us' c' iu' cn' bk' dr' md' se' => post (nI (d - e + 1)) ((nI (d - e + 1)), (nI us'), (pa_A (pa_up st (d - e) r)), (pa_A c'), iu', mk, (pa_A cn'), (pa_A bk'), dr', md', co, dt, se'))) :
    wX_connect_132 post (nI e) (nI d) (nI d) (nI us) (pa_A st) (pa_A c) iu mk (pa_A cn) (pa_A bk) dr md co dt se := by
  refine nm_r (pk_sub hed) (pa_rootOf (x := x) H hus (fun s hs => ⟨(hv s hs).1, (hv s hs).2.1.2.1⟩) (fun r us'' c'' iu'' cn'' bk'' dr'' a1 a2 a3 a4 a5 => pa_push (by omega) ?_))
  exact hp r us'' c'' iu'' cn'' bk'' dr'' md se a1 a2 ⟨a4, fun s hs => by rw [a5 s hs]; exact pa_V2_ex a2 (hv s hs).2⟩
theorem pa_co69 {post : Int32 → SX → Prop} {kd e f g : Nat} {F G : Nat → Nat → Nat → Nat} (H : pa_HI us c iu cn bk) (hus : us ≤ 440) (hkd : kd ≤ 4) (he : e = if kd = 0 then 1 else 2) (hed : e ≤ d) (hd : d ≤ 5) (hF : pa_V3 c iu f F) (hG : pa_V3 c iu g G)
    (hp : pa_K3 c iu (fun s t w => pa_cmb kd (F s t w) (G s t w)) (fun r us' c' iu' cn' bk' dr' md' se' => post (nI (d - e + 1)) ((nI (d - e + 1)), (nI us'), (pa_A (pa_up st (d - e) r)), (pa_A c'), iu', mk, (pa_A cn'), (pa_A bk'), dr', md', co, dt, se'))) :
    ∃ n, wX_connect_69 post (nI kd) (nI g) (nI f) n 0 (nI d) (nI us) (pa_A st) (pa_A c) iu mk (pa_A cn) (pa_A bk) dr md co dt se := by
  refine ⟨9, pa_l8 (σ := (Nat → Int32) × (Nat → Int32)) (fun c iu s r => pa_V2 c iu r (fun t w => pa_cmb kd (F s t w) (G s t w))) 9 us c iu (fun _ _ _ _ _ _ e h => pa_V2_ex e h) (fun n j us c iu cn bk md q => wX_connect_69 post (nI kd) (nI g) (nI f) n (nI j) (nI d) (nI us) (pa_A st) (pa_A c) iu mk (pa_A cn) (pa_A bk) q.1 md co dt q.2) ?_ ?_ 9 0 us c iu cn bk md (dr, se) (fun _ => 0) (by omega) (by omega) H (by omega) (pa_Ex_r c iu) (fun j hj => by omega)⟩
  · intro n us' c' iu' cn' bk' md' q x H' hu' he' hv'
    have fin : wX_connect_132 post (nI e) (nI d) (nI d) (nI us') (pa_A st) (pa_A c') iu' mk (pa_A cn') (pa_A bk') q.1 md' co dt q.2 := pa_co132 (x := x) (G := fun s t w => pa_cmb kd (F s t w) (G s t w)) H' (by omega) (by rw [he]; split <;> omega) hed hd hv' (fun r us'' c'' iu'' cn'' bk'' dr'' md'' se'' a1 a2 a3 => hp r us'' c'' iu'' cn'' bk'' dr'' md'' se'' a1 (pa_Ex_t he' a2) a3)
    refine br_t pa_g8 (pk_eq kd 0 (fun h => ?_) (fun h => ?_))
    · rw [if_pos h] at he
      rw [he] at fin
      exact fin
    · rw [if_neg h] at he
      rw [he] at fin
      exact fin
  · intro n j us' c' iu' cn' bk' md' q hj H' hu' he' hc'
    have vf := pa_V3_ex he' hF
    have vg := pa_V3_ex he' hG
    refine br_f (pa_n8 hj) ⟨pa_in8 vf.1.2.1 hj, pa_in8 vg.1.2.1 hj, ?_⟩
    rw [pa_c8 c' vf.1.2.1 hj, pa_c8 c' vg.1.2.1 hj]
    exact pa_pairNode H' (by omega) hkd (vf.2 j hj) (vg.2 j hj) (fun r us'' c'' iu'' cn'' bk'' dr'' se'' a1 a2 a3 a4 => ⟨vp_in_nI hj (by omega), nm_r (e' := upd md' j (nI r)) (by rw [nI_clamp (by omega)]) (nm_r (nI_1 j) (hc' r us'' c'' iu'' cn'' bk'' (dr'', se'') a1 a2 a3 a4))⟩)
theorem pa_qu24 {post : SX → Prop} {f b an : Nat} {F : Nat → Nat → Nat → Nat} (H : pa_HI us c iu cn bk) (hus : us ≤ 440) (hb : ∀ s, s < 8 → s ^^^ b < 8) (han : an ≤ 1) (h1d : 1 ≤ d) (hd : d ≤ 5) (hF : pa_V3 c iu f F)
    (hp : pa_K3 c iu (fun s => pa_sn an b (F s) (F (s ^^^ b))) (fun r us' c' iu' cn' bk' dr' md' se' => post ((nI (d - 1 + 1)), (nI us'), (pa_A (pa_up st (d - 1) r)), (pa_A c'), iu', mk, (pa_A cn'), (pa_A bk'), dr', md', co, dt, se'))) :
    ∃ n, wX_quantify_24 post (nI an) (nI f) (nI b) n 0 (nI d) (nI us) (pa_A st) (pa_A c) iu mk (pa_A cn) (pa_A bk) dr md co dt se := by
  refine ⟨9, pa_l8 (σ := (Nat → Int32) × (Nat → Int32)) (fun c iu s r => pa_V2 c iu r (pa_sn an b (F s) (F (s ^^^ b)))) 9 us c iu (fun _ _ _ _ _ _ e h => pa_V2_ex e h) (fun n j us c iu cn bk md q => wX_quantify_24 post (nI an) (nI f) (nI b) n (nI j) (nI d) (nI us) (pa_A st) (pa_A c) iu mk (pa_A cn) (pa_A bk) q.1 md co dt q.2) ?_ ?_ 9 0 us c iu cn bk md (dr, se) (fun _ => 0) (by omega) (by omega) H (by omega) (pa_Ex_r c iu) (fun j hj => by omega)⟩
  · intro n us' c' iu' cn' bk' md' q x H' hu' he' hv'
    refine br_t pa_g8 (nm_r (pk_sub (b := 1) h1d) (pa_rootOf (x := x) H' (by omega) (fun s hs => ⟨(hv' s hs).1, (hv' s hs).2.1.2.1⟩) (fun r us'' c'' iu'' cn'' bk'' dr'' a1 a2 a3 a4 a5 => pa_push (by omega) ?_)))
    exact hp r us'' c'' iu'' cn'' bk'' dr'' md' q.2 a1 (pa_Ex_t he' a2) ⟨a4, fun s hs => by rw [a5 s hs]; exact pa_V2_ex a2 (hv' s hs).2⟩
  · intro n j us' c' iu' cn' bk' md' q hj H' hu' he' hc'
    have vf := pa_V3_ex he' hF
    refine br_f (pa_n8 hj) ?_
    rw [nx_xor j b]
    refine ⟨pa_in8 vf.1.2.1 hj, pa_in8 vf.1.2.1 (hb j hj), ?_⟩
    rw [pa_c8 c' vf.1.2.1 hj, pa_c8 c' vf.1.2.1 (hb j hj)]
    exact pa_setNode H' (by omega) hb han (vf.2 j hj) (vf.2 _ (hb j hj)) (fun r us'' c'' iu'' cn'' bk'' dr'' se'' a1 a2 a3 a4 => ⟨vp_in_nI hj (by omega), nm_r (e' := upd md' j (nI r)) (by rw [nI_clamp (by omega)]) (nm_r (nI_1 j) (hc' r us'' c'' iu'' cn'' bk'' (dr'', se'') a1 a2 a3 a4))⟩)
theorem pa_re20 {post : SX → Prop} {f u v fl : Nat} {F : Nat → Nat → Nat → Nat} (H : pa_HI us c iu cn bk) (hus : us ≤ 440) (hu3 : u < 3) (hv3 : v < 3) (hfl : fl < 8) (h1d : 1 ≤ d) (hd : d ≤ 5) (hF : pa_V3 c iu f F)
    (hp : pa_K3 c iu (fun s t w => F (pa_ren u v fl s) (pa_ren u v fl t) (pa_ren u v fl w)) (fun r us' c' iu' cn' bk' dr' md' se' => post ((nI (d - 1 + 1)), (nI us'), (pa_A (pa_up st (d - 1) r)), (pa_A c'), iu', mk, (pa_A cn'), (pa_A bk'), dr', md', co, dt, se'))) :
    ∃ n, wX_rename_20 post (nI u) (nI v) (nI fl) (nI f) n 0 (nI d) (nI us) (pa_A st) (pa_A c) iu mk (pa_A cn) (pa_A bk) dr md co dt se := by
  have rl : ∀ s, s < 8 → pa_ren u v fl s < 8 := fun s hs => (pa_ren_e u hu3 v hv3 fl hfl s hs).2
  refine ⟨9, pa_l8 (σ := (Nat → Int32) × (Nat → Int32)) (fun c iu s r => pa_V2 c iu r (fun t w => F (pa_ren u v fl s) (pa_ren u v fl t) (pa_ren u v fl w))) 9 us c iu (fun _ _ _ _ _ _ e h => pa_V2_ex e h) (fun n j us c iu cn bk md q => wX_rename_20 post (nI u) (nI v) (nI fl) (nI f) n (nI j) (nI d) (nI us) (pa_A st) (pa_A c) iu mk (pa_A cn) (pa_A bk) q.1 md co dt q.2) ?_ ?_ 9 0 us c iu cn bk md (dr, se) (fun _ => 0) (by omega) (by omega) H (by omega) (pa_Ex_r c iu) (fun j hj => by omega)⟩
  · intro n us' c' iu' cn' bk' md' q x H' hu' he' hv'
    refine br_t pa_g8 (nm_r (pk_sub (b := 1) h1d) (pa_rootOf (x := x) H' (by omega) (fun s hs => ⟨(hv' s hs).1, (hv' s hs).2.1.2.1⟩) (fun r us'' c'' iu'' cn'' bk'' dr'' a1 a2 a3 a4 a5 => pa_push (by omega) ?_)))
    exact hp r us'' c'' iu'' cn'' bk'' dr'' md' q.2 a1 (pa_Ex_t he' a2) ⟨a4, fun s hs => by rw [a5 s hs]; exact pa_V2_ex a2 (hv' s hs).2⟩
  · intro n j us' c' iu' cn' bk' md' q hj H' hu' he' hc'
    have vf := pa_V3_ex he' hF
    refine br_f (pa_n8 hj) (pa_renamed hj hu3 hv3 hfl ⟨pa_in8 vf.1.2.1 (rl j hj), ?_⟩)
    rw [pa_c8 c' vf.1.2.1 (rl j hj)]
    exact pa_renNode H' (by omega) hu3 hv3 hfl (vf.2 _ (rl j hj)) (fun r us'' c'' iu'' cn'' bk'' dr'' se'' a1 a2 a3 a4 => ⟨vp_in_nI hj (by omega), nm_r (e' := upd md' j (nI r)) (by rw [nI_clamp (by omega)]) (nm_r (nI_1 j) (hc' r us'' c'' iu'' cn'' bk'' (dr'', se'') a1 a2 a3 a4))⟩)
end
end
section
/-- the number of the triple whose columns are a, b, c -/
def pa_num (a b c : Nat) : Nat := a % 2 + 2 * (b % 2) + 4 * (c % 2) + 8 * (a / 2 % 2) + 16 * (b / 2 % 2) + 32 * (c / 2 % 2) + 64 * (a / 4 % 2) + 128 * (b / 4 % 2) + 256 * (c / 4 % 2)
theorem pa_num_lt (a b c : Nat) : pa_num a b c < 512 := by unfold pa_num; omega
def pa_col (j t : Nat) : Nat := t / 2 ^ j % 2 + 2 * (t / 2 ^ (3 + j) % 2) + 4 * (t / 2 ^ (6 + j) % 2)
theorem pa_col_lt (j t : Nat) : pa_col j t < 8 := by unfold pa_col; omega
theorem pa_num_col : ∀ t, t < 512 → pa_num (pa_col 0 t) (pa_col 1 t) (pa_col 2 t) = t := by decide +kernel
def pa_va (v t : Nat) : Nat := t / 8 ^ v % 8
def pa_wi (v t x : Nat) : Nat := t - t / 8 ^ v % 8 * 8 ^ v + x * 8 ^ v
theorem pa_va_lt (v t : Nat) : pa_va v t < 8 := Nat.mod_lt _ (by decide)
theorem pa_wi_lt {v t x : Nat} (hv : v < 3) (ht : t < 512) (hx : x < 8) : pa_wi v t x < 512 := by
  unfold pa_wi
  rcases (by omega : v = 0 ∨ v = 1 ∨ v = 2) with h | h | h <;> subst h <;> omega
theorem pa_bits9 {a b c d e f g h i : Nat} (ha : a < 2) (hb : b < 2) (hc : c < 2) (hd : d < 2) (he : e < 2) (hf : f < 2) (hg : g < 2) (hh : h < 2) (hi : i < 2) :
    (a + 2 * b + 4 * c + 8 * d + 16 * e + 32 * f + 64 * g + 128 * h + 256 * i) / 1 % 8 = a + 2 * b + 4 * c ∧ (a + 2 * b + 4 * c + 8 * d + 16 * e + 32 * f + 64 * g + 128 * h + 256 * i) / 8 % 8 = d + 2 * e + 4 * f ∧ (a + 2 * b + 4 * c + 8 * d + 16 * e + 32 * f + 64 * g + 128 * h + 256 * i) / 64 % 8 = g + 2 * h + 4 * i := by omega
theorem pa_va_num {v s t w : Nat} (hv : v < 3) : pa_va v (pa_num s t w) = s / 2 ^ v % 2 + 2 * (t / 2 ^ v % 2) + 4 * (w / 2 ^ v % 2) := by
  unfold pa_va pa_num
  have m : ∀ x : Nat, x % 2 < 2 := fun x => Nat.mod_lt x (by decide)
  have k := pa_bits9 (m s) (m t) (m w) (m (s / 2)) (m (t / 2)) (m (w / 2)) (m (s / 4)) (m (t / 4)) (m (w / 4))
  rcases (by omega : v = 0 ∨ v = 1 ∨ v = 2) with h | h | h <;> subst h <;> simp only [Nat.reducePow]
  · rw [Nat.div_one s, Nat.div_one t, Nat.div_one w]; exact k.1
  · exact k.2.1
  · exact k.2.2
/-! the comparison -/
theorem pa_sh1 (x : Int32) : (x >>> ((1 : Int32) &&& 31)).toInt = x.toInt / 2 := by
  rw [pk_shr _ _ 1 (by decide), Int.shiftRight_eq_div_pow]
  rfl
theorem pa_c1_i {x y : Int32} (h1 : -1000 ≤ x.toInt) (h2 : x.toInt ≤ 1000) (h3 : -1000 ≤ y.toInt) (h4 : y.toInt ≤ 1000) : (pa_c1 x y).toInt = (x.toInt - y.toInt) / 2 := by
  unfold pa_c1
  rw [pa_sh1, Jvm.Kit.i32_sub (by omega) (by omega)]
def pa_sm (x : Int32) : Prop := -4 ≤ x.toInt ∧ x.toInt ≤ 4
theorem pa_ift {p : Prop} [Decidable p] {x : Int32} (h : pa_sm x) : (if p then x else 0).toInt = (if p then x.toInt else 0) ∧ -4 ≤ (if p then x.toInt else 0) ∧ (if p then x.toInt else 0) ≤ 4 := by
  by_cases q : p
  · rw [if_pos q, if_pos q]; exact ⟨rfl, h.1, h.2⟩
  · rw [if_neg q, if_neg q]; exact ⟨rfl, by omega, by omega⟩
theorem pa_dot_i {a b e : Int32} (ha : pa_sm a) (hb : pa_sm b) (he : pa_sm e) (s : Nat) :
    (pa_dot a b e s).toInt = (if s / 2 ^ 0 % 2 = 1 then a.toInt else 0) + (if s / 2 ^ 1 % 2 = 1 then b.toInt else 0) + (if s / 2 ^ 2 % 2 = 1 then e.toInt else 0) ∧ -12 ≤ (pa_dot a b e s).toInt ∧ (pa_dot a b e s).toInt ≤ 12 := by
  obtain ⟨a1, a2, a3⟩ := pa_ift (p := s / 2 ^ 0 % 2 = 1) ha
  obtain ⟨b1, b2, b3⟩ := pa_ift (p := s / 2 ^ 1 % 2 = 1) hb
  obtain ⟨e1, e2, e3⟩ := pa_ift (p := s / 2 ^ 2 % 2 = 1) he
  have z : (pa_dot a b e s).toInt = (if s / 2 ^ 0 % 2 = 1 then a.toInt else 0) + (if s / 2 ^ 1 % 2 = 1 then b.toInt else 0) + (if s / 2 ^ 2 % 2 = 1 then e.toInt else 0) := by
    have z1 : ((if s / 2 ^ 0 % 2 = 1 then a else 0) + (if s / 2 ^ 1 % 2 = 1 then b else 0)).toInt = (if s / 2 ^ 0 % 2 = 1 then a.toInt else 0) + (if s / 2 ^ 1 % 2 = 1 then b.toInt else 0) := by
      rw [Jvm.Kit.i32_add (by rw [a1, b1]; omega) (by rw [a1, b1]; omega), a1, b1]
    unfold pa_dot
    rw [Int32.zero_add, Jvm.Kit.i32_add (by rw [z1, e1]; omega) (by rw [z1, e1]; omega), z1, e1]
  exact ⟨z, by omega, by omega⟩
theorem pa_mulv (A : Int) {x y z : Nat} (hx : x < 2) (hy : y < 2) (hz : z < 2) : A * ((x + 2 * y + 4 * z : Nat) : Int) = (if x = 1 then A else 0) + 2 * (if y = 1 then A else 0) + 4 * (if z = 1 then A else 0) := by
  rcases (by omega : x = 0 ∨ x = 1) with h | h <;> rcases (by omega : y = 0 ∨ y = 1) with g | g <;> rcases (by omega : z = 0 ∨ z = 1) with f | f <;> subst h <;> subst g <;> subst f <;> simp <;> omega
theorem pa_ifb {p : Prop} [Decidable p] {A : Int} (h1 : -4 ≤ A) (h2 : A ≤ 4) : -4 ≤ (if p then A else 0) ∧ (if p then A else 0) ≤ 4 := by
  by_cases q : p
  · rw [if_pos q]; exact ⟨h1, h2⟩
  · rw [if_neg q]; exact ⟨by omega, by omega⟩
theorem pa_prod {a : Int32} (ha : pa_sm a) {v s t w : Nat} (hv : v < 3) :
    (a * nI (pa_va v (pa_num s t w))).toInt = (if s / 2 ^ v % 2 = 1 then a.toInt else 0) + 2 * (if t / 2 ^ v % 2 = 1 then a.toInt else 0) + 4 * (if w / 2 ^ v % 2 = 1 then a.toInt else 0) := by
  have l := pa_va_lt v (pa_num s t w)
  have n : (nI (pa_va v (pa_num s t w))).toInt = (pa_va v (pa_num s t w) : Int) := nI_toInt (by omega)
  have e := pa_mulv a.toInt (Nat.mod_lt (s / 2 ^ v) (by decide : 2 > 0)) (Nat.mod_lt (t / 2 ^ v) (by decide : 2 > 0)) (Nat.mod_lt (w / 2 ^ v) (by decide : 2 > 0))
  rw [← pa_va_num hv] at e
  have b1 := pa_ifb (p := s / 2 ^ v % 2 = 1) ha.1 ha.2
  have b2 := pa_ifb (p := t / 2 ^ v % 2 = 1) ha.1 ha.2
  have b3 := pa_ifb (p := w / 2 ^ v % 2 = 1) ha.1 ha.2
  rw [Jvm.Kit.i32_mul (by rw [n, e]; omega) (by rw [n, e]; omega), n, e]
/-- the reference's sum -/
def pa_sum (a b e : Int32) (t : Nat) : Int32 := ((a * nI (pa_va 0 t)) + (b * nI (pa_va 1 t))) + (e * nI (pa_va 2 t))
theorem pa_sum_i {a b e : Int32} (ha : pa_sm a) (hb : pa_sm b) (he : pa_sm e) (s t w : Nat) :
    (pa_sum a b e (pa_num s t w)).toInt = (pa_dot a b e s).toInt + 2 * (pa_dot a b e t).toInt + 4 * (pa_dot a b e w).toInt := by
  have d1 := (pa_dot_i ha hb he s).1
  have d2 := (pa_dot_i ha hb he t).1
  have d3 := (pa_dot_i ha hb he w).1
  have p0 := pa_prod ha (v := 0) (s := s) (t := t) (w := w) (by decide)
  have p1 := pa_prod hb (v := 1) (s := s) (t := t) (w := w) (by decide)
  have p2 := pa_prod he (v := 2) (s := s) (t := t) (w := w) (by decide)
  have b1 := pa_ifb (p := s / 2 ^ 0 % 2 = 1) ha.1 ha.2
  have b2 := pa_ifb (p := t / 2 ^ 0 % 2 = 1) ha.1 ha.2
  have b3 := pa_ifb (p := w / 2 ^ 0 % 2 = 1) ha.1 ha.2
  have b4 := pa_ifb (p := s / 2 ^ 1 % 2 = 1) hb.1 hb.2
  have b5 := pa_ifb (p := t / 2 ^ 1 % 2 = 1) hb.1 hb.2
  have b6 := pa_ifb (p := w / 2 ^ 1 % 2 = 1) hb.1 hb.2
  have b7 := pa_ifb (p := s / 2 ^ 2 % 2 = 1) he.1 he.2
  have b8 := pa_ifb (p := t / 2 ^ 2 % 2 = 1) he.1 he.2
  have b9 := pa_ifb (p := w / 2 ^ 2 % 2 = 1) he.1 he.2
  unfold pa_sum
  generalize (if s / 2 ^ 0 % 2 = 1 then a.toInt else 0) = x1 at *
  generalize (if t / 2 ^ 0 % 2 = 1 then a.toInt else 0) = x2 at *
  generalize (if w / 2 ^ 0 % 2 = 1 then a.toInt else 0) = x3 at *
  generalize (if s / 2 ^ 1 % 2 = 1 then b.toInt else 0) = x4 at *
  generalize (if t / 2 ^ 1 % 2 = 1 then b.toInt else 0) = x5 at *
  generalize (if w / 2 ^ 1 % 2 = 1 then b.toInt else 0) = x6 at *
  generalize (if s / 2 ^ 2 % 2 = 1 then e.toInt else 0) = x7 at *
  generalize (if t / 2 ^ 2 % 2 = 1 then e.toInt else 0) = x8 at *
  generalize (if w / 2 ^ 2 % 2 = 1 then e.toInt else 0) = x9 at *
  have q : (a * nI (pa_va 0 (pa_num s t w)) + b * nI (pa_va 1 (pa_num s t w))).toInt = (x1 + 2 * x2 + 4 * x3) + (x4 + 2 * x5 + 4 * x6) := by
    rw [Jvm.Kit.i32_add (by rw [p0, p1]; omega) (by rw [p0, p1]; omega), p0, p1]
  rw [Jvm.Kit.i32_add (by rw [q, p2]; omega) (by rw [q, p2]; omega), q, p2, d1, d2, d3]
  omega
theorem pa_at_law {a b e k : Int32} (ha : pa_sm a) (hb : pa_sm b) (he : pa_sm e) (hk1 : -100 ≤ k.toInt) (hk2 : k.toInt ≤ 100) (s t w : Nat) :
    pa_g1 (pa_c1 (pa_c1 (pa_c1 k (pa_dot a b e s)) (pa_dot a b e t)) (pa_dot a b e w)) = if k < pa_sum a b e (pa_num s t w) then 0 else 1 := by
  obtain ⟨-, s1, s2⟩ := pa_dot_i ha hb he s
  obtain ⟨-, t1, t2⟩ := pa_dot_i ha hb he t
  obtain ⟨-, w1, w2⟩ := pa_dot_i ha hb he w
  have e1 : (pa_c1 k (pa_dot a b e s)).toInt = (k.toInt - (pa_dot a b e s).toInt) / 2 := pa_c1_i (by omega) (by omega) (by omega) (by omega)
  have e2 : (pa_c1 (pa_c1 k (pa_dot a b e s)) (pa_dot a b e t)).toInt = ((k.toInt - (pa_dot a b e s).toInt) / 2 - (pa_dot a b e t).toInt) / 2 := by
    rw [pa_c1_i (by omega) (by omega) (by omega) (by omega), e1]
  have e3 : (pa_c1 (pa_c1 (pa_c1 k (pa_dot a b e s)) (pa_dot a b e t)) (pa_dot a b e w)).toInt = (((k.toInt - (pa_dot a b e s).toInt) / 2 - (pa_dot a b e t).toInt) / 2 - (pa_dot a b e w).toInt) / 2 := by
    rw [pa_c1_i (by omega) (by omega) (by omega) (by omega), e2]
  have su := pa_sum_i ha hb he s t w
  have iff : pa_c1 (pa_c1 (pa_c1 k (pa_dot a b e s)) (pa_dot a b e t)) (pa_dot a b e w) < 0 ↔ k < pa_sum a b e (pa_num s t w) := by
    rw [Int32.lt_iff_toInt_lt, Int32.lt_iff_toInt_lt, e3, su, Int32.toInt_zero]
    omega
  unfold pa_g1
  by_cases z : k < pa_sum a b e (pa_num s t w)
  · rw [if_pos z, if_pos (iff.mpr z)]
  · rw [if_neg z, if_neg (fun q => z (iff.mp q))]
/-! the congruence -/
theorem pa_tmod (x : Int) {m : Int} (h0 : 0 < m) : (x.tmod m = x % m) ∨ (x.tmod m = x % m - m ∧ x % m ≠ 0) := by
  rw [Int.tmod_eq_emod]
  by_cases z : 0 ≤ x ∨ m ∣ x
  · rw [if_pos z]; exact Or.inl (by omega)
  · rw [if_neg z]
    refine Or.inr ⟨by omega, fun q => z (Or.inr (Int.dvd_of_emod_eq_zero q))⟩
theorem pa_res_i {x : Int32} {m : Nat} (h0 : 0 < m) (h7 : m ≤ 7) : (pa_res x (nI m)).toInt = x.toInt % m := by
  have n : (nI m).toInt = (m : Int) := nI_toInt (by omega)
  have r : (x - x / nI m * nI m).toInt = x.toInt.tmod m := by rw [rem_toInt, n]
  have t := pa_tmod x.toInt (m := (m : Int)) (by omega)
  have p1 := Int.emod_nonneg x.toInt (b := (m : Int)) (by omega)
  have p2 := Int.emod_lt_of_pos x.toInt (b := (m : Int)) (by omega)
  unfold pa_res
  by_cases z : 0 ≤ x - x / nI m * nI m
  · rw [if_pos z, r]
    rw [Int32.le_iff_toInt_le, r, Int32.toInt_zero] at z
    omega
  · rw [if_neg z, Jvm.Kit.i32_add (by rw [r, n]; omega) (by rw [r, n]; omega), r, n]
    rw [Int32.le_iff_toInt_le, r, Int32.toInt_zero] at z
    omega
theorem pa_rem0 {x : Int32} {m : Nat} (h0 : 0 < m) (h7 : m ≤ 7) : x - x / nI m * nI m = 0 ↔ x.toInt % m = 0 := by
  have n : (nI m).toInt = (m : Int) := nI_toInt (by omega)
  have r : (x - x / nI m * nI m).toInt = x.toInt.tmod m := by rw [rem_toInt, n]
  have t := pa_tmod x.toInt (m := (m : Int)) (by omega)
  have p2 := Int.emod_lt_of_pos x.toInt (b := (m : Int)) (by omega)
  rw [← Int32.toInt_inj, r, Int32.toInt_zero]
  omega
theorem pa_co_arith {m : Nat} (h2 : 2 ≤ m) (h7 : m ≤ 7) (k p q r : Int) : ((k - p) % m - 2 * q - 4 * r) % m = 0 ↔ (p + 2 * q + 4 * r - k) % m = 0 := by
  rcases (by omega : m = 2 ∨ m = 3 ∨ m = 4 ∨ m = 5 ∨ m = 6 ∨ m = 7) with h | h | h | h | h | h <;> subst h <;> omega
theorem pa_co_law {a b e k : Int32} {m : Nat} (ha : pa_sm a) (hb : pa_sm b) (he : pa_sm e) (h2 : 2 ≤ m) (h7 : m ≤ 7) (hk1 : 0 ≤ k.toInt) (hk2 : k.toInt ≤ 100) (s t w : Nat) :
    pa_g2 (pa_res (pa_res (k - pa_dot a b e s) (nI m) - 2 * pa_dot a b e t - 4 * pa_dot a b e w) (nI m)) = if (pa_sum a b e (pa_num s t w) - k) - (pa_sum a b e (pa_num s t w) - k) / nI m * nI m = 0 then 1 else 0 := by
  obtain ⟨-, s1, s2⟩ := pa_dot_i ha hb he s
  obtain ⟨-, t1, t2⟩ := pa_dot_i ha hb he t
  obtain ⟨-, w1, w2⟩ := pa_dot_i ha hb he w
  have su := pa_sum_i ha hb he s t w
  have e1 : (k - pa_dot a b e s).toInt = k.toInt - (pa_dot a b e s).toInt := Jvm.Kit.i32_sub (by omega) (by omega)
  have e2 : (pa_res (k - pa_dot a b e s) (nI m)).toInt = (k.toInt - (pa_dot a b e s).toInt) % m := by rw [pa_res_i (by omega) h7, e1]
  have p1 := Int.emod_nonneg (k.toInt - (pa_dot a b e s).toInt) (b := (m : Int)) (by omega)
  have p2 := Int.emod_lt_of_pos (k.toInt - (pa_dot a b e s).toInt) (b := (m : Int)) (by omega)
  have l2 : (2 : Int32).toInt = 2 := by decide
  have l4 : (4 : Int32).toInt = 4 := by decide
  have e3 : (2 * pa_dot a b e t).toInt = 2 * (pa_dot a b e t).toInt := by rw [Jvm.Kit.i32_mul (by rw [l2]; omega) (by rw [l2]; omega), l2]
  have e4 : (4 * pa_dot a b e w).toInt = 4 * (pa_dot a b e w).toInt := by rw [Jvm.Kit.i32_mul (by rw [l4]; omega) (by rw [l4]; omega), l4]
  have e5 : (pa_res (k - pa_dot a b e s) (nI m) - 2 * pa_dot a b e t).toInt = (k.toInt - (pa_dot a b e s).toInt) % m - 2 * (pa_dot a b e t).toInt := by
    rw [Jvm.Kit.i32_sub (by rw [e2, e3]; omega) (by rw [e2, e3]; omega), e2, e3]
  have e6 : (pa_res (k - pa_dot a b e s) (nI m) - 2 * pa_dot a b e t - 4 * pa_dot a b e w).toInt = (k.toInt - (pa_dot a b e s).toInt) % m - 2 * (pa_dot a b e t).toInt - 4 * (pa_dot a b e w).toInt := by
    rw [Jvm.Kit.i32_sub (by rw [e5, e4]; omega) (by rw [e5, e4]; omega), e5, e4]
  have e7 : (pa_sum a b e (pa_num s t w) - k).toInt = (pa_dot a b e s).toInt + 2 * (pa_dot a b e t).toInt + 4 * (pa_dot a b e w).toInt - k.toInt := by
    rw [Jvm.Kit.i32_sub (by rw [su]; omega) (by rw [su]; omega), su]
  have iff : pa_res (pa_res (k - pa_dot a b e s) (nI m) - 2 * pa_dot a b e t - 4 * pa_dot a b e w) (nI m) = 0 ↔ (pa_sum a b e (pa_num s t w) - k) - (pa_sum a b e (pa_num s t w) - k) / nI m * nI m = 0 := by
    rw [pa_rem0 (by omega) h7, e7, ← Int32.toInt_inj, pa_res_i (by omega) h7, e6, Int32.toInt_zero]
    exact pa_co_arith h2 h7 _ _ _ _
  unfold pa_g2
  by_cases z : (pa_sum a b e (pa_num s t w) - k) - (pa_sum a b e (pa_num s t w) - k) / nI m * nI m = 0
  · rw [if_pos z, if_pos (iff.mpr z)]
  · rw [if_neg z, if_neg (fun q => z (iff.mp q))]
end
section
theorem pa_wi_n : ∀ v, v < 3 → ∀ t, t < 512 → ∀ x, x < 8 → (t &&& (4294967295 ^^^ (7 * 8 ^ v))) ||| (x * 8 ^ v) = pa_wi v t x := by decide +kernel
theorem pa_va_e {v t : Nat} (hv : v < 3) (ht : t < 512) : (nI t >>> ((3 * nI v) &&& 31)) &&& 7 = nI (pa_va v t) := by
  have e : ∀ v, v < 3 → ((((3 : Int32) * nI v) &&& 31).toBitVec.smod 32).toNat = 3 * v := by decide +kernel
  rw [pk_shrN (by omega) _ (3 * v) (e v hv), pk_andN (m := 7) (Nat.lt_of_le_of_lt (Nat.div_le_self _ _) (by omega)) 3 (by decide)]
  unfold pa_va
  rw [Nat.pow_mul]
theorem pa_wi_e {v t x : Nat} (hv : v < 3) (ht : t < 512) (hx : x < 8) : (nI t &&& (((7 : Int32) <<< ((3 * nI v) &&& 31)) ^^^ (-1))) ||| (nI x <<< ((3 * nI v) &&& 31)) = nI (pa_wi v t x) := by
  have e : ∀ v, v < 3 → ((((3 : Int32) * nI v) &&& 31).toBitVec.smod 32).toNat = 3 * v := by decide +kernel
  have m : ∀ v, v < 3 → ((7 : Int32) <<< ((3 * nI v) &&& 31)) ^^^ (-1) = nI (4294967295 ^^^ (7 * 8 ^ v)) := by decide +kernel
  have p8 : 2 ^ (3 * v) = 8 ^ v := by rw [Nat.pow_mul]
  have p64 : 8 ^ v ≤ 64 := (by decide : ∀ v, v < 3 → 8 ^ v ≤ 64) v hv
  have sh : nI x <<< ((3 * nI v) &&& 31) = nI (x * 8 ^ v) := by
    rw [← p8]
    refine pk_shlN _ (3 * v) (e v hv) ?_
    rw [p8]
    exact Nat.lt_of_le_of_lt (Nat.mul_le_mul (Nat.le_of_lt hx) p64) (by decide)
  rw [m v hv, sh, nx_and, pa_nor, pa_wi_n v hv t ht x hx]
theorem pa_run_e : ∀ j, j < 3 → ∀ t, t < 512 → ((((nI t >>> (nI j &&& 31)) &&& 1) ||| (((nI t >>> ((3 + nI j) &&& 31)) &&& 1) <<< ((1 : Int32) &&& 31))) ||| (((nI t >>> ((6 + nI j) &&& 31)) &&& 1) <<< ((2 : Int32) &&& 31))) = nI (pa_col j t) := by decide +kernel
/-- the number of a word of three columns -/
def pa_sig (w : Nat) : Nat := pa_num (w % 8) (w / 8 % 8) (w / 64)
def pa_su (h : Nat → Nat) : Nat → Nat
  | 0 => 0
  | n + 1 => pa_su h n + h n
theorem pa_su_list (h : Nat → Nat) : ∀ n, pa_su h n = ((List.range n).map h).sum
  | 0 => rfl
  | n + 1 => by
    rw [List.range_succ, List.map_append, List.sum_append, ← pa_su_list h n]
    show _ = _ + (h n + 0)
    rfl
theorem pa_perm : ((List.range 512).map pa_sig).Perm (List.range 512) := by decide +kernel
theorem pa_su_sig (h : Nat → Nat) : pa_su (fun w => h (pa_sig w)) 512 = pa_su h 512 := by
  rw [pa_su_list, pa_su_list]
  have e : (List.range 512).map (fun w => h (pa_sig w)) = ((List.range 512).map pa_sig).map h := by
    rw [List.map_map]
    rfl
  rw [e]
  exact (pa_perm.map h).sum_nat
theorem pa_su_eq {h g : Nat → Nat} : ∀ {n : Nat}, (∀ i, i < n → h i = g i) → pa_su h n = pa_su g n
  | 0, _ => rfl
  | n + 1, e => by
    unfold pa_su
    rw [pa_su_eq (n := n) (fun i hi => e i (by omega)), e n (by omega)]
theorem pa_su_le {h : Nat → Nat} : ∀ {n : Nat}, (∀ i, i < n → h i ≤ 1) → pa_su h n ≤ n
  | 0, _ => Nat.le_refl _
  | n + 1, e => by
    have a := pa_su_le (h := h) (n := n) (fun i hi => e i (by omega))
    have b := e n (by omega)
    unfold pa_su
    omega
/-! any digits -/
theorem pa_qu1 : ∀ v, v < 3 → ∀ s, s < 8 → ∀ t, t < 8 → ∀ w, w < 8 → ∀ x, x < 8 → pa_wi v (pa_num s t w) x = pa_num (s ^^^ ((x ^^^ pa_va v (pa_num s t w)) % 2 * 2 ^ v)) (t ^^^ ((x ^^^ pa_va v (pa_num s t w)) / 2 % 2 * 2 ^ v)) (w ^^^ ((x ^^^ pa_va v (pa_num s t w)) / 4 % 2 * 2 ^ v)) := by decide +kernel
theorem pa_qu2 : ∀ y, y < 8 → ∀ i, i < 8 → (y ^^^ i) < 8 ∧ ((y ^^^ i) ^^^ y) = i := by decide +kernel
theorem pa_jo_an : ∀ an, an < 2 → ∀ a, a < 2 → ∀ b, b < 2 → (pa_jo an a b = an ↔ a = an ∨ b = an) := by decide
def pa_fnd (h : Nat → Nat) (v t an : Nat) : Nat → Nat
  | 0 => 0
  | x + 1 => if h (pa_wi v t x) = an then 1 else pa_fnd h v t an x
theorem pa_fnd_le (h : Nat → Nat) (v t an : Nat) : ∀ n, pa_fnd h v t an n ≤ 1
  | 0 => by unfold pa_fnd; omega
  | n + 1 => by
    have := pa_fnd_le h v t an n
    unfold pa_fnd
    split <;> omega
theorem pa_fnd_iff (h : Nat → Nat) (v t an : Nat) : ∀ n, pa_fnd h v t an n = 1 ↔ ∃ x, x < n ∧ h (pa_wi v t x) = an
  | 0 => ⟨fun q => absurd q (by unfold pa_fnd; omega), fun ⟨x, hx, _⟩ => by omega⟩
  | n + 1 => by
    have ih := pa_fnd_iff h v t an n
    unfold pa_fnd
    by_cases z : h (pa_wi v t n) = an
    · rw [if_pos z]
      exact ⟨fun _ => ⟨n, by omega, z⟩, fun _ => rfl⟩
    · rw [if_neg z, ih]
      constructor
      · exact fun ⟨x, hx, q⟩ => ⟨x, by omega, q⟩
      · intro ⟨x, hx, q⟩
        by_cases w : x = n
        · rw [w] at q
          exact absurd q z
        · exact ⟨x, by omega, q⟩
def pa_qv (h : Nat → Nat) (v an t : Nat) : Nat := if pa_fnd h v t an 8 = an then 1 else 0
theorem pa_qv_le (h : Nat → Nat) (v an t : Nat) : pa_qv h v an t ≤ 1 := by unfold pa_qv; split <;> omega
theorem pa_qv_iff (h : Nat → Nat) (v t : Nat) {an : Nat} (ha : an ≤ 1) : pa_qv h v an t = an ↔ ∃ x, x < 8 ∧ h (pa_wi v t x) = an := by
  rw [← pa_fnd_iff]
  have l := pa_fnd_le h v t an 8
  unfold pa_qv
  by_cases z : pa_fnd h v t an 8 = an
  · rw [if_pos z]; omega
  · rw [if_neg z]; omega
theorem pa_qu_law {h : Nat → Nat} {v an s t w : Nat} (hh : ∀ i, h i ≤ 1) (hv : v < 3) (ha : an ≤ 1) (hs : s < 8) (ht : t < 8) (hw : w < 8) :
    pa_sn an (2 ^ v) (fun t w => h (pa_num s t w)) (fun t w => h (pa_num (s ^^^ 2 ^ v) t w)) t w = pa_qv h v an (pa_num s t w) := by
  have hb : ∀ i, h i < 2 := fun i => by have := hh i; omega
  have jl : ∀ a b, a < 2 → b < 2 → pa_jo an a b < 2 := fun a b p q => by have := pa_jo_le (an := an) (a := a) (b := b) (by omega) (by omega); omega
  have ja : ∀ a b, a < 2 → b < 2 → (pa_jo an a b = an ↔ a = an ∨ b = an) := fun a b p q => pa_jo_an an (by omega) a p b q
  have sn : pa_sn an (2 ^ v) (fun t w => h (pa_num s t w)) (fun t w => h (pa_num (s ^^^ 2 ^ v) t w)) t w = an ↔ ∃ x, x < 8 ∧ h (pa_wi v (pa_num s t w) x) = an := by
    have y8 := pa_va_lt v (pa_num s t w)
    have mem : ∀ i, i < 8 → h (pa_num (s ^^^ (i % 2 * 2 ^ v)) (t ^^^ (i / 2 % 2 * 2 ^ v)) (w ^^^ (i / 4 % 2 * 2 ^ v))) = an → ∃ x, x < 8 ∧ h (pa_wi v (pa_num s t w) x) = an := by
      intro i hi q
      obtain ⟨l, e⟩ := pa_qu2 _ y8 i hi
      refine ⟨_, l, ?_⟩
      rw [pa_qu1 v hv s hs t ht w hw _ l, e]
      exact q
    unfold pa_sn
    dsimp only
    rw [ja _ _ (jl _ _ (jl _ _ (jl _ _ (hb _) (hb _)) (jl _ _ (hb _) (hb _))) (jl _ _ (hb _) (hb _))) (jl _ _ (hb _) (hb _)), ja _ _ (jl _ _ (jl _ _ (hb _) (hb _)) (jl _ _ (hb _) (hb _))) (jl _ _ (hb _) (hb _)), ja _ _ (jl _ _ (hb _) (hb _)) (jl _ _ (hb _) (hb _)),
      ja _ _ (hb _) (hb _), ja _ _ (hb _) (hb _), ja _ _ (hb _) (hb _), ja _ _ (hb _) (hb _)]
    have m0 := mem 0 (by omega)
    have m1 := mem 1 (by omega)
    have m2 := mem 2 (by omega)
    have m3 := mem 3 (by omega)
    have m4 := mem 4 (by omega)
    have m5 := mem 5 (by omega)
    have m6 := mem 6 (by omega)
    have m7 := mem 7 (by omega)
    simp only [Nat.reduceMod, Nat.reduceDiv, Nat.zero_mul, Nat.one_mul, Nat.xor_zero] at m0 m1 m2 m3 m4 m5 m6 m7
    constructor
    · intro q
      rcases q with ((((q | q) | (q | q)) | (q | q)) | (q | q))
      · exact m0 q
      · exact m2 q
      · exact m1 q
      · exact m3 q
      · exact m4 q
      · exact m6 q
      · exact m5 q
      · exact m7 q
    · intro ⟨x, hx, q⟩
      rw [pa_qu1 v hv s hs t ht w hw x hx] at q
      generalize x ^^^ pa_va v (pa_num s t w) = i at q
      rcases (by omega : i % 2 = 0 ∨ i % 2 = 1) with e1 | e1 <;> rcases (by omega : i / 2 % 2 = 0 ∨ i / 2 % 2 = 1) with e2 | e2 <;> rcases (by omega : i / 4 % 2 = 0 ∨ i / 4 % 2 = 1) with e3 | e3 <;> rw [e1, e2, e3] at q <;> simp only [Nat.zero_mul, Nat.one_mul, Nat.xor_zero] at q <;> simp only [q, eq_self, true_or, or_true]
  have iff := sn.trans (pa_qv_iff h v (pa_num s t w) ha).symm
  have l1 := pa_qv_le h v an (pa_num s t w)
  have l2 : pa_sn an (2 ^ v) (fun t w => h (pa_num s t w)) (fun t w => h (pa_num (s ^^^ 2 ^ v) t w)) t w < 2 := jl _ _ (jl _ _ (jl _ _ (jl _ _ (hb _) (hb _)) (jl _ _ (hb _) (hb _))) (jl _ _ (hb _) (hb _))) (jl _ _ (hb _) (hb _))
  omega
/-! exchange and mirror -/
def pa_exn (u v t : Nat) : Nat := pa_wi v (pa_wi u t (pa_va v t)) (pa_va u t)
theorem pa_ex_law : ∀ u, u < 3 → ∀ v, v < 3 → ∀ s, s < 8 → ∀ t, t < 8 → ∀ w, w < 8 → pa_num (pa_ren u v 0 s) (pa_ren u v 0 t) (pa_ren u v 0 w) = pa_exn u v (pa_num s t w) := by decide +kernel
theorem pa_mi_law : ∀ v, v < 3 → ∀ s, s < 8 → ∀ t, t < 8 → ∀ w, w < 8 → pa_num (pa_ren v v (2 ^ v) s) (pa_ren v v (2 ^ v) t) (pa_ren v v (2 ^ v) w) = pa_wi v (pa_num s t w) (7 - pa_va v (pa_num s t w)) := by decide +kernel
theorem pa_bit_e : ∀ v, v < 3 → (1 : Int32) <<< (nI v &&& 31) = nI (2 ^ v) ∧ 2 ^ v < 8 := by decide +kernel
theorem pa_xor8 : ∀ v, v < 3 → ∀ s, s < 8 → s ^^^ 2 ^ v < 8 := by decide +kernel
end
section
theorem pa_yin {p t : Nat} (hp : p ≤ 4) (ht : t < 512) : vp_in (nI (512 * p) + nI t) 2560 := by
  rw [nI_add]
  exact vp_in_nI (by omega) (by omega)
theorem pa_ycl {p t : Nat} (hp : p ≤ 4) (ht : t < 512) : (nI (512 * p) + nI t).toNatClampNeg = 512 * p + t := by
  rw [nI_add]
  exact nI_clamp (by omega)
theorem pa_yA (tb : Nat → Nat) {p t : Nat} (hp : p ≤ 4) (ht : t < 512) : pa_A tb (nI (512 * p) + nI t).toNatClampNeg = nI (tb (512 * p + t)) := congrArg (pa_A tb) (pa_ycl hp ht)
theorem pa_nar {x : Nat} (h : x ≤ 1) : vp_nar .boolean (nI x) = nI x := by
  rcases (by omega : x = 0 ∨ x = 1) with z | z <;> rw [z] <;> rfl
theorem pa_yw {tb g : Nat → Nat} {p t : Nat} {v : Int32} (hp : p ≤ 4) (ht : t < 512) (hv : v = nI (g t)) (hg : g t ≤ 1) :
    upd (pa_A (pa_blk tb (512 * p) t g)) (nI (512 * p) + nI t).toNatClampNeg (vp_nar .boolean v) = pa_A (pa_blk tb (512 * p) (t + 1) g) := by
  rw [pa_ycl hp ht, hv, pa_nar hg]
  exact pa_blk_A tb (512 * p) t g
theorem pa_g512 : (512 : Int32) ≤ nI 512 := by decide
theorem pa_n512 {k : Nat} (h : k < 512) : ¬ (512 : Int32) ≤ nI k := nI_ge (b := 512) h (by decide)
theorem pa_yfill (W : Nat → Nat → (Nat → Int32) → Prop) (tb : Nat → Nat) (b : Nat) (g : Nat → Nat) (hx : ∀ n, W (n + 1) 512 (pa_A (pa_blk tb b 512 g)))
    (hs : ∀ n t, t < 512 → W n (t + 1) (pa_A (pa_blk tb b (t + 1) g)) → W (n + 1) t (pa_A (pa_blk tb b t g))) : ∃ n, W n 0 (pa_A tb) := by
  have key : ∀ n t, t ≤ 512 → 512 < n + t → W n t (pa_A (pa_blk tb b t g)) := by
    intro n
    induction n with
    | zero => intro t ht hn; omega
    | succ n ih =>
      intro t ht hn
      by_cases z : t = 512
      · subst z
        exact hx n
      · exact hs n t (by omega) (ih (t + 1) (by omega) (by omega))
  have := key 513 0 (by omega) (by omega)
  rw [pa_blk_0] at this
  exact ⟨513, this⟩
section
variable {fd : Int32} {ta ol : Nat → Int32}
theorem pa_y_at {post : Int32 → Prop} {p : Nat} (hp : p ≤ 4) (h : post (nI (512 * p))) : wpY_at post (fd, ta, ol) (nI p) := by
  refine br_t (nI_pos' (by omega)) (br_t (nI_le (b := 4) hp (by decide)) ?_)
  have e : (512 : Int32) * nI p = nI (512 * p) := pk_mul 512 p
  rw [e]
  exact h
theorem pa_y_value {post : Int32 → Prop} {t v : Nat} (hv : v < 3) (ht : t < 512) (h : post (nI (pa_va v t))) : wpY_value post (fd, ta, ol) (nI t) (nI v) := by
  show post ((nI t >>> ((3 * nI v) &&& 31)) &&& 7)
  rw [pa_va_e hv ht]
  exact h
theorem pa_y_with {post : Int32 → Prop} {t v x : Nat} (hv : v < 3) (ht : t < 512) (hx : x < 8) (h : post (nI (pa_wi v t x))) : wpY_with post (fd, ta, ol) (nI t) (nI v) (nI x) := by
  show post ((nI t &&& (((7 : Int32) <<< ((3 * nI v) &&& 31)) ^^^ (-1))) ||| (nI x <<< ((3 * nI v) &&& 31)))
  rw [pa_wi_e hv ht hx]
  exact h
theorem pa_y_sum {post : Int32 → Prop} {t : Nat} {a b e : Int32} (ht : t < 512) (h : post (pa_sum a b e t)) : wpY_sum post (fd, ta, ol) (nI t) a b e := by
  unfold wpY_sum
  exact pa_y_value (v := 0) (by decide) ht (pa_y_value (v := 1) (by decide) ht (pa_y_value (v := 2) (by decide) ht h))
theorem pa_y_joined {post : Int32 → Prop} {kd a b : Nat} (h1 : 1 ≤ kd) (h4 : kd ≤ 4) (ha : a ≤ 1) (hb : b ≤ 1) (h : post (nI (pa_cmb kd a b))) : wpY_joined post (fd, ta, ol) (nI kd) (nI a) (nI b) := by
  rcases (by omega : kd = 1 ∨ kd = 2 ∨ kd = 3 ∨ kd = 4) with e | e | e | e <;> subst e <;> rcases (by omega : a = 0 ∨ a = 1) with e | e <;> subst e <;> rcases (by omega : b = 0 ∨ b = 1) with e | e <;> subst e
  · exact br_t rfl (br_t rfl h)
  · exact br_t rfl (br_t rfl h)
  · exact br_t rfl (br_f (by decide) (br_t rfl h))
  · exact br_t rfl (br_f (by decide) (br_f (by decide) h))
  · exact br_f (by decide) (br_t rfl (br_t rfl (br_t rfl h)))
  · exact br_f (by decide) (br_t rfl (br_t rfl (br_f (by decide) h)))
  · exact br_f (by decide) (br_t rfl (br_f (by decide) h))
  · exact br_f (by decide) (br_t rfl (br_f (by decide) h))
  · exact br_f (by decide) (br_f (by decide) (br_t rfl (br_t rfl h)))
  · exact br_f (by decide) (br_f (by decide) (br_t rfl (br_f (by decide) h)))
  · exact br_f (by decide) (br_f (by decide) (br_t rfl (br_f (by decide) h)))
  · exact br_f (by decide) (br_f (by decide) (br_t rfl (br_t rfl h)))
  · exact br_f (by decide) (br_f (by decide) (br_f (by decide) (br_t rfl h)))
  · exact br_f (by decide) (br_f (by decide) (br_f (by decide) (br_t rfl h)))
  · exact br_f (by decide) (br_f (by decide) (br_f (by decide) (br_f (by decide) (br_t rfl h))))
  · exact br_f (by decide) (br_f (by decide) (br_f (by decide) (br_f (by decide) (br_f (by decide) h))))
end
section
variable {d : Nat} {tb : Nat → Nat} {ol : Nat → Int32}
theorem pa_y67 {post : Int32 → SY → Prop} {a b e k : Int32} (hd : d ≤ 4) (h : post (nI (d + 1)) (nI (d + 1), pa_A (pa_blk tb (512 * d) 512 (fun t => if k < pa_sum a b e t then 0 else 1)), ol)) :
    ∃ n, wY_atMost_67 post a b e k (nI (512 * d)) (nI d) n 0 (pa_A tb) ol := by
  refine pa_yfill (fun n t ta => wY_atMost_67 post a b e k (nI (512 * d)) (nI d) n (nI t) ta ol) tb (512 * d) (fun t => if k < pa_sum a b e t then 0 else 1) (fun n => br_t pa_g512 (nm_r (nI_1 d) h)) (fun n t ht ih => br_f (pa_n512 ht) (pa_y_sum ht ?_))
  by_cases z : k < pa_sum a b e t
  · exact br_t z ⟨pa_yin hd ht, nm_r (pa_yw hd ht (by rw [if_pos z]; rfl) (by rw [if_pos z]; omega)) (nm_r (nI_1 t) ih)⟩
  · exact br_f z ⟨pa_yin hd ht, nm_r (pa_yw hd ht (by rw [if_neg z]; rfl) (by rw [if_neg z]; omega)) (nm_r (nI_1 t) ih)⟩
theorem pa_y92 {post : Int32 → SY → Prop} {a b e k : Int32} {m : Nat} (hd : d ≤ 4) (h0 : 0 < m) (h7 : m ≤ 7)
    (h : post (nI (d + 1)) (nI (d + 1), pa_A (pa_blk tb (512 * d) 512 (fun t => if (pa_sum a b e t - k) - (pa_sum a b e t - k) / nI m * nI m = 0 then 1 else 0)), ol)) :
    ∃ n, wY_congruent_92 post (nI m) k a b e (nI (512 * d)) (nI d) n 0 (pa_A tb) ol := by
  refine pa_yfill (fun n t ta => wY_congruent_92 post (nI m) k a b e (nI (512 * d)) (nI d) n (nI t) ta ol) tb (512 * d) (fun t => if (pa_sum a b e t - k) - (pa_sum a b e t - k) / nI m * nI m = 0 then 1 else 0) (fun n => br_t pa_g512 (nm_r (nI_1 d) h)) (fun n t ht ih => br_f (pa_n512 ht) (pa_y_sum ht ⟨nI_ne0 h0 (by omega), ?_⟩))
  by_cases z : (pa_sum a b e t - k) - (pa_sum a b e t - k) / nI m * nI m = 0
  · exact br_t z ⟨pa_yin hd ht, nm_r (pa_yw hd ht (by rw [if_pos z]; rfl) (by rw [if_pos z]; omega)) (nm_r (nI_1 t) ih)⟩
  · exact br_f z ⟨pa_yin hd ht, nm_r (pa_yw hd ht (by rw [if_neg z]; rfl) (by rw [if_neg z]; omega)) (nm_r (nI_1 t) ih)⟩
theorem pa_y47 {post : Int32 → SY → Prop} {p : Nat} (hp : p ≤ 4) (ht1 : ∀ i, tb i ≤ 1) (h : post (nI d) (nI d, pa_A (pa_blk tb (512 * p) 512 (fun t => pa_cmb 0 (tb (512 * p + t)) (tb (512 * p + t)))), ol)) :
    ∃ n, wY_connect_47 post (nI (512 * p)) (nI d) n 0 (pa_A tb) ol := by
  refine pa_yfill (fun n t ta => wY_connect_47 post (nI (512 * p)) (nI d) n (nI t) ta ol) tb (512 * p) (fun t => pa_cmb 0 (tb (512 * p + t)) (tb (512 * p + t))) (fun n => br_t pa_g512 h) (fun n t ht ih => br_f (pa_n512 ht) ⟨pa_yin hp ht, ?_⟩)
  have e : pa_A (pa_blk tb (512 * p) t (fun t => pa_cmb 0 (tb (512 * p + t)) (tb (512 * p + t)))) (nI (512 * p) + nI t).toNatClampNeg = nI (tb (512 * p + t)) := by
    rw [pa_yA _ hp ht, pa_blk_out (by omega)]
  rw [e]
  rcases (by have := ht1 (512 * p + t); omega : tb (512 * p + t) = 0 ∨ tb (512 * p + t) = 1) with z | z
  · exact br_t (by rw [z]; rfl) ⟨pa_yin hp ht, nm_r (pa_yw hp ht (by rw [z]; rfl) (by rw [z]; decide)) (nm_r (nI_1 t) ih)⟩
  · exact br_f (by rw [z]; decide) ⟨pa_yin hp ht, nm_r (pa_yw hp ht (by rw [z]; rfl) (by rw [z]; decide)) (nm_r (nI_1 t) ih)⟩
theorem pa_y103 {post : Int32 → SY → Prop} {kd : Nat} (h1 : 1 ≤ kd) (h4 : kd ≤ 4) (hd2 : 2 ≤ d) (hd : d ≤ 5) (ht1 : ∀ i, tb i ≤ 1)
    (h : post (nI (d - 1)) (nI (d - 1), pa_A (pa_blk tb (512 * (d - 2)) 512 (fun t => pa_cmb kd (tb (512 * (d - 2) + t)) (tb (512 * (d - 1) + t)))), ol)) :
    ∃ n, wY_connect_103 post (nI kd) (nI (512 * (d - 1))) (nI (512 * (d - 2))) (nI d) n 0 (pa_A tb) ol := by
  refine pa_yfill (fun n t ta => wY_connect_103 post (nI kd) (nI (512 * (d - 1))) (nI (512 * (d - 2))) (nI d) n (nI t) ta ol) tb (512 * (d - 2)) (fun t => pa_cmb kd (tb (512 * (d - 2) + t)) (tb (512 * (d - 1) + t))) (fun n => br_t pa_g512 (nm_r (pk_sub (b := 1) (by omega)) h)) (fun n t ht ih => br_f (pa_n512 ht) ⟨pa_yin (by omega) ht, pa_yin (by omega) ht, ?_⟩)
  rw [pa_yA _ (p := d - 2) (by omega) ht, pa_yA _ (p := d - 1) (by omega) ht, pa_blk_out (by omega), pa_blk_out (by omega)]
  exact pa_y_joined h1 h4 (ht1 _) (ht1 _) ⟨pa_yin (by omega) ht, nm_r (pa_yw (p := d - 2) (by omega) ht rfl (pa_cmb_le kd (by omega) _ (by have := ht1 (512 * (d - 2) + t); omega) _ (by have := ht1 (512 * (d - 1) + t); omega))) (nm_r (nI_1 t) ih)⟩
theorem pa_y_keep {post : SY → Prop} (hd1 : 1 ≤ d) (hd : d ≤ 5) (ht1 : ∀ i, tb i ≤ 1) (h : ∀ ol', (∀ t, t < 512 → ol' t = nI (tb (512 * (d - 1) + t))) → post (nI d, pa_A tb, ol')) : wpY_keepTop post (nI d, pa_A tb, ol) := by
  have e : nI d - 1 = nI (d - 1) := pk_sub (b := 1) hd1
  unfold wpY_keepTop
  dsimp only
  rw [e]
  refine pa_y_at (by omega) ?_
  have key : ∀ n t ol, t ≤ 512 → 512 < n + t → (∀ j, j < t → ol j = nI (tb (512 * (d - 1) + j))) → wY_keepTop_13 post (nI (512 * (d - 1))) (nI d) n (nI t) (pa_A tb) ol := by
    intro n
    induction n with
    | zero => intro t ol ht hn; omega
    | succ n ih =>
      intro t ol ht hn ho
      refine pk_le 512 t (fun q => h ol (fun j hj => ho j (by omega))) (fun q => ⟨pa_yin (by omega) q, vp_in_nI q (by omega), nm_r (e' := upd ol t (nI (tb (512 * (d - 1) + t)))) ?_ (nm_r (nI_1 t) (ih (t + 1) _ (by omega) (by omega) (fun j hj => ?_)))⟩)
      · rw [pa_yA _ (by omega) q, nI_clamp (by omega), pa_nar (ht1 _)]
      · by_cases z : j = t
        · rw [z, pk_us]
        · rw [pk_un z]; exact ho j (by omega)
  exact ⟨513, key 513 0 ol (by omega) (by omega) (fun j hj => by omega)⟩
theorem pa_y_count {post : Int32 → Prop} {p : Nat} (hp : p ≤ 4) (ht1 : ∀ i, tb i ≤ 1) (h : post (nI (pa_su (fun t => tb (512 * p + t)) 512))) : wpY_countAt post (nI d, pa_A tb, ol) (nI p) := by
  have key : ∀ n t, t ≤ 512 → 512 < n + t → wY_countAt_4 post (nI p) (nI d) (pa_A tb) ol n (nI (pa_su (fun t => tb (512 * p + t)) t)) (nI t) := by
    intro n
    induction n with
    | zero => intro t ht hn; omega
    | succ n ih =>
      intro t ht hn
      refine pk_le 512 t (fun q => ?_) (fun q => pa_y_at hp ⟨pa_yin hp q, ?_⟩)
      · obtain rfl : t = 512 := by omega
        exact h
      · rw [pa_yA _ hp q]
        have ih' := ih (t + 1) (by omega) (by omega)
        unfold pa_su at ih'
        rcases (by have := ht1 (512 * p + t); omega : tb (512 * p + t) = 0 ∨ tb (512 * p + t) = 1) with z | z
        · rw [z] at ih' ⊢
          exact br_t rfl (nm_r (nI_1 t) ih')
        · rw [z] at ih' ⊢
          exact br_f (by decide) (nm_r (nI_1 _) (nm_r (nI_1 t) ih'))
  exact Exists.intro 513 (key 513 0 (by omega) (by omega))
theorem pa_y52 {post : Int32 → SY → Prop} {J : Int32 → (Nat → Int32) → (Nat → Int32) → Prop} {h : Nat → Nat} {v an p t : Nat} {ta : Nat → Int32} (hv : v < 3) (ha : an ≤ 1) (hp : p ≤ 4) (ht : t < 512) (hh : ∀ i, h i ≤ 1) (ho : ∀ t, t < 512 → ol t = nI (h t))
    (hJ : J (nI (t + 1)) (upd ta (nI (512 * p) + nI t).toNatClampNeg (vp_nar .boolean (nI (pa_qv h v an t)))) ol) :
    ∃ n, wY_quantify_52 post J (nI v) (nI an) (nI (512 * p)) (nI t) (nI d) ta ol n 0 0 := by
  have key : ∀ n x, x ≤ 8 → 8 < n + x → wY_quantify_52 post J (nI v) (nI an) (nI (512 * p)) (nI t) (nI d) ta ol n (nI (pa_fnd h v t an x)) (nI x) := by
    intro n
    induction n with
    | zero => intro x hx hn; omega
    | succ n ih =>
      intro x hx hn
      have fl := pa_fnd_le h v t an x
      refine pk_le 8 x (fun q => ?_) (fun q => pa_y_with hv ht q ⟨vp_in_nI (pa_wi_lt hv ht q) (by omega), ?_⟩)
      · obtain rfl : x = 8 := by omega
        unfold pa_qv at hJ
        refine pk_eq (pa_fnd h v t an 8) an (fun z => ?_) (fun z => ?_)
        · rw [if_pos z] at hJ
          exact ⟨pa_yin hp ht, nm_e (nm_r (nI_1 t) hJ)⟩
        · rw [if_neg z] at hJ
          exact ⟨pa_yin hp ht, nm_e (nm_r (nI_1 t) hJ)⟩
      · have w5 := pa_wi_lt hv ht q
        have h1 := hh (pa_wi v t x)
        have ih' := ih (x + 1) (by omega) (by omega)
        unfold pa_fnd at ih'
        refine pk_eq (h (pa_wi v t x)) an (fun z => ?_) (fun z => ?_) ((pa_ck ol (by omega)).trans (ho _ w5))
        · rw [if_pos z] at ih'
          exact nm_r (nI_1 x) ih'
        · rw [if_neg z] at ih'
          exact nm_r (nI_1 x) ih'
  exact ⟨9, key 9 0 (by omega) (by omega)⟩
theorem pa_y38 {post : Int32 → SY → Prop} {h : Nat → Nat} {v an p : Nat} (hv : v < 3) (ha : an ≤ 1) (hp : p ≤ 4) (hpd : d = p + 1) (ht1 : ∀ i, tb i ≤ 1) (hh : ∀ i, h i ≤ 1) (ho : ∀ t, t < 512 → ol t = nI (h t))
    (hq : post (nI (pa_su (pa_qv h v an) 512)) (nI d, pa_A (pa_blk tb (512 * p) 512 (pa_qv h v an)), ol)) :
    ∃ n, wY_quantify_38 post (nI v) (nI an) (nI (512 * p)) (nI d) n 0 (pa_A tb) ol := by
  refine pa_yfill (fun n t ta => wY_quantify_38 post (nI v) (nI an) (nI (512 * p)) (nI d) n (nI t) ta ol) tb (512 * p) (pa_qv h v an) (fun n => br_t pa_g512 ?_) (fun n t ht ih => br_f (pa_n512 ht) (pa_y52 hv ha hp ht hh ho ?_))
  · have e : nI d - 1 = nI p := by rw [hpd]; exact nI_pred p
    rw [e]
    refine pa_y_count hp (pa_blk_all (P := fun z => z ≤ 1) ht1 (fun j _ => pa_qv_le h v an j)) ?_
    rw [pa_su_eq (g := pa_qv h v an) (fun i hi => pa_blk_in hi)]
    exact hq
  · rw [pa_yw hp ht rfl (pa_qv_le h v an t)]
    exact ih
theorem pa_y_quant {post : Int32 → SY → Prop} {v an : Nat} (hv : v < 3) (ha : an ≤ 1) (hd1 : 1 ≤ d) (hd : d ≤ 5) (ht1 : ∀ i, tb i ≤ 1)
    (hq : ∀ ol', post (nI (pa_su (pa_qv (fun t => tb (512 * (d - 1) + t)) v an) 512)) (nI d, pa_A (pa_blk tb (512 * (d - 1)) 512 (pa_qv (fun t => tb (512 * (d - 1) + t)) v an)), ol')) :
    wpY_quantify post (nI d, pa_A tb, ol) (nI v) (nI an) := by
  have e : nI d - 1 = nI (d - 1) := pk_sub (b := 1) hd1
  unfold wpY_quantify
  refine br_f (nI_pos (by omega)) (br_t (nI_le (b := 2) (by omega) (by decide)) (br_t rfl (br_f (nI_ne0 (by omega) (by omega)) (pa_y_keep hd1 hd ht1 (fun ol' ho => ?_)))))
  dsimp only
  rw [e]
  exact pa_y_at (by omega) (pa_y38 hv ha (by omega) (by omega) ht1 (fun i => ht1 _) ho (hq ol'))
theorem pa_y46 {post : Int32 → SY → Prop} {u v p : Nat} {h : Nat → Nat} (hu : u < 3) (hv : v < 3) (hp : p ≤ 4) (hh : ∀ i, h i ≤ 1) (ho : ∀ t, t < 512 → ol t = nI (h t))
    (hq : post 0 (nI d, pa_A (pa_blk tb (512 * p) 512 (fun t => h (pa_exn u v t))), ol)) :
    ∃ n, wY_exchange_46 post (nI u) (nI v) (nI (512 * p)) (nI d) n 0 (pa_A tb) ol := by
  refine pa_yfill (fun n t ta => wY_exchange_46 post (nI u) (nI v) (nI (512 * p)) (nI d) n (nI t) ta ol) tb (512 * p) (fun t => h (pa_exn u v t)) (fun n => br_t pa_g512 hq) (fun n t ht ih => br_f (pa_n512 ht) ?_)
  have w1 := pa_wi_lt hu ht (pa_va_lt v t)
  have w2 := pa_wi_lt hv w1 (pa_va_lt u t)
  refine pa_y_value hu ht (pa_y_value hv ht (pa_y_with hu ht (pa_va_lt v t) (pa_y_with hv w1 (pa_va_lt u t) ⟨vp_in_nI w2 (by omega), pa_yin hp ht, nm_r (pa_yw hp ht ((pa_ck ol (by omega)).trans (ho _ w2)) (hh _)) (nm_r (nI_1 t) ih)⟩)))
theorem pa_y37 {post : Int32 → SY → Prop} {v p : Nat} {h : Nat → Nat} (hv : v < 3) (hp : p ≤ 4) (hh : ∀ i, h i ≤ 1) (ho : ∀ t, t < 512 → ol t = nI (h t))
    (hq : post 0 (nI d, pa_A (pa_blk tb (512 * p) 512 (fun t => h (pa_wi v t (7 - pa_va v t)))), ol)) :
    ∃ n, wY_mirror_37 post (nI v) (nI (512 * p)) (nI d) n 0 (pa_A tb) ol := by
  refine pa_yfill (fun n t ta => wY_mirror_37 post (nI v) (nI (512 * p)) (nI d) n (nI t) ta ol) tb (512 * p) (fun t => h (pa_wi v t (7 - pa_va v t))) (fun n => br_t pa_g512 hq) (fun n t ht ih => br_f (pa_n512 ht) (pa_y_value hv ht ?_))
  have l := pa_va_lt v t
  have e : (7 : Int32) - nI (pa_va v t) = nI (7 - pa_va v t) := pk_sub (a := 7) (by omega)
  rw [e]
  have w2 := pa_wi_lt hv ht (x := 7 - pa_va v t) (by omega)
  exact pa_y_with hv ht (by omega) ⟨vp_in_nI w2 (by omega), pa_yin hp ht, nm_r (pa_yw hp ht ((pa_ck ol (by omega)).trans (ho _ w2)) (hh _)) (nm_r (nI_1 t) ih)⟩
theorem pa_y23 {post : Int32 → SY → Prop} {p : Nat} (hp : p < d) (hd : d ≤ 4) (ht1 : ∀ i, tb i ≤ 1) (hq : post (nI (d + 1)) (nI (d + 1), pa_A (pa_blk tb (512 * d) 512 (fun t => tb (512 * p + t))), ol)) :
    ∃ n, wY_copy_23 post (nI p) (nI d) n 0 (pa_A tb) ol := by
  refine pa_yfill (fun n t ta => wY_copy_23 post (nI p) (nI d) n (nI t) ta ol) tb (512 * d) (fun t => tb (512 * p + t)) (fun n => br_t pa_g512 (nm_r (nI_1 d) hq)) (fun n t ht ih => br_f (pa_n512 ht) (pa_y_at hd (pa_y_at (by omega) ⟨pa_yin (by omega) ht, pa_yin hd ht, nm_r (pa_yw hd ht ?_ (ht1 _)) (nm_r (nI_1 t) ih)⟩)))
  rw [pa_yA _ (by omega) ht, pa_blk_out (by omega)]
end
end
section
theorem pa_scan (W : Nat → Nat → Prop) (B : Nat → Prop) (t0 N : Nat) (hx : ∀ n, (∀ t, t0 ≤ t → t < N → ¬ B t) → W (n + 1) N) (hb : ∀ n t, t0 ≤ t → t < N → B t → W (n + 1) t) (hs : ∀ n t, t0 ≤ t → t < N → ¬ B t → W n (t + 1) → W (n + 1) t) (h : t0 ≤ N) : ∃ n, W n t0 := by
  have key : ∀ n t, t0 ≤ t → t ≤ N → N < n + t → (∀ j, t0 ≤ j → j < t → ¬ B j) → W n t := by
    intro n
    induction n with
    | zero => intro t h1 h2 h3; omega
    | succ n ih =>
      intro t h1 h2 h3 h4
      by_cases z : t = N
      · subst z
        exact hx n h4
      · by_cases w : B t
        · exact hb n t h1 (by omega) w
        · refine hs n t h1 (by omega) w (ih (t + 1) (by omega) (by omega) (by omega) (fun j hj1 hj2 => ?_))
          by_cases q : j = t
          · rw [q]; exact w
          · exact h4 j hj1 (by omega)
  exact ⟨N + 1, key (N + 1) t0 (by omega) h (by omega) (fun j h1 h2 => by omega)⟩
theorem pa_xk {k v : Nat} (hv : v < 3) : k ^^^ 2 ^ v = 8 * (k / 8) + (k % 8 ^^^ 2 ^ v) := by
  have a : (k ^^^ 2 ^ v) / 2 ^ 3 = k / 2 ^ 3 ^^^ 2 ^ v / 2 ^ 3 := Nat.xor_div_two_pow
  have b : (k ^^^ 2 ^ v) % 2 ^ 3 = k % 2 ^ 3 ^^^ 2 ^ v % 2 ^ 3 := Nat.xor_mod_two_pow
  have e : ∀ v, v < 3 → 2 ^ v / 2 ^ 3 = 0 ∧ 2 ^ v % 2 ^ 3 = 2 ^ v := by decide
  rw [(e v hv).1, Nat.xor_zero] at a
  rw [(e v hv).2] at b
  have c : k ^^^ 2 ^ v = 8 * ((k ^^^ 2 ^ v) / 2 ^ 3) + (k ^^^ 2 ^ v) % 2 ^ 3 := by
    generalize k ^^^ 2 ^ v = z
    omega
  rw [c, a, b]
/-- the values that occur, as a set of bits, and their number -/
def pa_seen (h : Nat → Nat) (v : Nat) : Nat → Int32
  | 0 => 0
  | t + 1 => if h t = 1 then pa_seen h v t ||| ((1 : Int32) <<< (nI (pa_va v t) &&& 31)) else pa_seen h v t
def pa_sv (x : Int32) : Nat → Int32
  | 0 => 0
  | n + 1 => pa_sv x n + ((x >>> (nI n &&& 31)) &&& 1)
section
variable {d us : Nat} {st c cn bk : Nat → Nat} {iu mk dr md co dt se : Nat → Int32}
theorem pa_run {post : Int32 → Prop} {r t : Nat} {F : Nat → Nat → Nat → Nat} (hr : pa_V3 c iu r F) (ht : t < 512) (hp : post (nI (F (pa_col 0 t) (pa_col 1 t) (pa_col 2 t)))) : wpX_run post ((nI d), (nI us), (pa_A st), (pa_A c), iu, mk, (pa_A cn), (pa_A bk), dr, md, co, dt, se) (nI r) (nI t) := by
  have step : ∀ n node j, j < 3 → node < 520 → wX_run_5 post (nI t) (nI d) (nI us) (pa_A st) (pa_A c) iu mk (pa_A cn) (pa_A bk) dr md co dt se n (nI (c (8 * node + pa_col j t))) (nI (j + 1)) → wX_run_5 post (nI t) (nI d) (nI us) (pa_A st) (pa_A c) iu mk (pa_A cn) (pa_A bk) dr md co dt se (n + 1) (nI node) (nI j) := by
    intro n node j hj hn h
    exact br_f (nI_ge (b := 3) hj (by decide)) (nm_r (pa_run_e j hj t ht) ⟨pa_in8 hn (pa_col_lt j t), nm_r (pa_c8 c hn (pa_col_lt j t)) (nm_r (nI_1 j) h)⟩)
  have a := hr.2 _ (pa_col_lt 0 t)
  have b := a.2 _ (pa_col_lt 1 t)
  refine Exists.intro (0 + 1 + 1 + 1 + 1) (step _ r 0 (by omega) hr.1.2.1 (step _ _ 1 (by omega) a.1.2.1 (step _ _ 2 (by omega) b.1.2.1 (br_t (by decide) ?_))))
  rw [(pa_V3_at hr (pa_col_lt 0 t) (pa_col_lt 1 t) (pa_col_lt 2 t)).1]
  exact hp
theorem pa_read {post : Int32 → Prop} {r w : Nat} {F : Nat → Nat → Nat → Nat} (hr : pa_V3 c iu r F) (hw : w < 512) (hp : post (nI (F (w % 8) (w / 8 % 8) (w / 64)))) : wpX_read post ((nI d), (nI us), (pa_A st), (pa_A c), iu, mk, (pa_A cn), (pa_A bk), dr, md, co, dt, se) (nI r) (nI w) := by
  have e1 : nI w &&& 7 = nI (w % 8) := pk_andN (by omega) 3 (by decide)
  have e3 : nI w >>> ((3 : Int32) &&& 31) = nI (w / 8) := pk_shrN (by omega) _ 3 (by decide)
  have e6 : nI w >>> ((6 : Int32) &&& 31) = nI (w / 64) := pk_shrN (by omega) _ 6 (by decide)
  have e2 : nI (w / 8) &&& 7 = nI (w / 8 % 8) := pk_andN (by omega) 3 (by decide)
  have l1 : w % 8 < 8 := by omega
  have l2 : w / 8 % 8 < 8 := by omega
  have l3 : w / 64 < 8 := by omega
  have a := hr.2 _ l1
  have b := a.2 _ l2
  unfold wpX_read
  dsimp only
  rw [e1, e3, e6, e2]
  refine ⟨pa_in8 hr.1.2.1 l1, nm_r (pa_c8 c hr.1.2.1 l1) ⟨pa_in8 a.1.2.1 l2, nm_r (pa_c8 c a.1.2.1 l2) ⟨pa_in8 b.1.2.1 l3, ?_⟩⟩⟩
  rw [pa_c8 c b.1.2.1 l3, (pa_V3_at hr l1 l2 l3).1]
  exact hp
theorem pa_countOf {post : Int32 → Prop} {r : Nat} {F : Nat → Nat → Nat → Nat} (hr : pa_V3 c iu r F) (hp : post (nI (pa_su (fun w => F (w % 8) (w / 8 % 8) (w / 64)) 512))) : wpX_countOf post ((nI d), (nI us), (pa_A st), (pa_A c), iu, mk, (pa_A cn), (pa_A bk), dr, md, co, dt, se) (nI r) := by
  have key : ∀ n t, t ≤ 512 → 512 < n + t → wX_countOf_4 post (nI r) (nI d) (nI us) (pa_A st) (pa_A c) iu mk (pa_A cn) (pa_A bk) dr md co dt se n (nI (pa_su (fun w => F (w % 8) (w / 8 % 8) (w / 64)) t)) (nI t) := by
    intro n
    induction n with
    | zero => intro t ht hn; omega
    | succ n ih =>
      intro t ht hn
      refine pk_le 512 t (fun q => ?_) (fun q => pa_read hr q (nm_r (nI_add _ _) (nm_r (nI_1 t) (ih (t + 1) (by omega) (by omega)))))
      obtain rfl : t = 512 := by omega
      exact hp
  exact Exists.intro 513 (key 513 0 (by omega) (by omega))
theorem pa_x_implied {post : Int32 → Prop} {i j : Nat} {F G : Nat → Nat → Nat → Nat} (hi : i < 5) (hj : j < 5) (hF : pa_V3 c iu (st i) F) (hG : pa_V3 c iu (st j) G)
    (h1 : (∀ w, w < 512 → ¬ (F (w % 8) (w / 8 % 8) (w / 64) = 1 ∧ G (w % 8) (w / 8 % 8) (w / 64) = 0)) → post 1) (h0 : (∃ w, w < 512 ∧ F (w % 8) (w / 8 % 8) (w / 64) = 1 ∧ G (w % 8) (w / 8 % 8) (w / 64) = 0) → post 0) :
    ∃ n, wX_implied_20 post (nI i) (nI j) (nI d) (nI us) (pa_A st) (pa_A c) iu mk (pa_A cn) (pa_A bk) dr md co dt se n 0 := by
  refine pa_scan (fun n t => wX_implied_20 post (nI i) (nI j) (nI d) (nI us) (pa_A st) (pa_A c) iu mk (pa_A cn) (pa_A bk) dr md co dt se n (nI t)) (fun w => F (w % 8) (w / 8 % 8) (w / 64) = 1 ∧ G (w % 8) (w / 8 % 8) (w / 64) = 0) 0 512 (fun n q => br_t pa_g512 (h1 (fun w hw => q w (by omega) hw))) (fun n t _ ht q => ?_) (fun n t _ ht q ih => ?_) (by omega)
  · refine br_f (pa_n512 ht) ⟨vp_in_nI hi (by omega), ?_⟩
    rw [pa_cA st (k := i) (by omega), pa_cA st (k := j) (by omega)]
    refine pa_read hF ht ?_
    rw [q.1]
    refine br_t rfl ⟨vp_in_nI hj (by omega), pa_read hG ht ?_⟩
    rw [q.2]
    exact br_t rfl (h0 ⟨t, ht, q⟩)
  · refine br_f (pa_n512 ht) ⟨vp_in_nI hi (by omega), ?_⟩
    rw [pa_cA st (k := i) (by omega), pa_cA st (k := j) (by omega)]
    have lF := (pa_V3_at hF (s := t % 8) (t := t / 8 % 8) (w := t / 64) (by omega) (by omega) (by omega)).2
    have lG := (pa_V3_at hG (s := t % 8) (t := t / 8 % 8) (w := t / 64) (by omega) (by omega) (by omega)).2
    refine pa_read hF ht (pk_eq _ 1 (fun z => ⟨vp_in_nI hj (by omega), ?_⟩) (fun z => nm_r (nI_1 t) ih))
    exact pa_read hG ht (pk_eq _ 0 (fun z' => absurd ⟨z, z'⟩ q) (fun _ => nm_r (nI_1 t) ih))
theorem pa_x43 {post : Int32 → SX → Prop} {v : Nat} (hv : v < 3) (hc : ∀ i, c i < 520)
    (h0 : (∀ k, 16 ≤ k → k < 4160 → ¬ mk (k / 8) = 0 → c k = c (k ^^^ 2 ^ v)) → post 0 ((nI d), (nI us), (pa_A st), (pa_A c), iu, mk, (pa_A cn), (pa_A bk), dr, md, co, dt, se)) (h1 : (∃ k, 16 ≤ k ∧ k < 4160 ∧ ¬ mk (k / 8) = 0 ∧ ¬ c k = c (k ^^^ 2 ^ v)) → post 1 ((nI d), (nI us), (pa_A st), (pa_A c), iu, mk, (pa_A cn), (pa_A bk), dr, md, co, dt, se)) :
    ∃ n, wX_depends_43 post (nI v) (nI d) (nI us) (pa_A st) (pa_A c) iu mk (pa_A cn) (pa_A bk) dr md co dt se n 16 := by
  have e : ∀ k, k < 4160 → nI k ^^^ ((1 : Int32) <<< (nI v &&& 31)) = nI (k ^^^ 2 ^ v) ∧ k ^^^ 2 ^ v < 4160 := by
    intro k hk
    rw [(pa_bit_e v hv).1, nx_xor]
    have := pa_xor8 v hv (k % 8) (by omega)
    have := pa_xk (k := k) hv
    exact ⟨rfl, by omega⟩
  refine pa_scan (fun n k => wX_depends_43 post (nI v) (nI d) (nI us) (pa_A st) (pa_A c) iu mk (pa_A cn) (pa_A bk) dr md co dt se n (nI k)) (fun k => ¬ mk (k / 8) = 0 ∧ ¬ c k = c (k ^^^ 2 ^ v)) 16 4160 (fun n q => br_t (by decide) (h0 (fun k k1 k2 z => Classical.byContradiction (fun w => q k k1 k2 ⟨z, w⟩)))) (fun n k k1 k2 q => ?_) (fun n k k1 k2 q ih => ?_) (by omega)
  · have e8 : nI k / 8 = nI (k / 8) := pk_div (d := 8) (by omega) (by omega) (by omega)
    obtain ⟨x1, x2⟩ := e k k2
    refine br_f (nI_ge (b := 4160) k2 (by decide)) ?_
    rw [e8, x1]
    have a1 := hc k
    have a2 := hc (k ^^^ 2 ^ v)
    refine ⟨by decide, vp_in_nI (by omega) (by omega), br_f (fun z => q.1 ((pa_ck mk (by omega)).symm.trans z)) ⟨vp_in_nI k2 (by omega), vp_in_nI x2 (by omega), ?_⟩⟩
    exact pk_eq (c k) (c (k ^^^ 2 ^ v)) (fun z => absurd z q.2) (fun _ => h1 ⟨k, k1, k2, q⟩) (pa_cA c (by omega)) (pa_cA c (by omega))
  · have e8 : nI k / 8 = nI (k / 8) := pk_div (d := 8) (by omega) (by omega) (by omega)
    obtain ⟨x1, x2⟩ := e k k2
    refine br_f (nI_ge (b := 4160) k2 (by decide)) ?_
    rw [e8, x1]
    have a1 := hc k
    have a2 := hc (k ^^^ 2 ^ v)
    refine ⟨by decide, vp_in_nI (by omega) (by omega), br_c (fun _ => nm_r (nI_1 k) ih) (fun z => ⟨vp_in_nI k2 (by omega), vp_in_nI x2 (by omega), ?_⟩)⟩
    exact pk_eq (c k) (c (k ^^^ 2 ^ v)) (fun _ => nm_r (nI_1 k) ih) (fun w => absurd ⟨fun z' => z ((pa_ck mk (by omega)).trans z'), w⟩ q) (pa_cA c (by omega)) (pa_cA c (by omega))
theorem pa_x75 {post : Int32 → Prop} {x : Int32} (hp : post (pa_sv x 8)) : ∃ n, wX_values_75 post x (nI d) (nI us) (pa_A st) (pa_A c) iu mk (pa_A cn) (pa_A bk) dr md co dt se n 0 0 := by
  have key : ∀ n t, t ≤ 8 → 8 < n + t → wX_values_75 post x (nI d) (nI us) (pa_A st) (pa_A c) iu mk (pa_A cn) (pa_A bk) dr md co dt se n (pa_sv x t) (nI t) := by
    intro n
    induction n with
    | zero => intro t ht hn; omega
    | succ n ih =>
      intro t ht hn
      refine pk_le 8 t (fun q => ?_) (fun q => nm_r (e' := pa_sv x (t + 1)) rfl (nm_r (nI_1 t) (ih (t + 1) (by omega) (by omega))))
      obtain rfl : t = 8 := by omega
      exact hp
  exact ⟨9, key 9 0 (by omega) (by omega)⟩
theorem pa_x25 {post : Int32 → Prop} {p v : Nat} {h : Nat → Nat} (hp5 : p < 5) (hv : v < 3) (hh : ∀ i, h i ≤ 1) (hr : pa_V3 c iu (st p) (fun s t w => h (pa_num s t w))) (hp : post (pa_sv (pa_seen h v 512) 8)) : ∃ n, wX_values_25 post (nI p) (nI v) (nI d) (nI us) (pa_A st) (pa_A c) iu mk (pa_A cn) (pa_A bk) dr md co dt se n 0 0 := by
  have key : ∀ n t, t ≤ 512 → 512 < n + t → wX_values_25 post (nI p) (nI v) (nI d) (nI us) (pa_A st) (pa_A c) iu mk (pa_A cn) (pa_A bk) dr md co dt se n (pa_seen h v t) (nI t) := by
    intro n
    induction n with
    | zero => intro t ht hn; omega
    | succ n ih =>
      intro t ht hn
      refine pk_le 512 t (fun q => ?_) (fun q => ⟨vp_in_nI hp5 (by omega), ?_⟩)
      · obtain rfl : t = 512 := by omega
        exact pa_x75 hp
      · rw [pa_cA st (by omega), pa_va_e hv q]
        refine pa_run hr q ?_
        rw [pa_num_col t q]
        have ih' := ih (t + 1) (by omega) (by omega)
        unfold pa_seen at ih'
        have l := hh t
        refine pk_eq (h t) 1 (fun z => ?_) (fun z => ?_)
        · rw [if_pos z] at ih'
          exact nm_e (nm_r (nI_1 t) ih')
        · rw [if_neg z] at ih'
          exact nm_r (nI_1 t) ih'
  exact ⟨513, key 513 0 (by omega) (by omega)⟩
end
end
section
section
variable {d : Nat} {tb : Nat → Nat} {ol : Nat → Int32}
theorem pa_y_same {post : Int32 → Prop} {i j : Nat} (hi : i ≤ 4) (hj : j ≤ 4) (ht1 : ∀ i, tb i ≤ 1)
    (h1 : (∀ t, t < 512 → tb (512 * i + t) = tb (512 * j + t)) → post 1) (h0 : (∃ t, t < 512 ∧ ¬ tb (512 * i + t) = tb (512 * j + t)) → post 0) : ∃ n, wY_same_20 post (nI i) (nI j) (nI d) (pa_A tb) ol n 0 := by
  refine pa_scan (fun n t => wY_same_20 post (nI i) (nI j) (nI d) (pa_A tb) ol n (nI t)) (fun t => ¬ tb (512 * i + t) = tb (512 * j + t)) 0 512 (fun n q => br_t pa_g512 (h1 (fun t ht => Classical.byContradiction (q t (by omega) ht)))) (fun n t _ ht q => ?_) (fun n t _ ht q ih => ?_) (by omega)
  · have a := ht1 (512 * i + t)
    have b := ht1 (512 * j + t)
    exact br_f (pa_n512 ht) (pa_y_at hi ⟨pa_yin hi ht, pa_y_at hj ⟨pa_yin hj ht, pk_eq (tb (512 * i + t)) (tb (512 * j + t)) (fun z => absurd z q) (fun _ => h0 ⟨t, ht, q⟩) (pa_yA tb hi ht) (pa_yA tb hj ht)⟩⟩)
  · have a := ht1 (512 * i + t)
    have b := ht1 (512 * j + t)
    exact br_f (pa_n512 ht) (pa_y_at hi ⟨pa_yin hi ht, pa_y_at hj ⟨pa_yin hj ht, pk_eq (tb (512 * i + t)) (tb (512 * j + t)) (fun _ => nm_r (nI_1 t) ih) (fun z => absurd z q) (pa_yA tb hi ht) (pa_yA tb hj ht)⟩⟩)
theorem pa_y_implied {post : Int32 → Prop} {i j : Nat} (hi : i ≤ 4) (hj : j ≤ 4) (ht1 : ∀ i, tb i ≤ 1)
    (h1 : (∀ t, t < 512 → ¬ (tb (512 * i + t) = 1 ∧ tb (512 * j + t) = 0)) → post 1) (h0 : (∃ t, t < 512 ∧ tb (512 * i + t) = 1 ∧ tb (512 * j + t) = 0) → post 0) : ∃ n, wY_implied_20 post (nI i) (nI j) (nI d) (pa_A tb) ol n 0 := by
  refine pa_scan (fun n t => wY_implied_20 post (nI i) (nI j) (nI d) (pa_A tb) ol n (nI t)) (fun t => tb (512 * i + t) = 1 ∧ tb (512 * j + t) = 0) 0 512 (fun n q => br_t pa_g512 (h1 (fun t ht => q t (by omega) ht))) (fun n t _ ht q => ?_) (fun n t _ ht q ih => ?_) (by omega)
  · have a := ht1 (512 * i + t)
    have b := ht1 (512 * j + t)
    exact br_f (pa_n512 ht) (pa_y_at hi ⟨pa_yin hi ht, pk_eq (tb (512 * i + t)) 0 (fun z => by omega) (fun _ => pa_y_at hj ⟨pa_yin hj ht, pk_eq (tb (512 * j + t)) 0 (fun _ => h0 ⟨t, ht, q⟩) (fun z => absurd q.2 z) (pa_yA tb hj ht)⟩) (pa_yA tb hi ht)⟩)
  · have a := ht1 (512 * i + t)
    have b := ht1 (512 * j + t)
    exact br_f (pa_n512 ht) (pa_y_at hi ⟨pa_yin hi ht, pk_eq (tb (512 * i + t)) 0 (fun _ => nm_r (nI_1 t) ih) (fun z => pa_y_at hj ⟨pa_yin hj ht, pk_eq (tb (512 * j + t)) 0 (fun z' => absurd ⟨by omega, z'⟩ q) (fun _ => nm_r (nI_1 t) ih) (pa_yA tb hj ht)⟩) (pa_yA tb hi ht)⟩)
theorem pa_y_depends {post : Int32 → Prop} {p v : Nat} (hp : p ≤ 4) (hv : v < 3) (ht1 : ∀ i, tb i ≤ 1)
    (h0 : (∀ t, t < 512 → tb (512 * p + t) = tb (512 * p + pa_wi v t 0)) → post 0) (h1 : (∃ t, t < 512 ∧ ¬ tb (512 * p + t) = tb (512 * p + pa_wi v t 0)) → post 1) : ∃ n, wY_depends_23 post (nI p) (nI v) (nI d) (pa_A tb) ol n 0 := by
  refine pa_scan (fun n t => wY_depends_23 post (nI p) (nI v) (nI d) (pa_A tb) ol n (nI t)) (fun t => ¬ tb (512 * p + t) = tb (512 * p + pa_wi v t 0)) 0 512 (fun n q => br_t pa_g512 (h0 (fun t ht => Classical.byContradiction (q t (by omega) ht)))) (fun n t _ ht q => ?_) (fun n t _ ht q ih => ?_) (by omega)
  · have a := ht1 (512 * p + t)
    have b := ht1 (512 * p + pa_wi v t 0)
    have w := pa_wi_lt (x := 0) hv ht (by omega)
    exact br_f (pa_n512 ht) (pa_y_with (x := 0) hv ht (by omega) (pa_y_at hp ⟨pa_yin hp ht, pa_y_at hp ⟨pa_yin hp w, pk_eq (tb (512 * p + t)) (tb (512 * p + pa_wi v t 0)) (fun z => absurd z q) (fun _ => h1 ⟨t, ht, q⟩) (pa_yA tb hp ht) (pa_yA tb hp w)⟩⟩))
  · have a := ht1 (512 * p + t)
    have b := ht1 (512 * p + pa_wi v t 0)
    have w := pa_wi_lt (x := 0) hv ht (by omega)
    exact br_f (pa_n512 ht) (pa_y_with (x := 0) hv ht (by omega) (pa_y_at hp ⟨pa_yin hp ht, pa_y_at hp ⟨pa_yin hp w, pk_eq (tb (512 * p + t)) (tb (512 * p + pa_wi v t 0)) (fun _ => nm_r (nI_1 t) ih) (fun z => absurd z q) (pa_yA tb hp ht) (pa_yA tb hp w)⟩⟩))
theorem pa_y74 {post : Int32 → Prop} {x : Int32} {ta : Nat → Int32} (hp : post (pa_sv x 8)) : ∃ n, wY_values_74 post x (nI d) ta ol n 0 0 := by
  have key : ∀ n t, t ≤ 8 → 8 < n + t → wY_values_74 post x (nI d) ta ol n (pa_sv x t) (nI t) := by
    intro n
    induction n with
    | zero => intro t ht hn; omega
    | succ n ih =>
      intro t ht hn
      refine pk_le 8 t (fun q => ?_) (fun q => nm_r (e' := pa_sv x (t + 1)) rfl (nm_r (nI_1 t) (ih (t + 1) (by omega) (by omega))))
      obtain rfl : t = 8 := by omega
      exact hp
  exact ⟨9, key 9 0 (by omega) (by omega)⟩
theorem pa_y26 {post : Int32 → Prop} {p v : Nat} (hp4 : p ≤ 4) (hv : v < 3) (ht1 : ∀ i, tb i ≤ 1) (hp : post (pa_sv (pa_seen (fun t => tb (512 * p + t)) v 512) 8)) : ∃ n, wY_values_26 post (nI p) (nI v) (nI d) (pa_A tb) ol n 0 0 := by
  have key : ∀ n t, t ≤ 512 → 512 < n + t → wY_values_26 post (nI p) (nI v) (nI d) (pa_A tb) ol n (pa_seen (fun t => tb (512 * p + t)) v t) (nI t) := by
    intro n
    induction n with
    | zero => intro t ht hn; omega
    | succ n ih =>
      intro t ht hn
      refine pk_le 512 t (fun q => ?_) (fun q => pa_y_at hp4 ⟨pa_yin hp4 q, ?_⟩)
      · obtain rfl : t = 512 := by omega
        exact pa_y74 hp
      · have ih' := ih (t + 1) (by omega) (by omega)
        unfold pa_seen at ih'
        have l := ht1 (512 * p + t)
        refine pk_eq (tb (512 * p + t)) 0 (fun z => ?_) (fun z => ?_) (pa_yA tb hp4 q)
        · rw [if_neg (by omega)] at ih'
          exact nm_r (nI_1 t) ih'
        · rw [if_pos (by omega)] at ih'
          exact pa_y_value hv q (nm_e (nm_r (nI_1 t) ih'))
  exact ⟨513, key 513 0 (by omega) (by omega)⟩
theorem pa_nskip {post : Int32 → Prop} {p : Nat} {x : Int32} : ∀ t0, t0 ≤ 512 → (∀ j, j < t0 → nI j ≤ x) → (∃ n, wY_next_12 post (nI p) x (nI d) (pa_A tb) ol n (nI t0)) → ∃ n, wY_next_12 post (nI p) x (nI d) (pa_A tb) ol n 0
  | 0, _, _, h => h
  | t + 1, ht, hj, ⟨n, h⟩ => pa_nskip t (by omega) (fun j q => hj j (by omega)) ⟨n + 1, br_f (pa_n512 (by omega)) (br_t (hj t (by omega)) (nm_r (nI_1 t) h))⟩
end
section
variable {d us : Nat} {st c cn bk : Nat → Nat} {iu mk dr md co dt se : Nat → Int32} {tb : Nat → Nat} {ol : Nat → Int32}
theorem pa_next {p : Nat} {x : Int32} (hp : p ≤ 4) (ht1 : ∀ i, tb i ≤ 1) (hr : pa_V3 c iu (st p) (fun s t w => tb (512 * p + pa_num s t w))) :
    ∀ m t, t + m = 512 → (∀ j, t ≤ j → j < 512 → ¬ nI j ≤ x) → ∃ r, (∀ post : Int32 → Prop, post r → wX_next_32 post (nI p) (nI d) (nI us) (pa_A st) (pa_A c) iu mk (pa_A cn) (pa_A bk) dr md co dt se (m + 1) (nI t)) ∧ (∀ post : Int32 → Prop, post r → wY_next_12 post (nI p) x (nI d) (pa_A tb) ol (m + 1) (nI t)) := by
  intro m
  induction m with
  | zero =>
    intro t ht hx
    obtain rfl : t = 512 := by omega
    exact ⟨-2, fun _ h => br_t pa_g512 h, fun _ h => br_t pa_g512 h⟩
  | succ m ih =>
    intro t ht hx
    have t5 : t < 512 := by omega
    have l := ht1 (512 * p + t)
    by_cases z : tb (512 * p + t) = 1
    · refine ⟨nI t, fun post h => br_f (pa_n512 t5) ⟨vp_in_nI (by omega) (by omega), ?_⟩, fun post h => br_f (pa_n512 t5) (br_f (hx t (by omega) t5) (pa_y_at hp ⟨pa_yin hp t5, pk_eq (tb (512 * p + t)) 0 (fun w => by omega) (fun _ => h) (pa_yA tb hp t5)⟩))⟩
      rw [pa_cA st (by omega)]
      refine pa_run hr t5 ?_
      rw [pa_num_col t t5, z]
      exact br_t rfl h
    · obtain ⟨r, h1, h2⟩ := ih (t + 1) (by omega) (fun j q => hx j (by omega))
      refine ⟨r, fun post h => br_f (pa_n512 t5) ⟨vp_in_nI (by omega) (by omega), ?_⟩, fun post h => br_f (pa_n512 t5) (br_f (hx t (by omega) t5) (pa_y_at hp ⟨pa_yin hp t5, pk_eq (tb (512 * p + t)) 0 (fun w => nm_r (nI_1 t) (h2 post h)) (fun w => by omega) (pa_yA tb hp t5)⟩))⟩
      rw [pa_cA st (by omega)]
      refine pa_run hr t5 ?_
      rw [pa_num_col t t5]
      exact pk_eq (tb (512 * p + t)) 1 (fun w => absurd w z) (fun _ => nm_r (nI_1 t) (h1 post h))
end
/-! what a variable changes -/
theorem pa_wi_fl : ∀ v, v < 3 → ∀ s, s < 8 → ∀ t, t < 8 → ∀ w, w < 8 → pa_wi v (pa_num (s ^^^ 2 ^ v) t w) 0 = pa_wi v (pa_num s t w) 0 ∧ pa_wi v (pa_num s (t ^^^ 2 ^ v) w) 0 = pa_wi v (pa_num s t w) 0 ∧ pa_wi v (pa_num s t (w ^^^ 2 ^ v)) 0 = pa_wi v (pa_num s t w) 0 := by decide +kernel
theorem pa_dep_no {c : Nat → Nat} {iu m0 m1 m2 m3 : Nat → Int32} {r v : Nat} {h : Nat → Nat} (hv : v < 3) (hr : pa_V3 c iu r (fun s t w => h (pa_num s t w))) (h0 : ¬ m0 r = 0) (h1 : pa_St c m0 m1) (h2 : pa_St c m1 m2) (h3 : pa_St c m2 m3)
    (hk : ∀ k, 16 ≤ k → k < 4160 → ¬ m3 (k / 8) = 0 → c k = c (k ^^^ 2 ^ v)) : ∀ t, t < 512 → h t = h (pa_wi v t 0) := by
  have mv : ∀ n s i, 2 ≤ n → n < 520 → s < 8 → ¬ m3 n = 0 → c (8 * n + (s ^^^ (i % 2 * 2 ^ v))) = c (8 * n + s) := by
    intro n s i n2 n5 hs hm
    rcases (by omega : i % 2 = 0 ∨ i % 2 = 1) with e | e
    · rw [e, Nat.zero_mul, Nat.xor_zero]
    · rw [e, Nat.one_mul]
      have a := hk (8 * n + s) (by omega) (by omega) (by rw [show (8 * n + s) / 8 = n from by omega]; exact hm)
      rw [pa_xk hv, show (8 * n + s) / 8 = n from by omega, show (8 * n + s) % 8 = s from by omega] at a
      exact a.symm
  have x8 : ∀ s i, s < 8 → s ^^^ (i % 2 * 2 ^ v) < 8 := by
    intro s i hs
    rcases (by omega : i % 2 = 0 ∨ i % 2 = 1) with e | e
    · rw [e, Nat.zero_mul, Nat.xor_zero]; exact hs
    · rw [e, Nat.one_mul]; exact pa_xor8 v hv s hs
  intro t ht
  have s8 := pa_col_lt 0 t
  have t8 := pa_col_lt 1 t
  have w8 := pa_col_lt 2 t
  have nt := pa_num_col t ht
  have e := pa_qu1 v hv _ s8 _ t8 _ w8 0 (by omega)
  rw [nt] at e
  rw [e]
  generalize 0 ^^^ pa_va v t = i
  have a := hr.2 _ s8
  have b := a.2 _ t8
  have q1 := (pa_V3_at hr (x8 _ i s8) (x8 _ (i / 2) t8) (x8 _ (i / 4) w8)).1
  have q0 := (pa_V3_at hr s8 t8 w8).1
  rw [mv r _ i hr.1.1 hr.1.2.1 s8 (pa_St_all hr h0 h1 h2 h3 (Or.inl rfl)), mv _ _ (i / 2) a.1.1 a.1.2.1 t8 (pa_St_all hr h0 h1 h2 h3 (Or.inr (Or.inl ⟨_, s8, rfl⟩))), mv _ _ (i / 4) b.1.1 b.1.2.1 w8 (pa_St_all hr h0 h1 h2 h3 (Or.inr (Or.inr ⟨_, _, s8, t8, rfl⟩))), q0] at q1
  rw [nt] at q1
  exact q1
theorem pa_dep_yes {us : Nat} {c cn bk : Nat → Nat} {iu : Nat → Int32} {r v n s : Nat} {h : Nat → Nat} (H : pa_HI us c iu cn bk) (hv : v < 3) (hr : pa_V3 c iu r (fun s t w => h (pa_num s t w))) (hn : pa_Rc c r n) (hs : s < 8)
    (hh : ∀ t, t < 512 → h t = h (pa_wi v t 0)) : c (8 * n + s) = c (8 * n + (s ^^^ 2 ^ v)) := by
  have sb := pa_xor8 v hv s hs
  have fl : ∀ x y, x < 512 → y < 512 → pa_wi v x 0 = pa_wi v y 0 → h y = h x := fun x y hx hy e => by rw [hh x hx, hh y hy, e]
  rcases hn with e | ⟨s1, h1, e⟩ | ⟨s1, s2, h1, h2, e⟩
  · rw [e]
    exact pa_V2_uq H (hr.2 s hs) (hr.2 _ sb) (fun t w ht hw => fl _ _ (pa_num_lt _ _ _) (pa_num_lt _ _ _) (pa_wi_fl v hv s hs t ht w hw).1)
  · rw [e]
    exact pa_V1_uq H ((hr.2 s1 h1).2 s hs) ((hr.2 s1 h1).2 _ sb) (fun w hw => fl _ _ (pa_num_lt _ _ _) (pa_num_lt _ _ _) (pa_wi_fl v hv s1 h1 s hs w hw).2.1)
  · rw [e, (pa_V3_at hr h1 h2 hs).1, (pa_V3_at hr h1 h2 sb).1]
    exact fl _ _ (pa_num_lt _ _ _) (pa_num_lt _ _ _) (pa_wi_fl v hv s1 h1 s2 h2 s hs).2.2
end
section
/-- both sides hold the same formulas: each root of the stack reads off the reference's table -/
def pa_OK (d us : Nat) (st c : Nat → Nat) (iu : Nat → Int32) (cn bk tb : Nat → Nat) : Prop :=
  d ≤ 5 ∧ pa_HI us c iu cn bk ∧ (∀ i, tb i ≤ 1) ∧ ∀ p, p < d → pa_V3 c iu (st p) (fun s t w => tb (512 * p + pa_num s t w))
/-- the relation at the head of a turn -/
def i_Rel (k : Nat) (u : SX) (v : SY) : Prop :=
  ∃ (d us : Nat) (st c : Nat → Nat) (iu mk : Nat → Int32) (cn bk : Nat → Nat) (dr md co dt se : Nat → Int32) (tb : Nat → Nat) (ol : Nat → Int32), u = ((nI d), (nI us), (pa_A st), (pa_A c), iu, mk, (pa_A cn), (pa_A bk), dr, md, co, dt, se) ∧ v = (nI d, pa_A tb, ol) ∧ pa_OK d us st c iu cn bk tb
theorem pa_el {k : Nat} {P : SX → SY → Prop} {u : SX} {v : SY} (I : i_Rel k u v) (h : ∀ (d us : Nat) (st c : Nat → Nat) (iu mk : Nat → Int32) (cn bk : Nat → Nat) (dr md co dt se : Nat → Int32) (tb : Nat → Nat) (ol : Nat → Int32), pa_OK d us st c iu cn bk tb → P ((nI d), (nI us), (pa_A st), (pa_A c), iu, mk, (pa_A cn), (pa_A bk), dr, md, co, dt, se) (nI d, pa_A tb, ol)) : P u v := by
  obtain ⟨d, us, st, c, iu, mk, cn, bk, dr, md, co, dt, se, tb, ol, e1, e2, O⟩ := I
  rw [e1, e2]
  exact h d us st c iu mk cn bk dr md co dt se tb ol O
section
variable {k d us : Nat} {st c cn bk : Nat → Nat} {iu mk dr md co dt se : Nat → Int32} {tb : Nat → Nat} {ol : Nat → Int32}
theorem pa_in (O : pa_OK d us st c iu cn bk tb) : i_Rel k ((nI d), (nI us), (pa_A st), (pa_A c), iu, mk, (pa_A cn), (pa_A bk), dr, md, co, dt, se) (nI d, pa_A tb, ol) := ⟨d, us, st, c, iu, mk, cn, bk, dr, md, co, dt, se, tb, ol, rfl, rfl, O⟩
theorem pa_OK_push {e d' us' r : Nat} {c' cn' bk' : Nat → Nat} {iu' : Nat → Int32} {G : Nat → Nat → Nat → Nat} {g : Nat → Nat} (he : e ≤ 4) (hd' : e + 1 = d') (H : pa_HI us' c' iu' cn' bk') (ht1 : ∀ i, tb i ≤ 1)
    (hold : ∀ p, p < e → pa_V3 c' iu' (st p) (fun s t w => tb (512 * p + pa_num s t w))) (hr : pa_V3 c' iu' r G) (hG : ∀ s t w, s < 8 → t < 8 → w < 8 → G s t w = g (pa_num s t w)) (hg : ∀ t, t < 512 → g t ≤ 1) :
    pa_OK d' us' (pa_up st e r) c' iu' cn' bk' (pa_blk tb (512 * e) 512 g) := by
  subst hd'
  refine ⟨by omega, H, pa_blk_all (P := fun z => z ≤ 1) ht1 hg, fun p hp => ?_⟩
  by_cases z : p = e
  · subst z
    rw [pa_up_s]
    refine pa_V3_f hr (fun s t w hs ht hw => ?_)
    rw [pa_blk_in (pa_num_lt s t w)]
    exact hG s t w hs ht hw
  · rw [pa_up_n z]
    refine pa_V3_f (hold p (by omega)) (fun s t w hs ht hw => ?_)
    have := pa_num_lt s t w
    rw [pa_blk_out (by omega)]
theorem pa_place (p : Int32) (hd : d ≤ 5) :
    (∃ q, q < d ∧ p = nI q ∧ (∀ post : Int32 → Prop, post 1 → wpX_isPlace post ((nI d), (nI us), (pa_A st), (pa_A c), iu, mk, (pa_A cn), (pa_A bk), dr, md, co, dt, se) p) ∧ (∀ (post : Int32 → Prop) (ta ol : Nat → Int32), post 0 → wpY_badPlace post (nI d, ta, ol) p)) ∨
    ((∀ post : Int32 → Prop, post 0 → wpX_isPlace post ((nI d), (nI us), (pa_A st), (pa_A c), iu, mk, (pa_A cn), (pa_A bk), dr, md, co, dt, se) p) ∧ (∀ (post : Int32 → Prop) (ta ol : Nat → Int32), post 1 → wpY_badPlace post (nI d, ta, ol) p)) := by
  rcases pk_ix p (n := d) (by omega) with h | h | ⟨q, hq, h⟩
  · exact Or.inr ⟨fun _ z => br_t h z, fun _ _ _ z => br_t h z⟩
  · by_cases g : p < 0
    · exact Or.inr ⟨fun _ z => br_t g z, fun _ _ _ z => br_t g z⟩
    · exact Or.inr ⟨fun _ z => br_f g (br_t h z), fun _ _ _ z => br_f g (br_t h z)⟩
  · subst h
    have g : ¬ nI q < 0 := nI_pos (by omega)
    have f : ¬ nI d ≤ nI q := nI_ge hq (by omega)
    exact Or.inl ⟨q, hq, rfl, fun _ z => br_f g (br_f f z), fun _ _ _ z => br_f g (br_f f (br_t (nI_le (b := 4) (by omega) (by decide)) z))⟩
end
theorem pa_vari (p : Int32) :
    (∃ v, v < 3 ∧ p = nI v ∧ (∀ post : Int32 → Prop, post 1 → wpX_isVariable post p) ∧ (∀ (post : Int32 → Prop) (fd : Int32) (ta ol : Nat → Int32), post 0 → wpY_badVar post (fd, ta, ol) p)) ∨
    ((∀ post : Int32 → Prop, post 0 → wpX_isVariable post p) ∧ (∀ (post : Int32 → Prop) (fd : Int32) (ta ol : Nat → Int32), post 1 → wpY_badVar post (fd, ta, ol) p)) := by
  by_cases g : p < 0
  · exact Or.inr ⟨fun _ z => br_t g z, fun _ _ _ _ z => br_t g z⟩
  · by_cases f : p ≤ 2
    · obtain ⟨v, hv, e⟩ := nI_of2 (x := p) (M := 2) (n := 2) (by decide) g f
      have f' : ¬ (2 : Int32) < p := Int32.not_lt.mpr f
      exact Or.inl ⟨v, by omega, e, fun _ z => br_f g (br_f f' z), fun _ _ _ _ z => br_f g (br_t f z)⟩
    · have f' : (2 : Int32) < p := Int32.not_le.mp f
      exact Or.inr ⟨fun _ z => br_f g (br_t f' z), fun _ _ _ _ z => br_f g (br_f f z)⟩
theorem pa_small (p : Int32) :
    (pa_sm p ∧ (∀ post : Int32 → Prop, post 1 → wpX_isSmall post p) ∧ (∀ (post : Int32 → Prop) (fd : Int32) (ta ol : Nat → Int32), post 0 → wpY_far post (fd, ta, ol) p)) ∨
    ((∀ post : Int32 → Prop, post 0 → wpX_isSmall post p) ∧ (∀ (post : Int32 → Prop) (fd : Int32) (ta ol : Nat → Int32), post 1 → wpY_far post (fd, ta, ol) p)) := by
  by_cases g : p < (-4)
  · exact Or.inr ⟨fun _ z => br_t g z, fun _ _ _ _ z => br_t g z⟩
  · by_cases f : p ≤ 4
    · have f' : ¬ (4 : Int32) < p := Int32.not_lt.mpr f
      refine Or.inl ⟨?_, fun _ z => br_f g (br_f f' z), fun _ _ _ _ z => br_f g (br_t f z)⟩
      have a : (-4 : Int32).toInt = -4 := by decide
      have b : (4 : Int32).toInt = 4 := by decide
      rw [Int32.lt_iff_toInt_lt, a] at g
      rw [Int32.le_iff_toInt_le, b] at f
      exact ⟨by omega, f⟩
    · have f' : (4 : Int32) < p := Int32.not_le.mp f
      exact Or.inr ⟨fun _ z => br_f g (br_t f' z), fun _ _ _ _ z => br_f g (br_f f z)⟩
theorem i_up {k : Nat} {u : SX} {v : SY} (h : i_Rel k u v) : i_Rel (k + 5) u v := h
theorem i_vc0 : wpX_init (fun u => wpY_init (fun v => i_Rel 0 u v)) := by
  refine nm_e (nm_e ?_)
  refine pa_in (k := 0) (d := 0) (us := 2) (st := fun _ => 0) (c := fun _ => 0) (cn := fun _ => 0) (bk := fun _ => 0) (tb := fun _ => 0) ?_
  refine ⟨by omega, ⟨?_, ⟨by decide, by decide⟩, fun i => (by decide : 0 < 520), ?_, ?_⟩, fun i => (by decide : 0 ≤ 1), fun p hp => by omega⟩
  · decide +kernel
  · intro m n hm
    refine absurd ?_ hm.2.2
    have a := hm.1
    show upd (upd (fun _ => 0) 0 (vp_nar .boolean 1)) 1 (vp_nar .boolean 1) m = 0
    rw [pk_un (by omega), pk_un (by omega)]
  · refine ⟨fun _ => [], fun k hk => ⟨rfl, List.nodup_nil, fun x => ⟨fun q => absurd q (by simp), fun q => ?_⟩⟩⟩
    refine absurd ?_ q.1.2.2
    have a := q.1.1
    show upd (upd (fun _ => 0) 0 (vp_nar .boolean 1)) 1 (vp_nar .boolean 1) x = 0
    rw [pk_un (by omega), pk_un (by omega)]
end
section
theorem i_vc_depth {k : Nat} {u : SX} {v : SY} (I : i_Rel k u v) (hk : k + 5 ≤ 2560) : wpX_depth (fun r => wpY_depth (fun r' => r' = r ∧ i_Rel (k + 5) u v) v) u := by
  refine pa_el (P := fun u v => wpX_depth (fun r => wpY_depth (fun r' => r' = r ∧ i_Rel (k + 5) u v) v) u) I ?_
  intro d us st c iu mk cn bk dr md co dt se tb ol O
  exact And.intro rfl (pa_in O)
theorem i_vc_atMost {k : Nat} {u : SX} {v : SY} (I : i_Rel k u v) (hk : k + 5 ≤ 2560) (v1 : Int32) (v2 : Int32) (v3 : Int32) (v4 : Int32) : wpX_atMost (fun r u' => wpY_atMost (fun r' v' => r' = r ∧ i_Rel (k + 5) u' v') v v1 v2 v3 v4) u v1 v2 v3 v4 := by
  refine pa_el (P := fun u v => wpX_atMost (fun r u' => wpY_atMost (fun r' v' => r' = r ∧ i_Rel (k + 5) u' v') v v1 v2 v3 v4) u v1 v2 v3 v4) I ?_
  intro d us st c iu mk cn bk dr md co dt se tb ol O
  unfold wpX_atMost wpY_atMost
  dsimp only
  rcases pa_small v1 with ⟨s1, x1, y1⟩ | ⟨x1, y1⟩
  rotate_left
  · exact x1 _ (br_t rfl (y1 _ _ _ _ (br_f (by decide) ⟨rfl, pa_in O⟩)))
  rcases pa_small v2 with ⟨s2, x2, y2⟩ | ⟨x2, y2⟩
  rotate_left
  · exact x1 _ (br_f (by decide) (x2 _ (br_t rfl (y1 _ _ _ _ (br_t rfl (y2 _ _ _ _ (br_f (by decide) ⟨rfl, pa_in O⟩)))))))
  rcases pa_small v3 with ⟨s3, x3, y3⟩ | ⟨x3, y3⟩
  rotate_left
  · exact x1 _ (br_f (by decide) (x2 _ (br_f (by decide) (x3 _ (br_t rfl (y1 _ _ _ _ (br_t rfl (y2 _ _ _ _ (br_t rfl (y3 _ _ _ _ (br_f (by decide) ⟨rfl, pa_in O⟩)))))))))))
  have m100 : (-100 : Int32).toInt = -100 := by decide
  have p100 : (100 : Int32).toInt = 100 := by decide
  refine x1 _ (br_f (by decide) (x2 _ (br_f (by decide) (x3 _ (br_f (by decide) ?_)))))
  by_cases g : v4 < (-100)
  · exact br_t g (y1 _ _ _ _ (br_t rfl (y2 _ _ _ _ (br_t rfl (y3 _ _ _ _ (br_t rfl (br_t g ⟨rfl, pa_in O⟩)))))))
  by_cases f : v4 ≤ 100
  rotate_left
  · exact br_f g (br_f f (y1 _ _ _ _ (br_t rfl (y2 _ _ _ _ (br_t rfl (y3 _ _ _ _ (br_t rfl (br_f g (br_f f ⟨rfl, pa_in O⟩)))))))))
  have O' := O
  obtain ⟨d5, H, ht1, hst⟩ := O
  refine br_f g (br_t f (pk_eq d 5 (fun z => ?_) (fun z => ?_)))
  · exact y1 _ _ _ _ (br_t rfl (y2 _ _ _ _ (br_t rfl (y3 _ _ _ _ (br_t rfl (br_f g (br_t f (br_t (by rw [z]; rfl) ⟨rfl, pa_in O'⟩))))))))
  · have d4 : d ≤ 4 := by omega
    have n5 : ¬ nI d = 5 := fun q => z ((nI_eq (b := 5) (by omega) (by decide)).mp q)
    refine pa_makeRoom H d5 hst (fun us' iu' mk' cn' bk' H' hu' hst' => pa_tk (fun co' dt' hdt => pa_at65 H' hu' (by omega) (fun r us'' c'' iu'' cn'' bk'' dr'' md'' se'' a1 a2 a3 => ?_)))
    refine y1 _ _ _ _ (br_t rfl (y2 _ _ _ _ (br_t rfl (y3 _ _ _ _ (br_t rfl (br_f g (br_t f (br_f n5 (pa_y_at d4 (pa_y67 d4 ⟨rfl, pa_in (pa_OK_push d4 rfl a1 ht1 (fun p hp => pa_V3_ex a2 (hst' p hp)) a3 (fun s t w hs ht hw => ?_) (fun t ht => ?_))⟩))))))))))
    · rw [Int32.lt_iff_toInt_lt, m100] at g
      rw [Int32.le_iff_toInt_le, p100] at f
      dsimp only
      rw [hdt s hs, hdt t ht, hdt w hw, pa_at_law s1 s2 s3 (by omega) f]
    · split <;> omega
theorem pa_sm_n {x : Nat} (h : x ≤ 8) : pa_sm (nI x - 4) := by
  have e : (nI x - 4).toInt = (x : Int) - (4 : Nat) := pk_sub_toInt (b := 4) (by omega) (by decide)
  unfold pa_sm
  rw [e]
  omega
theorem pa_coef {x : Int32} (h0 : ¬ x < 0) (h : x ≤ 728) : pa_sm (x / 81 - 4) ∧ pa_sm ((x / 9) - (x / 9) / 9 * 9 - 4) ∧ pa_sm (x - x / 9 * 9 - 4) := by
  obtain ⟨j, hj, rfl⟩ := nI_of2 (x := x) (M := 728) (n := 728) (by decide) h0 h
  have e1 : nI j / 81 = nI (j / 81) := pk_div (d := 81) (by omega) (by omega) (by omega)
  have e2 : nI j / 9 = nI (j / 9) := pk_div (d := 9) (by omega) (by omega) (by omega)
  have e3 : nI (j / 9) - nI (j / 9) / 9 * 9 = nI (j / 9 % 9) := pk_rem (d := 9) (by omega) (by omega) (by omega)
  have e4 : nI j - nI j / 9 * 9 = nI (j % 9) := pk_rem (d := 9) (by omega) (by omega) (by omega)
  rw [e1, e4, e2, e3]
  exact ⟨pa_sm_n (by omega), pa_sm_n (by omega), pa_sm_n (by omega)⟩
theorem i_vc_congruent {k : Nat} {u : SX} {v : SY} (I : i_Rel k u v) (hk : k + 5 ≤ 2560) (v1 : Int32) (v2 : Int32) (v3 : Int32) : wpX_congruent (fun r u' => wpY_congruent (fun r' v' => r' = r ∧ i_Rel (k + 5) u' v') v v1 v2 v3) u v1 v2 v3 := by
  refine pa_el (P := fun u v => wpX_congruent (fun r u' => wpY_congruent (fun r' v' => r' = r ∧ i_Rel (k + 5) u' v') v v1 v2 v3) u v1 v2 v3) I ?_
  intro d us st c iu mk cn bk dr md co dt se tb ol O
  unfold wpX_congruent wpY_congruent
  dsimp only
  by_cases a1 : v1 < 0
  · exact br_t a1 (br_t a1 ⟨rfl, pa_in O⟩)
  by_cases a2 : v1 ≤ 728
  rotate_left
  · exact br_f a1 (br_f a2 (br_f a1 (br_f a2 ⟨rfl, pa_in O⟩)))
  by_cases b1 : v2 < 2
  · exact br_f a1 (br_t a2 (br_t b1 (br_f a1 (br_t a2 (br_t b1 ⟨rfl, pa_in O⟩)))))
  by_cases b2 : v2 ≤ 7
  rotate_left
  · exact br_f a1 (br_t a2 (br_f b1 (br_f b2 (br_f a1 (br_t a2 (br_f b1 (br_f b2 ⟨rfl, pa_in O⟩)))))))
  have l2 : (2 : Int32).toInt = 2 := by decide
  have l1 : (1 : Int32).toInt = 1 := by decide
  have l7 : (7 : Int32).toInt = 7 := by decide
  have b1' := b1
  have b2' := b2
  rw [Int32.lt_iff_toInt_lt, l2] at b1'
  rw [Int32.le_iff_toInt_le, l7] at b2'
  obtain ⟨m, hm, em⟩ := nI_of2 (x := v2) (M := 7) (n := 7) (by decide) (by rw [Int32.lt_iff_toInt_lt, Int32.toInt_zero]; omega) b2
  have m2 : 2 ≤ m := by
    rw [em, nI_toInt (by omega)] at b1'
    omega
  by_cases c1 : v3 < 0
  · exact br_f a1 (br_t a2 (br_f b1 (br_t b2 (br_t c1 (br_f a1 (br_t a2 (br_f b1 (br_t b2 (br_t c1 ⟨rfl, pa_in O⟩)))))))))
  have s1 : (v2 - 1).toInt = v2.toInt - 1 := by rw [Jvm.Kit.i32_sub (by rw [l1]; omega) (by rw [l1]; omega), l1]
  have iff : v3 < v2 ↔ v3 ≤ v2 - 1 := by
    rw [Int32.lt_iff_toInt_lt, Int32.le_iff_toInt_le, s1]
    omega
  by_cases c2 : v3 < v2
  rotate_left
  · exact br_f a1 (br_t a2 (br_f b1 (br_t b2 (br_f c1 (br_f c2 (br_f a1 (br_t a2 (br_f b1 (br_t b2 (br_f c1 (br_f (fun q => c2 (iff.mpr q)) ⟨rfl, pa_in O⟩)))))))))))
  have c2y := iff.mp c2
  have c1' := c1
  have c2' := c2
  rw [Int32.lt_iff_toInt_lt, Int32.toInt_zero] at c1'
  rw [Int32.lt_iff_toInt_lt] at c2'
  have O' := O
  obtain ⟨d5, H, ht1, hst⟩ := O
  obtain ⟨q1, q2, q3⟩ := pa_coef a1 a2
  refine br_f a1 (br_t a2 (br_f b1 (br_t b2 (br_f c1 (br_t c2 (pk_eq d 5 (fun z => ?_) (fun z => ?_)))))))
  · exact br_f a1 (br_t a2 (br_f b1 (br_t b2 (br_f c1 (br_t c2y (br_t (by rw [z]; rfl) ⟨rfl, pa_in O'⟩))))))
  · have d4 : d ≤ 4 := by omega
    have n5 : ¬ nI d = 5 := fun q => z ((nI_eq (b := 5) (by omega) (by decide)).mp q)
    subst em
    refine pa_makeRoom H d5 hst (fun us' iu' mk' cn' bk' H' hu' hst' => ⟨by decide, by decide, by decide, by decide, pa_tk (fun co' dt' hdt => pa_co82 H' hu' (by omega) (by omega) hm (fun r us'' c'' iu'' cn'' bk'' dr'' md'' se'' h1 h2 h3 => ?_))⟩)
    refine br_f a1 (br_t a2 (br_f b1 (br_t b2 (br_f c1 (br_t c2y (br_f n5 ⟨by decide, nm_e ⟨by decide, by decide, nm_e ⟨by decide, nm_e (pa_y_at d4 (pa_y92 d4 (by omega) hm ⟨rfl, pa_in (pa_OK_push d4 rfl h1 ht1 (fun p hp => pa_V3_ex h2 (hst' p hp)) h3 (fun s t w hs ht hw => ?_) (fun t ht => ?_))⟩))⟩⟩⟩))))))
    · dsimp only
      rw [hdt s hs, hdt t ht, hdt w hw, pa_co_law q1 q2 q3 m2 hm (by omega) (by omega)]
    · split <;> omega
end
section
section
variable {d us : Nat} {st c cn bk : Nat → Nat} {iu mk dr md co dt se : Nat → Int32} {tb : Nat → Nat} {ol : Nat → Int32}
theorem pa_co24 {post : Int32 → SX → Prop} {kd e : Nat} (O : pa_OK d us st c iu cn bk tb) (hkd : kd ≤ 4) (he : e = if kd = 0 then 1 else 2) (hed : e ≤ d)
    (hp : ∀ r us' c' iu' mk' cn' bk' dr' md' se', pa_HI us' c' iu' cn' bk' → (∀ p, p < d → pa_V3 c' iu' (st p) (fun s t w => tb (512 * p + pa_num s t w))) →
      pa_V3 c' iu' r (fun s t w => pa_cmb kd (tb (512 * (d - e) + pa_num s t w)) (tb (512 * (d - 1) + pa_num s t w))) → post (nI (d - e + 1)) ((nI (d - e + 1)), (nI us'), (pa_A (pa_up st (d - e) r)), (pa_A c'), iu', mk', (pa_A cn'), (pa_A bk'), dr', md', co, dt, se')) :
    wX_connect_24 post (nI kd) (nI e) (nI d) (nI d) (nI us) (pa_A st) (pa_A c) iu mk (pa_A cn) (pa_A bk) dr md co dt se := by
  obtain ⟨d5, H, ht1, hst⟩ := O
  have e1 : 1 ≤ e := by rw [he]; split <;> omega
  have d1 : nI d - 1 = nI (d - 1) := pk_sub (b := 1) (by omega)
  refine br_t (nI_le hed (by omega)) (pa_makeRoom H d5 hst (fun us' iu' mk' cn' bk' H' hu' hst' => ?_))
  have go : ∃ n, wX_connect_69 post (nI kd) (nI (st (d - 1))) (nI (st (d - e))) n 0 (nI d) (nI us') (pa_A st) (pa_A c) iu' mk' (pa_A cn') (pa_A bk') dr md co dt se :=
    pa_co69 H' hu' hkd he hed d5 (hst' (d - e) (by omega)) (hst' (d - 1) (by omega)) (fun r us'' c'' iu'' cn'' bk'' dr'' md'' se'' a1 a2 a3 => hp r us'' c'' iu'' mk' cn'' bk'' dr'' md'' se'' a1 (fun p hpd => pa_V3_ex a2 (hst' p hpd)) a3)
  dsimp only
  rw [d1]
  refine ⟨vp_in_nI (by omega) (by omega), nm_r (pa_cA st (by omega)) (pk_eq kd 0 (fun z => ?_) (fun z => ?_))⟩
  · rw [if_pos z] at he
    rw [he] at go
    exact go
  · rw [if_neg z] at he
    rw [he] at go hed
    have d2 : nI d - 2 = nI (d - 2) := pk_sub (b := 2) hed
    rw [d2]
    exact ⟨vp_in_nI (by omega) (by omega), nm_r (pa_cA st (by omega)) go⟩
theorem pa_y24 {post : Int32 → SY → Prop} {kd e : Nat} (d5 : d ≤ 5) (ht1 : ∀ i, tb i ≤ 1) (hkd : kd ≤ 4) (he : e = if kd = 0 then 1 else 2) (hed : e ≤ d)
    (hp : post (nI (d - e + 1)) (nI (d - e + 1), pa_A (pa_blk tb (512 * (d - e)) 512 (fun t => pa_cmb kd (tb (512 * (d - e) + t)) (tb (512 * (d - 1) + t)))), ol)) :
    wY_connect_24 post (nI kd) (nI e) (nI d) (nI d) (pa_A tb) ol := by
  have e1 : 1 ≤ e := by rw [he]; split <;> omega
  have d1 : nI d - 1 = nI (d - 1) := pk_sub (b := 1) (by omega)
  refine br_t (nI_le hed (by omega)) ?_
  rw [d1]
  refine pa_y_at (by omega) (pk_eq kd 0 (fun z => ?_) (fun z => ?_))
  · rw [if_pos z] at he
    subst he
    subst z
    rw [show d - 1 + 1 = d from by omega] at hp
    exact pa_y47 (by omega) ht1 hp
  · rw [if_neg z] at he
    subst he
    rw [show d - 2 + 1 = d - 1 from by omega] at hp
    have d2 : nI d - 2 = nI (d - 2) := pk_sub (b := 2) hed
    rw [d2]
    exact pa_y_at (by omega) (pa_y103 (by omega) hkd hed d5 ht1 hp)
theorem pa_xq {post : SX → Prop} {v an : Nat} (O : pa_OK d us st c iu cn bk tb) (hv : v < 3) (ha : an ≤ 1) (h1 : 1 ≤ d)
    (hp : ∀ r us' c' iu' mk' cn' bk' dr' md' se', pa_HI us' c' iu' cn' bk' → (∀ p, p < d → pa_V3 c' iu' (st p) (fun s t w => tb (512 * p + pa_num s t w))) →
      pa_V3 c' iu' r (fun s => pa_sn an (2 ^ v) (fun t w => tb (512 * (d - 1) + pa_num s t w)) (fun t w => tb (512 * (d - 1) + pa_num (s ^^^ 2 ^ v) t w))) → post ((nI d), (nI us'), (pa_A (pa_up st (d - 1) r)), (pa_A c'), iu', mk', (pa_A cn'), (pa_A bk'), dr', md', co, dt, se')) :
    wpX_quantify post ((nI d), (nI us), (pa_A st), (pa_A c), iu, mk, (pa_A cn), (pa_A bk), dr, md, co, dt, se) (nI v) (nI an) := by
  obtain ⟨d5, H, ht1, hst⟩ := O
  have d1 : nI d - 1 = nI (d - 1) := pk_sub (b := 1) h1
  unfold wpX_quantify
  refine pa_makeRoom H d5 hst (fun us' iu' mk' cn' bk' H' hu' hst' => ?_)
  dsimp only
  rw [d1]
  refine ⟨vp_in_nI (by omega) (by omega), nm_r (pa_cA st (by omega)) (nm_r (pa_bit_e v hv).1 (pa_qu24 H' hu' (pa_xor8 v hv) ha h1 d5 (hst' (d - 1) (by omega)) (fun r us'' c'' iu'' cn'' bk'' dr'' md'' se'' a1 a2 a3 => ?_)))⟩
  rw [show d - 1 + 1 = d from by omega]
  exact hp r us'' c'' iu'' mk' cn'' bk'' dr'' md'' se'' a1 (fun p hpd => pa_V3_ex a2 (hst' p hpd)) a3
theorem pa_xr {post : SX → Prop} {u v fl : Nat} (O : pa_OK d us st c iu cn bk tb) (hu3 : u < 3) (hv3 : v < 3) (hfl : fl < 8) (h1 : 1 ≤ d)
    (hp : ∀ r us' c' iu' mk' cn' bk' dr' md' se', pa_HI us' c' iu' cn' bk' → (∀ p, p < d → pa_V3 c' iu' (st p) (fun s t w => tb (512 * p + pa_num s t w))) →
      pa_V3 c' iu' r (fun s t w => tb (512 * (d - 1) + pa_num (pa_ren u v fl s) (pa_ren u v fl t) (pa_ren u v fl w))) → post ((nI d), (nI us'), (pa_A (pa_up st (d - 1) r)), (pa_A c'), iu', mk', (pa_A cn'), (pa_A bk'), dr', md', co, dt, se')) :
    wpX_rename post ((nI d), (nI us), (pa_A st), (pa_A c), iu, mk, (pa_A cn), (pa_A bk), dr, md, co, dt, se) (nI u) (nI v) (nI fl) := by
  obtain ⟨d5, H, ht1, hst⟩ := O
  have d1 : nI d - 1 = nI (d - 1) := pk_sub (b := 1) h1
  unfold wpX_rename
  refine pa_makeRoom H d5 hst (fun us' iu' mk' cn' bk' H' hu' hst' => ?_)
  dsimp only
  rw [d1]
  refine ⟨vp_in_nI (by omega) (by omega), nm_r (pa_cA st (by omega)) (pa_re20 H' hu' hu3 hv3 hfl h1 d5 (hst' (d - 1) (by omega)) (fun r us'' c'' iu'' cn'' bk'' dr'' md'' se'' a1 a2 a3 => ?_))⟩
  rw [show d - 1 + 1 = d from by omega]
  exact hp r us'' c'' iu'' mk' cn'' bk'' dr'' md'' se'' a1 (fun p hpd => pa_V3_ex a2 (hst' p hpd)) a3
theorem pa_yq_bad {post : Int32 → SY → Prop} {p a : Int32} {fd : Int32} {ta : Nat → Int32} (y1 : ∀ (post : Int32 → Prop) (fd : Int32) (ta ol : Nat → Int32), post 1 → wpY_badVar post (fd, ta, ol) p) (h : post (-1) (fd, ta, ol)) : wpY_quantify post (fd, ta, ol) p a := by
  unfold wpY_quantify
  exact y1 _ _ _ _ (br_f (by decide) h)
theorem pa_yq_0 {post : Int32 → SY → Prop} {p a : Int32} {ta : Nat → Int32} (y1 : ∀ (post : Int32 → Prop) (fd : Int32) (ta ol : Nat → Int32), post 0 → wpY_badVar post (fd, ta, ol) p) (h : post (-2) (0, ta, ol)) : wpY_quantify post (0, ta, ol) p a := by
  unfold wpY_quantify
  exact y1 _ _ _ _ (br_t rfl (br_t rfl h))
end
theorem i_vc_connect {k : Nat} {u : SX} {v : SY} (I : i_Rel k u v) (hk : k + 5 ≤ 2560) (v1 : Int32) : wpX_connect (fun r u' => wpY_connect (fun r' v' => r' = r ∧ i_Rel (k + 5) u' v') v v1) u v1 := by
  refine pa_el (P := fun u v => wpX_connect (fun r u' => wpY_connect (fun r' v' => r' = r ∧ i_Rel (k + 5) u' v') v v1) u v1) I ?_
  intro d us st c iu mk cn bk dr md co dt se tb ol O
  unfold wpX_connect wpY_connect
  dsimp only
  by_cases a1 : v1 < 0
  · exact br_t a1 (br_t a1 ⟨rfl, pa_in O⟩)
  by_cases a2 : v1 ≤ 4
  rotate_left
  · exact br_f a1 (br_f a2 (br_f a1 (br_f a2 ⟨rfl, pa_in O⟩)))
  obtain ⟨kd, hkd, rfl⟩ := nI_of2 (x := v1) (M := 4) (n := 4) (by decide) a1 a2
  have O' := O
  obtain ⟨d5, H, ht1, hst⟩ := O
  have all : ∀ e, e = (if kd = 0 then 1 else 2) → wX_connect_24 (fun r u' => (nI kd < 0 → (-1 : Int32) = r ∧ i_Rel (k + 5) u' (nI d, pa_A tb, ol)) ∧ (¬ nI kd < 0 → (nI kd ≤ 4 → (nI kd = 0 → wY_connect_24 (fun r' v' => r' = r ∧ i_Rel (k + 5) u' v') (nI kd) 1 (nI d) (nI d) (pa_A tb) ol) ∧ (¬ nI kd = 0 → wY_connect_24 (fun r' v' => r' = r ∧ i_Rel (k + 5) u' v') (nI kd) 2 (nI d) (nI d) (pa_A tb) ol)) ∧ (¬ nI kd ≤ 4 → (-1 : Int32) = r ∧ i_Rel (k + 5) u' (nI d, pa_A tb, ol)))) (nI kd) (nI e) (nI d) (nI d) (nI us) (pa_A st) (pa_A c) iu mk (pa_A cn) (pa_A bk) dr md co dt se := by
    intro e he
    have yy : ∀ (r : Int32) (u' : SX), wY_connect_24 (fun r' v' => r' = r ∧ i_Rel (k + 5) u' v') (nI kd) (nI e) (nI d) (nI d) (pa_A tb) ol → (nI kd < 0 → (-1 : Int32) = r ∧ i_Rel (k + 5) u' (nI d, pa_A tb, ol)) ∧ (¬ nI kd < 0 → (nI kd ≤ 4 → (nI kd = 0 → wY_connect_24 (fun r' v' => r' = r ∧ i_Rel (k + 5) u' v') (nI kd) 1 (nI d) (nI d) (pa_A tb) ol) ∧ (¬ nI kd = 0 → wY_connect_24 (fun r' v' => r' = r ∧ i_Rel (k + 5) u' v') (nI kd) 2 (nI d) (nI d) (pa_A tb) ol)) ∧ (¬ nI kd ≤ 4 → (-1 : Int32) = r ∧ i_Rel (k + 5) u' (nI d, pa_A tb, ol))) := by
      intro r u' h
      refine br_f a1 (br_t a2 (pk_eq kd 0 (fun z => ?_) (fun z => ?_)))
      · rw [if_pos z] at he
        rw [he] at h
        exact h
      · rw [if_neg z] at he
        rw [he] at h
        exact h
    by_cases hed : e ≤ d
    · refine pa_co24 O' hkd he hed (fun r us' c' iu' mk' cn' bk' dr' md' se' b1 b2 b3 => yy _ _ (pa_y24 d5 ht1 hkd he hed ⟨rfl, pa_in ?_⟩))
      have e1 : 1 ≤ e := by rw [he]; split <;> omega
      refine pa_OK_push (by omega) rfl b1 ht1 (fun p hp => b2 p (by omega)) b3 (fun s t w hs ht hw => rfl) (fun t ht => ?_)
      have l1 := ht1 (512 * (d - e) + t)
      have l2 := ht1 (512 * (d - 1) + t)
      exact pa_cmb_le kd (by omega) _ (by omega) _ (by omega)
    · have e2 : e ≤ 2 := by rw [he]; split <;> omega
      have nle : ¬ nI e ≤ nI d := nI_ge (by omega) (by omega)
      exact br_f nle (yy _ _ (br_f nle ⟨rfl, pa_in O'⟩))
  refine br_f a1 (br_t a2 (pk_eq kd 0 (fun z => ?_) (fun z => ?_)))
  · exact all 1 (by rw [if_pos z])
  · exact all 2 (by rw [if_neg z])
end
section
theorem i_vc_exists {k : Nat} {u : SX} {v : SY} (I : i_Rel k u v) (hk : k + 5 ≤ 2560) (v1 : Int32) : wpX_exists (fun r u' => wpY_exists (fun r' v' => r' = r ∧ i_Rel (k + 5) u' v') v v1) u v1 := by
  refine pa_el (P := fun u v => wpX_exists (fun r u' => wpY_exists (fun r' v' => r' = r ∧ i_Rel (k + 5) u' v') v v1) u v1) I ?_
  intro d us st c iu mk cn bk dr md co dt se tb ol O
  unfold wpX_exists wpY_exists
  dsimp only
  rcases pa_vari v1 with ⟨v, hv, rfl, x1, y1⟩ | ⟨x1, y1⟩
  rotate_left
  · exact x1 _ (br_t rfl (pa_yq_bad y1 ⟨rfl, pa_in O⟩))
  have O' := O
  obtain ⟨d5, H, ht1, hst⟩ := O
  refine x1 _ (br_f (by decide) (pk_eq d 0 (fun z => ?_) (fun z => ?_)))
  · subst z
    exact pa_yq_0 y1 ⟨rfl, pa_in O'⟩
  · have h1 : 1 ≤ d := by omega
    have d1 : nI d - 1 = nI (d - 1) := pk_sub (b := 1) h1
    refine pa_xq (an := 1) O' hv (by omega) h1 (fun r us' c' iu' mk' cn' bk' dr' md' se' b1 b2 b3 => ?_)
    dsimp only
    rw [d1]
    refine ⟨vp_in_nI (by omega) (by omega), ?_⟩
    rw [pa_cA _ (by omega), pa_up_s]
    have law : ∀ s t w, s < 8 → t < 8 → w < 8 → pa_sn 1 (2 ^ v) (fun t w => tb (512 * (d - 1) + pa_num s t w)) (fun t w => tb (512 * (d - 1) + pa_num (s ^^^ 2 ^ v) t w)) t w = pa_qv (fun t => tb (512 * (d - 1) + t)) v 1 (pa_num s t w) :=
      fun s t w hs ht hw => pa_qu_law (h := fun t => tb (512 * (d - 1) + t)) (fun i => ht1 _) hv (by omega) hs ht hw
    refine pa_countOf b3 (pa_y_quant (an := 1) hv (by omega) h1 d5 ht1 (fun ol' => ⟨?_, pa_in (pa_OK_push (by omega) (by omega) b1 ht1 (fun p hp => b2 p (by omega)) b3 law (fun t ht => pa_qv_le _ _ _ _))⟩))
    rw [← pa_su_sig]
    exact congrArg nI (pa_su_eq (fun i hi => (law _ _ _ (by omega) (by omega) (by omega)).symm))
theorem i_vc_forall {k : Nat} {u : SX} {v : SY} (I : i_Rel k u v) (hk : k + 5 ≤ 2560) (v1 : Int32) : wpX_forall (fun r u' => wpY_forall (fun r' v' => r' = r ∧ i_Rel (k + 5) u' v') v v1) u v1 := by
  refine pa_el (P := fun u v => wpX_forall (fun r u' => wpY_forall (fun r' v' => r' = r ∧ i_Rel (k + 5) u' v') v v1) u v1) I ?_
  intro d us st c iu mk cn bk dr md co dt se tb ol O
  unfold wpX_forall wpY_forall
  dsimp only
  rcases pa_vari v1 with ⟨v, hv, rfl, x1, y1⟩ | ⟨x1, y1⟩
  rotate_left
  · exact x1 _ (br_t rfl (pa_yq_bad y1 ⟨rfl, pa_in O⟩))
  have O' := O
  obtain ⟨d5, H, ht1, hst⟩ := O
  refine x1 _ (br_f (by decide) (pk_eq d 0 (fun z => ?_) (fun z => ?_)))
  · subst z
    exact pa_yq_0 y1 ⟨rfl, pa_in O'⟩
  · have h1 : 1 ≤ d := by omega
    have d1 : nI d - 1 = nI (d - 1) := pk_sub (b := 1) h1
    refine pa_xq (an := 0) O' hv (by omega) h1 (fun r us' c' iu' mk' cn' bk' dr' md' se' b1 b2 b3 => ?_)
    dsimp only
    rw [d1]
    refine ⟨vp_in_nI (by omega) (by omega), ?_⟩
    rw [pa_cA _ (by omega), pa_up_s]
    have law : ∀ s t w, s < 8 → t < 8 → w < 8 → pa_sn 0 (2 ^ v) (fun t w => tb (512 * (d - 1) + pa_num s t w)) (fun t w => tb (512 * (d - 1) + pa_num (s ^^^ 2 ^ v) t w)) t w = pa_qv (fun t => tb (512 * (d - 1) + t)) v 0 (pa_num s t w) :=
      fun s t w hs ht hw => pa_qu_law (h := fun t => tb (512 * (d - 1) + t)) (fun i => ht1 _) hv (by omega) hs ht hw
    refine pa_countOf b3 (pa_y_quant (an := 0) hv (by omega) h1 d5 ht1 (fun ol' => ⟨?_, pa_in (pa_OK_push (by omega) (by omega) b1 ht1 (fun p hp => b2 p (by omega)) b3 law (fun t ht => pa_qv_le _ _ _ _))⟩))
    rw [← pa_su_sig]
    exact congrArg nI (pa_su_eq (fun i hi => (law _ _ _ (by omega) (by omega) (by omega)).symm))
theorem i_vc_exchange {k : Nat} {u : SX} {v : SY} (I : i_Rel k u v) (hk : k + 5 ≤ 2560) (v1 : Int32) (v2 : Int32) : wpX_exchange (fun r u' => wpY_exchange (fun r' v' => r' = r ∧ i_Rel (k + 5) u' v') v v1 v2) u v1 v2 := by
  refine pa_el (P := fun u v => wpX_exchange (fun r u' => wpY_exchange (fun r' v' => r' = r ∧ i_Rel (k + 5) u' v') v v1 v2) u v1 v2) I ?_
  intro d us st c iu mk cn bk dr md co dt se tb ol O
  unfold wpX_exchange wpY_exchange
  dsimp only
  rcases pa_vari v1 with ⟨u, hu, rfl, x1, y1⟩ | ⟨x1, y1⟩
  rotate_left
  · exact x1 _ (br_t rfl (y1 _ _ _ _ (br_f (by decide) ⟨rfl, pa_in O⟩)))
  rcases pa_vari v2 with ⟨v, hv, rfl, x2, y2⟩ | ⟨x2, y2⟩
  rotate_left
  · exact x1 _ (br_f (by decide) (x2 _ (br_t rfl (y1 _ _ _ _ (br_t rfl (y2 _ _ _ _ (br_f (by decide) ⟨rfl, pa_in O⟩)))))))
  have O' := O
  obtain ⟨d5, H, ht1, hst⟩ := O
  refine x1 _ (br_f (by decide) (x2 _ (br_f (by decide) (pk_eq d 0 (fun z => ?_) (fun z => ?_)))))
  · subst z
    exact y1 _ _ _ _ (br_t rfl (y2 _ _ _ _ (br_t rfl (br_t rfl ⟨rfl, pa_in O'⟩))))
  · have h1 : 1 ≤ d := by omega
    have d1 : nI d - 1 = nI (d - 1) := pk_sub (b := 1) h1
    refine pa_xr (fl := 0) O' hu hv (by omega) h1 (fun r us' c' iu' mk' cn' bk' dr' md' se' b1 b2 b3 => ?_)
    refine y1 _ _ _ _ (br_t rfl (y2 _ _ _ _ (br_t rfl (br_f (nI_ne0 (by omega) (by omega)) (pa_y_keep h1 d5 ht1 (fun ol' ho => ?_))))))
    dsimp only
    rw [d1]
    refine pa_y_at (by omega) (pa_y46 (h := fun t => tb (512 * (d - 1) + t)) hu hv (by omega) (fun i => ht1 _) ho ⟨rfl, pa_in (pa_OK_push (by omega) (by omega) b1 ht1 (fun p hp => b2 p (by omega)) b3 (fun s t w hs ht hw => ?_) (fun t ht => ht1 _))⟩)
    rw [pa_ex_law u hu v hv s hs t ht w hw]
theorem i_vc_mirror {k : Nat} {u : SX} {v : SY} (I : i_Rel k u v) (hk : k + 5 ≤ 2560) (v1 : Int32) : wpX_mirror (fun r u' => wpY_mirror (fun r' v' => r' = r ∧ i_Rel (k + 5) u' v') v v1) u v1 := by
  refine pa_el (P := fun u v => wpX_mirror (fun r u' => wpY_mirror (fun r' v' => r' = r ∧ i_Rel (k + 5) u' v') v v1) u v1) I ?_
  intro d us st c iu mk cn bk dr md co dt se tb ol O
  unfold wpX_mirror wpY_mirror
  dsimp only
  rcases pa_vari v1 with ⟨v, hv, rfl, x1, y1⟩ | ⟨x1, y1⟩
  rotate_left
  · exact x1 _ (br_t rfl (y1 _ _ _ _ (br_f (by decide) ⟨rfl, pa_in O⟩)))
  have O' := O
  obtain ⟨d5, H, ht1, hst⟩ := O
  refine x1 _ (br_f (by decide) (pk_eq d 0 (fun z => ?_) (fun z => ?_)))
  · subst z
    exact y1 _ _ _ _ (br_t rfl (br_t rfl ⟨rfl, pa_in O'⟩))
  · have h1 : 1 ≤ d := by omega
    have d1 : nI d - 1 = nI (d - 1) := pk_sub (b := 1) h1
    obtain ⟨be, b8⟩ := pa_bit_e v hv
    rw [be]
    refine pa_xr (fl := 2 ^ v) O' hv hv b8 h1 (fun r us' c' iu' mk' cn' bk' dr' md' se' b1 b2 b3 => ?_)
    refine y1 _ _ _ _ (br_t rfl (br_f (nI_ne0 (by omega) (by omega)) (pa_y_keep h1 d5 ht1 (fun ol' ho => ?_))))
    dsimp only
    rw [d1]
    refine pa_y_at (by omega) (pa_y37 (h := fun t => tb (512 * (d - 1) + t)) hv (by omega) (fun i => ht1 _) ho ⟨rfl, pa_in (pa_OK_push (by omega) (by omega) b1 ht1 (fun p hp => b2 p (by omega)) b3 (fun s t w hs ht hw => ?_) (fun t ht => ht1 _))⟩)
    rw [pa_mi_law v hv s hs t ht w hw]
theorem i_vc_copy {k : Nat} {u : SX} {v : SY} (I : i_Rel k u v) (hk : k + 5 ≤ 2560) (v1 : Int32) : wpX_copy (fun r u' => wpY_copy (fun r' v' => r' = r ∧ i_Rel (k + 5) u' v') v v1) u v1 := by
  refine pa_el (P := fun u v => wpX_copy (fun r u' => wpY_copy (fun r' v' => r' = r ∧ i_Rel (k + 5) u' v') v v1) u v1) I ?_
  intro d us st c iu mk cn bk dr md co dt se tb ol O
  unfold wpX_copy wpY_copy
  dsimp only
  have O' := O
  obtain ⟨d5, H, ht1, hst⟩ := O
  rcases pa_place (us := us) (st := st) (c := c) (iu := iu) (mk := mk) (cn := cn) (bk := bk) (dr := dr) (md := md) (co := co) (dt := dt) (se := se) v1 d5 with ⟨p, hp, rfl, x1, y1⟩ | ⟨x1, y1⟩
  rotate_left
  · exact x1 _ (br_t rfl (y1 _ _ _ (br_f (by decide) ⟨rfl, pa_in O'⟩)))
  refine x1 _ (br_f (by decide) (pk_eq d 5 (fun z => ?_) (fun z => ⟨vp_in_nI (by omega) (by omega), ?_⟩)))
  · exact y1 _ _ _ (br_t rfl (br_t (by rw [z]; rfl) ⟨rfl, pa_in O'⟩))
  · have n5 : ¬ nI d = 5 := fun q => z ((nI_eq (b := 5) (by omega) (by decide)).mp q)
    rw [pa_cA st (by omega)]
    exact pa_push (by omega) (y1 _ _ _ (br_t rfl (br_f n5 (pa_y23 hp (by omega) ht1 ⟨rfl, pa_in (pa_OK_push (by omega) rfl H ht1 (fun p hp => hst p hp) (hst p hp) (fun s t w hs ht hw => rfl) (fun t ht => ht1 _))⟩))))
theorem i_vc_drop {k : Nat} {u : SX} {v : SY} (I : i_Rel k u v) (hk : k + 5 ≤ 2560) : wpX_drop (fun r u' => wpY_drop (fun r' v' => r' = r ∧ i_Rel (k + 5) u' v') v) u := by
  refine pa_el (P := fun u v => wpX_drop (fun r u' => wpY_drop (fun r' v' => r' = r ∧ i_Rel (k + 5) u' v') v) u) I ?_
  intro d us st c iu mk cn bk dr md co dt se tb ol O
  unfold wpX_drop wpY_drop
  dsimp only
  have O' := O
  obtain ⟨d5, H, ht1, hst⟩ := O
  refine pk_eq d 0 (fun z => ?_) (fun z => ?_)
  · subst z
    exact br_t rfl ⟨rfl, pa_in O'⟩
  · have d1 : nI d - 1 = nI (d - 1) := pk_sub (b := 1) (by omega)
    exact nm_r d1 (br_f (nI_ne0 (by omega) (by omega)) (nm_r d1 ⟨rfl, pa_in ⟨by omega, H, ht1, fun p hp => hst p (by omega)⟩⟩))
end
section
theorem i_vc_holds {k : Nat} {u : SX} {v : SY} (I : i_Rel k u v) (hk : k + 5 ≤ 2560) (v1 : Int32) (v2 : Int32) : wpX_holds (fun r => wpY_holds (fun r' => r' = r ∧ i_Rel (k + 5) u v) v v1 v2) u v1 v2 := by
  refine pa_el (P := fun u v => wpX_holds (fun r => wpY_holds (fun r' => r' = r ∧ i_Rel (k + 5) u v) v v1 v2) u v1 v2) I ?_
  intro d us st c iu mk cn bk dr md co dt se tb ol O
  unfold wpX_holds wpY_holds
  dsimp only
  have O' := O
  obtain ⟨d5, H, ht1, hst⟩ := O
  rcases pa_place (us := us) (st := st) (c := c) (iu := iu) (mk := mk) (cn := cn) (bk := bk) (dr := dr) (md := md) (co := co) (dt := dt) (se := se) v1 d5 with ⟨p, hp, rfl, x1, y1⟩ | ⟨x1, y1⟩
  rotate_left
  · exact x1 _ (br_t rfl (y1 _ _ _ (br_f (by decide) ⟨rfl, pa_in O'⟩)))
  by_cases a1 : v2 < 0
  · exact x1 _ (br_f (by decide) (br_t a1 (y1 _ _ _ (br_t rfl (br_t a1 ⟨rfl, pa_in O'⟩)))))
  by_cases a2 : v2 ≤ 511
  rotate_left
  · exact x1 _ (br_f (by decide) (br_f a1 (br_f a2 (y1 _ _ _ (br_t rfl (br_f a1 (br_f a2 ⟨rfl, pa_in O'⟩)))))))
  obtain ⟨t, ht, rfl⟩ := nI_of2 (x := v2) (M := 511) (n := 511) (by decide) a1 a2
  refine x1 _ (br_f (by decide) (br_f a1 (br_t a2 ⟨vp_in_nI (by omega) (by omega), ?_⟩)))
  rw [pa_cA st (by omega)]
  refine pa_run (hst p hp) (by omega) (y1 _ _ _ (br_t rfl (br_f a1 (br_t a2 (pa_y_at (by omega) ⟨pa_yin (by omega) (by omega), ?_⟩)))))
  rw [pa_num_col t (by omega)]
  have l := ht1 (512 * p + t)
  refine pk_eq (tb (512 * p + t)) 0 (fun z => ?_) (fun z => ?_) (pa_yA tb (by omega) (by omega))
  · rw [z]; exact ⟨rfl, pa_in O'⟩
  · rw [show tb (512 * p + t) = 1 from by omega]; exact ⟨rfl, pa_in O'⟩
theorem i_vc_count {k : Nat} {u : SX} {v : SY} (I : i_Rel k u v) (hk : k + 5 ≤ 2560) (v1 : Int32) : wpX_count (fun r => wpY_count (fun r' => r' = r ∧ i_Rel (k + 5) u v) v v1) u v1 := by
  refine pa_el (P := fun u v => wpX_count (fun r => wpY_count (fun r' => r' = r ∧ i_Rel (k + 5) u v) v v1) u v1) I ?_
  intro d us st c iu mk cn bk dr md co dt se tb ol O
  unfold wpX_count wpY_count
  dsimp only
  have O' := O
  obtain ⟨d5, H, ht1, hst⟩ := O
  rcases pa_place (us := us) (st := st) (c := c) (iu := iu) (mk := mk) (cn := cn) (bk := bk) (dr := dr) (md := md) (co := co) (dt := dt) (se := se) v1 d5 with ⟨p, hp, rfl, x1, y1⟩ | ⟨x1, y1⟩
  rotate_left
  · exact x1 _ (br_t rfl (y1 _ _ _ (br_f (by decide) ⟨rfl, pa_in O'⟩)))
  refine x1 _ (br_f (by decide) ⟨vp_in_nI (by omega) (by omega), ?_⟩)
  rw [pa_cA st (by omega)]
  refine pa_countOf (hst p hp) (y1 _ _ _ (br_t rfl (pa_y_count (by omega) ht1 ⟨?_, pa_in O'⟩)))
  rw [← pa_su_sig]
  rfl
theorem i_vc_next {k : Nat} {u : SX} {v : SY} (I : i_Rel k u v) (hk : k + 5 ≤ 2560) (v1 : Int32) (v2 : Int32) : wpX_next (fun r => wpY_next (fun r' => r' = r ∧ i_Rel (k + 5) u v) v v1 v2) u v1 v2 := by
  refine pa_el (P := fun u v => wpX_next (fun r => wpY_next (fun r' => r' = r ∧ i_Rel (k + 5) u v) v v1 v2) u v1 v2) I ?_
  intro d us st c iu mk cn bk dr md co dt se tb ol O
  unfold wpX_next wpY_next
  dsimp only
  have O' := O
  obtain ⟨d5, H, ht1, hst⟩ := O
  rcases pa_place (us := us) (st := st) (c := c) (iu := iu) (mk := mk) (cn := cn) (bk := bk) (dr := dr) (md := md) (co := co) (dt := dt) (se := se) v1 d5 with ⟨p, hp, rfl, x1, y1⟩ | ⟨x1, y1⟩
  rotate_left
  · exact x1 _ (br_t rfl (y1 _ _ _ (br_f (by decide) ⟨rfl, pa_in O'⟩)))
  refine x1 _ (br_f (by decide) ?_)
  by_cases a1 : v2 < 511
  · by_cases a0 : 0 ≤ v2
    · obtain ⟨j, hj, rfl⟩ := nI_of (x := v2) (Int32.not_lt.mpr a0)
      have j5 : j < 511 := (nI_ltI (b := 511) hj (by decide)).mp a1
      obtain ⟨r, h1, h2⟩ := pa_next (d := d) (us := us) (mk := mk) (cn := cn) (bk := bk) (dr := dr) (md := md) (co := co) (dt := dt) (se := se) (ol := ol) (x := nI j) (by omega) ht1 (hst p hp) (511 - j) (j + 1) (by omega) (fun i i1 i2 q => by have := (nI_leI (by omega) hj).mp q; omega)
      exact br_t a1 (br_t a0 (nm_r (nI_1 j) ⟨_, h1 _ (y1 _ _ _ (br_t rfl (pa_nskip (j + 1) (by omega) (fun i hi => nI_le (by omega) hj) ⟨_, h2 _ ⟨rfl, pa_in O'⟩⟩)))⟩))
    · obtain ⟨r, h1, h2⟩ := pa_next (d := d) (us := us) (mk := mk) (cn := cn) (bk := bk) (dr := dr) (md := md) (co := co) (dt := dt) (se := se) (ol := ol) (x := v2) (by omega) ht1 (hst p hp) 512 0 (by omega) (fun i i1 i2 q => a0 (Int32.le_trans (nI_pos' (by omega)) q))
      exact br_t a1 (br_f a0 ⟨_, h1 _ (y1 _ _ _ (br_t rfl ⟨_, h2 _ ⟨rfl, pa_in O'⟩⟩))⟩)
  · have a2 : nI 511 ≤ v2 := Int32.not_lt.mp a1
    exact br_f a1 (y1 _ _ _ (br_t rfl (pa_nskip 512 (by omega) (fun i hi => Int32.le_trans (nI_le (b := 511) (by omega) (by decide)) a2) ⟨0 + 1, br_t pa_g512 ⟨rfl, pa_in O'⟩⟩)))
theorem i_vc_same {k : Nat} {u : SX} {v : SY} (I : i_Rel k u v) (hk : k + 5 ≤ 2560) (v1 : Int32) (v2 : Int32) : wpX_same (fun r => wpY_same (fun r' => r' = r ∧ i_Rel (k + 5) u v) v v1 v2) u v1 v2 := by
  refine pa_el (P := fun u v => wpX_same (fun r => wpY_same (fun r' => r' = r ∧ i_Rel (k + 5) u v) v v1 v2) u v1 v2) I ?_
  intro d us st c iu mk cn bk dr md co dt se tb ol O
  unfold wpX_same wpY_same
  dsimp only
  have O' := O
  obtain ⟨d5, H, ht1, hst⟩ := O
  rcases pa_place (us := us) (st := st) (c := c) (iu := iu) (mk := mk) (cn := cn) (bk := bk) (dr := dr) (md := md) (co := co) (dt := dt) (se := se) v1 d5 with ⟨p, hp, rfl, x1, y1⟩ | ⟨x1, y1⟩
  rotate_left
  · exact x1 _ (br_t rfl (y1 _ _ _ (br_f (by decide) ⟨rfl, pa_in O'⟩)))
  rcases pa_place (us := us) (st := st) (c := c) (iu := iu) (mk := mk) (cn := cn) (bk := bk) (dr := dr) (md := md) (co := co) (dt := dt) (se := se) v2 d5 with ⟨q, hq, rfl, x2, y2⟩ | ⟨x2, y2⟩
  rotate_left
  · exact x1 _ (br_f (by decide) (x2 _ (br_t rfl (y1 _ _ _ (br_t rfl (y2 _ _ _ (br_f (by decide) ⟨rfl, pa_in O'⟩)))))))
  have vp := hst p hp
  have vq := hst q hq
  have s1 := vp.1.2.1
  have s2 := vq.1.2.1
  refine x1 _ (br_f (by decide) (x2 _ (br_f (by decide) ⟨vp_in_nI (by omega) (by omega), vp_in_nI (by omega) (by omega), pk_eq (st p) (st q) (fun z => ?_) (fun z => ?_) (pa_cA st (by omega)) (pa_cA st (by omega))⟩)))
  · refine y1 _ _ _ (br_t rfl (y2 _ _ _ (br_t rfl (pa_y_same (by omega) (by omega) ht1 (fun _ => ⟨rfl, pa_in O'⟩) (fun ⟨t, ht, w⟩ => absurd ?_ w)))))
    rw [← z] at vq
    have e1 := (pa_V3_at vp (pa_col_lt 0 t) (pa_col_lt 1 t) (pa_col_lt 2 t)).1
    have e2 := (pa_V3_at vq (pa_col_lt 0 t) (pa_col_lt 1 t) (pa_col_lt 2 t)).1
    rw [pa_num_col t ht] at e1 e2
    exact e1.symm.trans e2
  · exact y1 _ _ _ (br_t rfl (y2 _ _ _ (br_t rfl (pa_y_same (by omega) (by omega) ht1 (fun w => absurd (pa_V3_uq H vp vq (fun a b e ha hb he => w _ (pa_num_lt a b e))) z) (fun _ => ⟨rfl, pa_in O'⟩)))))
theorem i_vc_implied {k : Nat} {u : SX} {v : SY} (I : i_Rel k u v) (hk : k + 5 ≤ 2560) (v1 : Int32) (v2 : Int32) : wpX_implied (fun r => wpY_implied (fun r' => r' = r ∧ i_Rel (k + 5) u v) v v1 v2) u v1 v2 := by
  refine pa_el (P := fun u v => wpX_implied (fun r => wpY_implied (fun r' => r' = r ∧ i_Rel (k + 5) u v) v v1 v2) u v1 v2) I ?_
  intro d us st c iu mk cn bk dr md co dt se tb ol O
  unfold wpX_implied wpY_implied
  dsimp only
  have O' := O
  obtain ⟨d5, H, ht1, hst⟩ := O
  rcases pa_place (us := us) (st := st) (c := c) (iu := iu) (mk := mk) (cn := cn) (bk := bk) (dr := dr) (md := md) (co := co) (dt := dt) (se := se) v1 d5 with ⟨p, hp, rfl, x1, y1⟩ | ⟨x1, y1⟩
  rotate_left
  · exact x1 _ (br_t rfl (y1 _ _ _ (br_f (by decide) ⟨rfl, pa_in O'⟩)))
  rcases pa_place (us := us) (st := st) (c := c) (iu := iu) (mk := mk) (cn := cn) (bk := bk) (dr := dr) (md := md) (co := co) (dt := dt) (se := se) v2 d5 with ⟨q, hq, rfl, x2, y2⟩ | ⟨x2, y2⟩
  rotate_left
  · exact x1 _ (br_f (by decide) (x2 _ (br_t rfl (y1 _ _ _ (br_t rfl (y2 _ _ _ (br_f (by decide) ⟨rfl, pa_in O'⟩)))))))
  have vp := hst p hp
  have vq := hst q hq
  refine x1 _ (br_f (by decide) (x2 _ (br_f (by decide) (pa_x_implied (by omega) (by omega) vp vq (fun h => ?_) (fun ⟨w, hw, h⟩ => ?_)))))
  · refine y1 _ _ _ (br_t rfl (y2 _ _ _ (br_t rfl (pa_y_implied (by omega) (by omega) ht1 (fun _ => ⟨rfl, pa_in O'⟩) (fun ⟨t, ht, g⟩ => ?_)))))
    have c0 := pa_col_lt 0 t
    have c1 := pa_col_lt 1 t
    have c2 := pa_col_lt 2 t
    have b := h (pa_col 0 t + 8 * pa_col 1 t + 64 * pa_col 2 t) (by omega)
    rw [show (pa_col 0 t + 8 * pa_col 1 t + 64 * pa_col 2 t) % 8 = pa_col 0 t from by omega, show (pa_col 0 t + 8 * pa_col 1 t + 64 * pa_col 2 t) / 8 % 8 = pa_col 1 t from by omega, show (pa_col 0 t + 8 * pa_col 1 t + 64 * pa_col 2 t) / 64 = pa_col 2 t from by omega, pa_num_col t ht] at b
    exact absurd g b
  · exact y1 _ _ _ (br_t rfl (y2 _ _ _ (br_t rfl (pa_y_implied (by omega) (by omega) ht1 (fun g => absurd h (g _ (pa_num_lt _ _ _))) (fun _ => ⟨rfl, pa_in O'⟩)))))
theorem i_vc_depends {k : Nat} {u : SX} {v : SY} (I : i_Rel k u v) (hk : k + 5 ≤ 2560) (v1 : Int32) (v2 : Int32) : wpX_depends (fun r u' => wpY_depends (fun r' => r' = r ∧ i_Rel (k + 5) u' v) v v1 v2) u v1 v2 := by
  refine pa_el (P := fun u v => wpX_depends (fun r u' => wpY_depends (fun r' => r' = r ∧ i_Rel (k + 5) u' v) v v1 v2) u v1 v2) I ?_
  intro d us st c iu mk cn bk dr md co dt se tb ol O
  unfold wpX_depends wpY_depends
  dsimp only
  have O' := O
  obtain ⟨d5, H, ht1, hst⟩ := O
  rcases pa_place (us := us) (st := st) (c := c) (iu := iu) (mk := mk) (cn := cn) (bk := bk) (dr := dr) (md := md) (co := co) (dt := dt) (se := se) v1 d5 with ⟨p, hp, rfl, x1, y1⟩ | ⟨x1, y1⟩
  rotate_left
  · exact x1 _ (br_t rfl (y1 _ _ _ (br_f (by decide) ⟨rfl, pa_in O'⟩)))
  rcases pa_vari v2 with ⟨v, hv, rfl, x2, y2⟩ | ⟨x2, y2⟩
  rotate_left
  · exact x1 _ (br_f (by decide) (x2 _ (br_t rfl (y1 _ _ _ (br_t rfl (y2 _ _ _ _ (br_f (by decide) ⟨rfl, pa_in O'⟩)))))))
  have vp := hst p hp
  refine x1 _ (br_f (by decide) (x2 _ (br_f (by decide) (pa_clear (fun m m0 => ⟨vp_in_nI (by omega) (by omega), ?_⟩)))))
  dsimp only
  rw [pa_cA st (by omega)]
  refine ⟨vp_in_nI vp.1.2.1 (by omega), nm_r (e' := upd m (st p) 1) (by have := vp.1.2.1; rw [nI_clamp (by omega)]; rfl) (pa_spread (R := fun x => x < 2 ∨ pa_Rc c (st p) x) H.2.2.1 ?_ ?_ (fun m1 m2 m3 b1 b2 b3 b4 => ?_))⟩
  · intro n s n2 n5 hs hn
    rcases hn with hn | hn
    · omega
    · exact pa_Rc_cl vp hn hs
  · intro n hn w
    by_cases z : n = st p
    · exact Or.inr (Or.inl z)
    · rw [pk_un z] at w
      exact absurd (m0 n hn) w
  · have r0 : ¬ upd m (st p) 1 (st p) = 0 := by rw [pk_us]; decide
    refine pa_x43 hv H.2.2.1 (fun g => ?_) (fun ⟨i, i1, i2, i3, i4⟩ => ?_)
    · have no := pa_dep_no (h := fun t => tb (512 * p + t)) hv vp r0 b1 b2 b3 g
      exact y1 _ _ _ (br_t rfl (y2 _ _ _ _ (br_t rfl (pa_y_depends (by omega) hv ht1 (fun _ => ⟨rfl, pa_in O'⟩) (fun ⟨t, ht, w⟩ => absurd (no t ht) w)))))
    · refine y1 _ _ _ (br_t rfl (y2 _ _ _ _ (br_t rfl (pa_y_depends (by omega) hv ht1 (fun w => absurd ?_ i4) (fun _ => ⟨rfl, pa_in O'⟩)))))
      rcases b4 (i / 8) (by omega) i3 with z | z
      · omega
      · have y := pa_dep_yes (h := fun t => tb (512 * p + t)) H hv vp z (s := i % 8) (by omega) w
        rw [← pa_xk hv, show 8 * (i / 8) + i % 8 = i from by omega] at y
        exact y
theorem i_vc_values {k : Nat} {u : SX} {v : SY} (I : i_Rel k u v) (hk : k + 5 ≤ 2560) (v1 : Int32) (v2 : Int32) : wpX_values (fun r => wpY_values (fun r' => r' = r ∧ i_Rel (k + 5) u v) v v1 v2) u v1 v2 := by
  refine pa_el (P := fun u v => wpX_values (fun r => wpY_values (fun r' => r' = r ∧ i_Rel (k + 5) u v) v v1 v2) u v1 v2) I ?_
  intro d us st c iu mk cn bk dr md co dt se tb ol O
  unfold wpX_values wpY_values
  dsimp only
  have O' := O
  obtain ⟨d5, H, ht1, hst⟩ := O
  rcases pa_place (us := us) (st := st) (c := c) (iu := iu) (mk := mk) (cn := cn) (bk := bk) (dr := dr) (md := md) (co := co) (dt := dt) (se := se) v1 d5 with ⟨p, hp, rfl, x1, y1⟩ | ⟨x1, y1⟩
  rotate_left
  · exact x1 _ (br_t rfl (y1 _ _ _ (br_f (by decide) ⟨rfl, pa_in O'⟩)))
  rcases pa_vari v2 with ⟨v, hv, rfl, x2, y2⟩ | ⟨x2, y2⟩
  rotate_left
  · exact x1 _ (br_f (by decide) (x2 _ (br_t rfl (y1 _ _ _ (br_t rfl (y2 _ _ _ _ (br_f (by decide) ⟨rfl, pa_in O'⟩)))))))
  exact x1 _ (br_f (by decide) (x2 _ (br_f (by decide) (pa_x25 (h := fun t => tb (512 * p + t)) (by omega) hv (fun i => ht1 _) (hst p hp) (y1 _ _ _ (br_t rfl (y2 _ _ _ _ (br_t rfl (pa_y26 (by omega) hv ht1 ⟨rfl, pa_in O'⟩)))))))))
end
