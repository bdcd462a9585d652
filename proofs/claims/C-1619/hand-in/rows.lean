section
theorem pk_us {f : Nat → Int32} {k : Nat} {x : Int32} : upd f k x k = x := if_pos rfl
theorem pk_un {f : Nat → Int32} {k j : Nat} {x : Int32} (h : j ≠ k) : upd f k x j = f j := if_neg h
theorem pk_sub {a b : Nat} (h : b ≤ a) : nI a - nI b = nI (a - b) := by
  obtain ⟨c, rfl⟩ : ∃ c, a = c + b := ⟨a - b, by omega⟩
  rw [← nI_add, Int32.add_sub_cancel, Nat.add_sub_cancel]
theorem pk_m1 (n : Nat) : nI (n + 1) + (-1) = nI n := by
  rw [← nI_1, Int32.add_assoc, show (1 : Int32) + (-1) = 0 from rfl, Int32.add_zero]
theorem pk_mul (a b : Nat) : nI a * nI b = nI (a * b) := (Int32.ofNat_mul a b).symm
theorem pk_div {a d : Nat} (ha : a < 2 ^ 31) (h0 : 0 < d) (hd : d < 2 ^ 31) : nI a / nI d = nI (a / d) := by
  apply Int32.toInt_inj.mp
  rw [lg_idiv_nonneg (by rw [nI_toInt ha]; omega) (by rw [nI_toInt hd]; omega), nI_toInt ha, nI_toInt hd, nI_toInt (Nat.lt_of_le_of_lt (Nat.div_le_self a d) ha)]
  first | rfl | exact (Int.natCast_ediv _ _).symm
theorem pk_rem {a d : Nat} (ha : a < 2 ^ 31) (h0 : 0 < d) (hd : d < 2 ^ 31) : nI a - nI a / nI d * nI d = nI (a % d) := by
  rw [pk_div ha h0 hd, pk_mul, pk_sub (Nat.div_mul_le_self a d)]
  exact congrArg nI (by have := Nat.div_add_mod' a d; omega)
theorem pk_sub_toInt {a b : Nat} (ha : a < 2 ^ 30) (hb : b < 2 ^ 30) : (nI a - nI b).toInt = (a : Int) - b := by
  rw [Int32.toInt_sub, nI_toInt (by omega), nI_toInt (by omega)]
  exact Int.bmod_eq_of_le (by omega) (by omega)
theorem pk_ix (x : Int32) {n : Nat} (hn : n < 2 ^ 31) : x < 0 ∨ nI n ≤ x ∨ ∃ j : Nat, j < n ∧ x = nI j := by
  by_cases h : x < 0
  · exact Or.inl h
  · obtain ⟨j, hj, rfl⟩ := nI_of h
    by_cases h2 : j < n
    · exact Or.inr (Or.inr ⟨j, h2, rfl⟩)
    · exact Or.inr (Or.inl (nI_le (by omega) hj))
theorem pk_le {x y : Int32} {A B : Prop} (a b : Nat) (f : a ≤ b → A) (g : b < a → B) (hx : x = nI a := by rfl) (hy : y = nI b := by rfl) (ha : a < 2 ^ 31 := by omega) (hb : b < 2 ^ 31 := by omega) : (x ≤ y → A) ∧ (¬ x ≤ y → B) := by
  subst hx hy
  rw [nI_leI ha hb]
  exact ⟨f, fun z => g (by omega)⟩
theorem pk_lt {x y : Int32} {A B : Prop} (a b : Nat) (f : a < b → A) (g : b ≤ a → B) (hx : x = nI a := by rfl) (hy : y = nI b := by rfl) (ha : a < 2 ^ 31 := by omega) (hb : b < 2 ^ 31 := by omega) : (x < y → A) ∧ (¬ x < y → B) := by
  subst hx hy
  rw [nI_ltI ha hb]
  exact ⟨f, fun z => g (by omega)⟩
theorem pk_eq {x y : Int32} {A B : Prop} (a b : Nat) (f : a = b → A) (g : a ≠ b → B) (hx : x = nI a := by rfl) (hy : y = nI b := by rfl) (ha : a < 2 ^ 31 := by omega) (hb : b < 2 ^ 31 := by omega) : (x = y → A) ∧ (¬ x = y → B) := by
  subst hx hy
  rw [nI_eq ha hb]
  exact ⟨f, g⟩
theorem pk_in {x : Int32} (n N : Nat) (h : n < N) (hx : x = nI n := by rfl) (hN : N < 2 ^ 31 := by omega) : vp_in x N := by
  subst hx
  exact vp_in_nI h hN
theorem pk_cl {x : Int32} (n : Nat) (hx : x = nI n := by rfl) (h : n < 2 ^ 31 := by omega) : x.toNatClampNeg = n := by
  subst hx
  exact nI_clamp h
theorem pk_tn {n : Nat} (h : n < 2 ^ 32) : (nI n).toBitVec.toNat = n := Nat.mod_eq_of_lt h
theorem pk_and (x : Int32) {m : Int32} (k : Nat) (hm : m.toBitVec.toNat = 2 ^ k - 1) : x &&& m = nI (x.toBitVec.toNat % 2 ^ k) := by
  apply Int32.toBitVec_inj.mp
  apply BitVec.eq_of_toNat_eq
  rw [Int32.toBitVec_and, BitVec.toNat_and, hm, Nat.and_two_pow_sub_one_eq_mod]
  show _ = (BitVec.ofNat 32 _).toNat
  rw [BitVec.toNat_ofNat]
  exact (Nat.mod_eq_of_lt (Nat.lt_of_le_of_lt (Nat.mod_le _ _) x.toBitVec.isLt)).symm
theorem pk_andN {n : Nat} (h : n < 2 ^ 32) {m : Int32} (k : Nat) (hm : m.toBitVec.toNat = 2 ^ k - 1) : nI n &&& m = nI (n % 2 ^ k) := by
  rw [pk_and _ k hm, pk_tn h]
def bt (x : Int32) (i : Nat) : Bool := x.toBitVec.getLsbD i
theorem b_ext {x y : Int32} (h : ∀ i, i < 32 → bt x i = bt y i) : x = y := Int32.toBitVec_inj.mp (BitVec.eq_of_getLsbD_eq (fun i hi => h i hi))
theorem b_or (x y : Int32) (i : Nat) : bt (x ||| y) i = (bt x i || bt y i) := by unfold bt; rw [Int32.toBitVec_or, BitVec.getLsbD_or]
theorem b_and (x y : Int32) (i : Nat) : bt (x &&& y) i = (bt x i && bt y i) := by unfold bt; rw [Int32.toBitVec_and, BitVec.getLsbD_and]
theorem b_xor (x y : Int32) (i : Nat) : bt (x ^^^ y) i = (bt x i ^^ bt y i) := by unfold bt; rw [Int32.toBitVec_xor, BitVec.getLsbD_xor]
theorem b_big {x : Int32} {i : Nat} (h : 32 ≤ i) : bt x i = false := BitVec.getLsbD_of_ge _ _ h
theorem b_255 (i : Nat) : bt 255 i = decide (i < 8) := by
  rcases Nat.lt_or_ge i 32 with h | h
  · exact (by decide +kernel : ∀ i, i < 32 → bt 255 i = decide (i < 8)) i h
  · rw [b_big h, decide_eq_false (by omega)]
theorem b_65535 (i : Nat) : bt 65535 i = decide (i < 16) := by
  rcases Nat.lt_or_ge i 32 with h | h
  · exact (by decide +kernel : ∀ i, i < 32 → bt 65535 i = decide (i < 16)) i h
  · rw [b_big h, decide_eq_false (by omega)]
theorem b_m1 : ∀ i, i < 32 → bt (-1) i = true := by decide +kernel
theorem b_0 (i : Nat) : bt 0 i = false := BitVec.getLsbD_zero
theorem s_l : ∀ n, n < 32 → ((nI n &&& 31).toBitVec.smod 32).toNat = n := by decide +kernel
theorem s_u : ∀ n, n < 32 → (((nI n).toUInt32 &&& Int32.toUInt32 31).toBitVec % 32).toNat = n := by decide +kernel
theorem b_shl (n : Nat) (hn : n < 32) (x : Int32) {i : Nat} (hi : i < 32) : bt (x <<< (nI n &&& 31)) i = (decide (n ≤ i) && bt x (i - n)) := by
  unfold bt
  rw [Int32.toBitVec_shiftLeft]
  show (x.toBitVec <<< ((nI n &&& 31).toBitVec.smod 32).toNat).getLsbD i = _
  rw [s_l n hn, BitVec.getLsbD_shiftLeft]
  rcases Nat.lt_or_ge i n with h | h
  · simp [h, Nat.not_le.mpr h]
  · simp [hi, h, Nat.not_lt.mpr h]
theorem b_ushr (n : Nat) (hn : n < 32) (x : Int32) (i : Nat) : bt ((x.toUInt32 >>> ((nI n).toUInt32 &&& Int32.toUInt32 31)).toInt32) i = bt x (n + i) := by
  show (x.toUInt32 >>> ((nI n).toUInt32 &&& Int32.toUInt32 31)).toBitVec.getLsbD i = x.toUInt32.toBitVec.getLsbD (n + i)
  rw [UInt32.toBitVec_shiftRight]
  show (x.toUInt32.toBitVec >>> (((nI n).toUInt32 &&& Int32.toUInt32 31).toBitVec % 32).toNat).getLsbD i = _
  rw [s_u n hn, BitVec.getLsbD_ushiftRight]
theorem b_sshr (n : Nat) (hn : n < 32) (x : Int32) {i : Nat} (hi : i < 32) : bt (x >>> (nI n &&& 31)) i = if n + i < 32 then bt x (n + i) else bt x 31 := by
  unfold bt
  rw [Int32.toBitVec_shiftRight]
  show (x.toBitVec.sshiftRight ((nI n &&& 31).toBitVec.smod 32).toNat).getLsbD i = _
  rw [s_l n hn, BitVec.getLsbD_sshiftRight, BitVec.msb_eq_getLsbD_last]
  simp [hi]
end
section
def vt_set {α : Type} (f : Nat → α) (i : Nat) (x : α) : Nat → α := fun j => if j = i then x else f j
theorem vt_ss {α : Type} {f : Nat → α} {i : Nat} {x : α} : vt_set f i x i = x := if_pos rfl
theorem vt_sn {α : Type} {f : Nat → α} {i j : Nat} {x : α} (h : j ≠ i) : vt_set f i x j = f j := if_neg h
theorem vt_s2 {α : Type} (f : Nat → α) (i : Nat) (x y : α) : vt_set (vt_set f i x) i y = vt_set f i y := by
  funext j
  by_cases h : j = i
  · subst h; rw [vt_ss, vt_ss]
  · rw [vt_sn h, vt_sn h, vt_sn h]
theorem vt_sid {α : Type} (f : Nat → α) (i : Nat) : vt_set f i (f i) = f := by
  funext j
  by_cases h : j = i
  · subst h; rw [vt_ss]
  · rw [vt_sn h]
theorem vt_len {α : Type} {L : List α} {j : Nat} {e : α} (h : L[j]? = some e) : j < L.length := (List.getElem?_eq_some_iff.mp h).1
theorem vt_mem {α : Type} {L : List α} {j : Nat} {e : α} (h : L[j]? = some e) : e ∈ L := List.mem_of_getElem? h
theorem vt_at {α : Type} (A : List α) (x : α) (B : List α) : (A ++ x :: B)[A.length]? = some x := by simp
theorem vt_at' {α : Type} {L A : List α} {x : α} {B : List α} (h : L = A ++ x :: B) : L[A.length]? = some x := by subst h; exact vt_at A x B
theorem vt_b {m : Nat} (h : m < 128) : (nI m).toInt8.toInt32 = nI m :=
  (by decide +kernel : ∀ m, m < 128 → (nI m).toInt8.toInt32 = nI m) m h
theorem vt_n {m : Nat} (h : m < 128) : vp_nar .byte (nI m) = nI m := by rw [vp_nar_byte, vt_b h]
theorem vt_n1 {y : Int32} {m : Nat} (e : y = nI m) (h : m < 128) : vp_nar .byte y = nI m := by rw [e, vt_n h]
theorem vt_n2 {y : Int32} {m : Nat} (e : y = nI m) (h : m < 128) : vp_nar .byte y.toInt8.toInt32 = nI m := by rw [e, vt_b h, vt_n h]
theorem vt_m5 (r : Nat) : nI r * 5 = nI (r * 5) := pk_mul r 5
theorem vt_m17 (r : Nat) : nI r * 17 = nI (r * 17) := pk_mul r 17
theorem vt_x5 (r j : Nat) : nI r * 5 + nI j = nI (r * 5 + j) := by rw [vt_m5, nI_add]
theorem vt_x17 (r j : Nat) : nI r * 17 + nI j = nI (r * 17 + j) := by rw [vt_m17, nI_add]
theorem vt_c5 {r j : Nat} (hr : r < 96) (hj : j < 6) : (nI r * 5 + nI j).toNatClampNeg = r * 5 + j := by rw [vt_x5, nI_clamp (by omega)]
theorem vt_c17 {r j : Nat} (hr : r < 8) (hj : j < 18) : (nI r * 17 + nI j).toNatClampNeg = r * 17 + j := by rw [vt_x17, nI_clamp (by omega)]
theorem vt_i5 {r j : Nat} (hr : r < 96) (hj : j < 5) : vp_in (nI r * 5 + nI j) 480 := by rw [vt_x5]; exact vp_in_nI (by omega) (by decide)
theorem vt_i17 {r j : Nat} (hr : r < 8) (hj : j < 17) : vp_in (nI r * 17 + nI j) 136 := by rw [vt_x17]; exact vp_in_nI (by omega) (by decide)
theorem vt_i96 {r : Nat} (hr : r < 96) : vp_in (nI r) 96 := vp_in_nI hr (by decide)
theorem vt_i8 {r : Nat} (hr : r < 8) : vp_in (nI r) 8 := vp_in_nI hr (by decide)
theorem vt_leR {x : Int32} {k : Nat} (hk : k < 2 ^ 31) : x ≤ nI k ↔ x.toInt ≤ (k : Int) := by rw [Int32.le_iff_toInt_le, nI_toInt hk]
theorem vt_ltR {x : Int32} {k : Nat} (hk : k < 2 ^ 31) : x < nI k ↔ x.toInt < (k : Int) := by rw [Int32.lt_iff_toInt_lt, nI_toInt hk]
theorem vt_leL {x : Int32} {k : Nat} (hk : k < 2 ^ 31) : nI k ≤ x ↔ (k : Int) ≤ x.toInt := by rw [Int32.le_iff_toInt_le, nI_toInt hk]
theorem vt_ltL {x : Int32} {k : Nat} (hk : k < 2 ^ 31) : nI k < x ↔ (k : Int) < x.toInt := by rw [Int32.lt_iff_toInt_lt, nI_toInt hk]
theorem vt_eqL {x : Int32} {k : Nat} (hk : k < 2 ^ 31) : nI k = x ↔ (k : Int) = x.toInt := by rw [← Int32.toInt_inj, nI_toInt hk]
theorem vt_neg1 : ¬ (0 : Int32) ≤ -1 := by decide
theorem vt_neg2 : (-1 : Int32) < 0 := by decide
/-! what the arrays hold -/
def vt_cU (LU : Nat → Nat) (n : Nat) (a : Nat → Int32) : Prop := ∀ i, i < n → a i = nI (LU i) ∧ LU i < 100
def vt_lf (L : List (Nat × Int32)) (i : Nat) (aS aK aV : Nat → Int32) : Prop :=
  aS i = nI L.length ∧ L.length ≤ 5 ∧ ∀ j e, L[j]? = some e → aK (i * 5 + j) = nI e.1 ∧ aV (i * 5 + j) = e.2 ∧ e.1 < 32
def vt_cE (LE : Nat → List (Nat × Int32)) (aS aK aV : Nat → Int32) : Prop := ∀ i, i < 96 → vt_lf (LE i) i aS aK aV
def vt_rt (L : List Nat) (r : Nat) (bS bL : Nat → Int32) : Prop :=
  bS r = nI L.length ∧ L.length ≤ 17 ∧ ∀ j x, L[j]? = some x → bL (r * 17 + j) = nI x ∧ x < 96
def vt_cT (RL : Nat → List Nat) (bS bL : Nat → Int32) : Prop := ∀ r, r < 8 → vt_rt (RL r) r bS bL
def vt_cR (vr : Nat → Nat) (a : Nat → Int32) : Prop := ∀ j, j < 4 → a j = nI (vr j) ∧ vr j < 8
def vt_RC (LU : Nat → Nat) (LE : Nat → List (Nat × Int32)) (RU : Nat → Nat) (RL : Nat → List Nat) (w : Nat) (vr : Nat → Nat) (f l : Nat)
    (fw ff fl : Int32) (aU aS aK aV bU bS bL aR : Nat → Int32) : Prop :=
  fw = nI w ∧ ff = nI f ∧ fl = nI l ∧ w < 8 ∧ vt_cU LU 96 aU ∧ vt_cE LE aS aK aV ∧ vt_cU RU 8 bU ∧ vt_cT RL bS bL ∧ vt_cR vr aR
theorem vt_cU_set {LU : Nat → Nat} {n : Nat} {a : Nat → Int32} (h : vt_cU LU n a) (i : Nat) {x : Nat} (hx : x < 100) : vt_cU (vt_set LU i x) n (upd a i (nI x)) := by
  intro j hj
  by_cases e : j = i
  · subst e; rw [vt_ss, pk_us]; exact ⟨rfl, hx⟩
  · rw [vt_sn e, pk_un e]; exact h j hj
theorem vt_lf_fr {L : List (Nat × Int32)} {i : Nat} {aS aK aV aS' aK' aV' : Nat → Int32} (h : vt_lf L i aS aK aV) (hS : aS' i = aS i)
    (hK : ∀ j, j < 5 → aK' (i * 5 + j) = aK (i * 5 + j)) (hV : ∀ j, j < 5 → aV' (i * 5 + j) = aV (i * 5 + j)) : vt_lf L i aS' aK' aV' := by
  obtain ⟨h1, h2, h3⟩ := h
  refine ⟨hS.trans h1, h2, fun j e he => ?_⟩
  have hj : j < 5 := Nat.lt_of_lt_of_le (vt_len he) h2
  rw [hK j hj, hV j hj]; exact h3 j e he
theorem vt_cE_set {LE : Nat → List (Nat × Int32)} {aS aK aV aS' aK' aV' : Nat → Int32} (h : vt_cE LE aS aK aV) (x : Nat) (L : List (Nat × Int32)) (hx : vt_lf L x aS' aK' aV')
    (hS : ∀ i, i ≠ x → aS' i = aS i) (hK : ∀ c, (c < x * 5 ∨ x * 5 + 5 ≤ c) → aK' c = aK c) (hV : ∀ c, (c < x * 5 ∨ x * 5 + 5 ≤ c) → aV' c = aV c) : vt_cE (vt_set LE x L) aS' aK' aV' := by
  intro i hi
  by_cases e : i = x
  · subst e; rw [vt_ss]; exact hx
  · rw [vt_sn e]; exact vt_lf_fr (h i hi) (hS i e) (fun j hj => hK _ (by omega)) (fun j hj => hV _ (by omega))
theorem vt_rt_fr {L : List Nat} {r : Nat} {bS bL bS' bL' : Nat → Int32} (h : vt_rt L r bS bL) (hS : bS' r = bS r)
    (hL : ∀ j, j < 17 → bL' (r * 17 + j) = bL (r * 17 + j)) : vt_rt L r bS' bL' := by
  obtain ⟨h1, h2, h3⟩ := h
  refine ⟨hS.trans h1, h2, fun j e he => ?_⟩
  have hj : j < 17 := Nat.lt_of_lt_of_le (vt_len he) h2
  rw [hL j hj]; exact h3 j e he
theorem vt_cT_set {RL : Nat → List Nat} {bS bL bS' bL' : Nat → Int32} (h : vt_cT RL bS bL) (r : Nat) (L : List Nat) (hr : vt_rt L r bS' bL')
    (hS : ∀ i, i ≠ r → bS' i = bS i) (hL : ∀ c, (c < r * 17 ∨ r * 17 + 17 ≤ c) → bL' c = bL c) : vt_cT (vt_set RL r L) bS' bL' := by
  intro i hi
  by_cases e : i = r
  · subst e; rw [vt_ss]; exact hr
  · rw [vt_sn e]; exact vt_rt_fr (h i hi) (hS i e) (fun j hj => hL _ (by omega))
/-! one entry copied -/
theorem vt_copy {post : SX → Prop} {fw ff fl : Int32} {aU aS aK aV bU bS bL aR : Nat → Int32} {p0 p1 p2 p3 : Int32} (a i b j k : Nat) (ha : a < 96) (hi : i < 5) (hb : b < 96) (hj : j < 5)
    (e0 : p0 = nI a) (e1 : p1 = nI i) (e2 : p2 = nI b) (e3 : p3 = nI j) (hk : aK (a * 5 + i) = nI k) (h32 : k < 128)
    (K : post (fw, ff, fl, aU, aS, upd aK (b * 5 + j) (nI k), upd aV (b * 5 + j) (aV (a * 5 + i)), bU, bS, bL, aR)) : wpX_copyEntry post (fw, ff, fl, aU, aS, aK, aV, bU, bS, bL, aR) p0 p1 p2 p3 := by
  subst e0 e1 e2 e3
  have c1 := vt_c5 ha (j := i) (by omega)
  have c2 := vt_c5 hb (j := j) (by omega)
  have v1 := vt_i5 ha hi
  have v2 := vt_i5 hb hj
  unfold wpX_copyEntry
  dsimp only
  rw [c1, c2, hk, vt_n h32]
  exact ⟨v1, v2, nm_e ⟨v1, v2, nm_e K⟩⟩
end
section
theorem vt_la {α : Type} (B : List α) (y : α) : (B ++ [y]).length = B.length + 1 := by simp
theorem vt_ap {α : Type} {L A B : List α} {y : α} (h : L = A ++ y :: B) : L = A ++ [y] ++ B := by rw [h]; simp
theorem vt_lt {α : Type} {L A B : List α} {y : α} (h : L = A ++ y :: B) : A.length < L.length := by rw [h]; simp
theorem vt_le0 {α : Type} {L A : List α} (h : L = A ++ []) : L.length = A.length := by rw [h]; simp
section
variable {LU : Nat → Nat} {LE : Nat → List (Nat × Int32)} {RU : Nat → Nat} {RL : Nat → List Nat} {w : Nat} {vr : Nat → Nat} {f l : Nat} {fw ff fl : Int32} {aU aS aK aV bU bS bL aR : Nat → Int32}
/-! below -/
theorem vt_belL {post : Int32 → Prop} {x : Nat} {k : Int32} (hx : x < 96) (hE : vt_lf (LE x) x aS aK aV)
    (K : ∀ e1 e2, LE x = e1 ++ e2 → (∀ e ∈ e1, (e.1 : Int) < k.toInt) → (∀ e es, e2 = e :: es → k.toInt ≤ (e.1 : Int)) → post (nI e1.length)) :
    ∀ (e2 e1 : List (Nat × Int32)) (i n : Nat), LE x = e1 ++ e2 → e1.length = i → (∀ e ∈ e1, (e.1 : Int) < k.toInt) → e2.length < n → wX_below_2 post (nI x) k fw ff fl aU aS aK aV bU bS bL aR n (nI i) := by
  obtain ⟨hS, h5, hG⟩ := hE
  have v := vt_i96 hx
  have cx : (nI x).toNatClampNeg = x := nI_clamp (by omega)
  intro e2
  induction e2 with
  | nil =>
    intro e1 i n h hi h1 hn
    obtain ⟨n, rfl⟩ : ∃ m, n = m + 1 := ⟨n - 1, by omega⟩
    subst hi
    have hl := vt_le0 h
    have g : aS x ≤ nI e1.length := by rw [hS]; exact nI_le (by omega) (by omega)
    simp only [wX_below_2, cx]
    exact ⟨v, br_t g (K e1 [] h h1 (fun e es q => by cases q))⟩
  | cons e e2 ih =>
    intro e1 i n h hi h1 hn
    obtain ⟨n, rfl⟩ : ∃ m, n = m + 1 := ⟨n - 1, by omega⟩
    subst hi
    have hl := vt_lt h
    have g : ¬ aS x ≤ nI e1.length := by rw [hS]; exact nI_ge hl (by omega)
    obtain ⟨q1, _, q3⟩ := hG e1.length e (vt_at' h)
    have c := vt_c5 hx (j := e1.length) (by omega)
    have v2 := vt_i5 hx (j := e1.length) (by omega)
    simp only [wX_below_2, cx, c, q1, forall_eq, nI_1]
    refine ⟨v, br_f g ⟨v2, ?_⟩⟩
    by_cases z : k.toInt ≤ (e.1 : Int)
    · exact br_t ((vt_leR (by omega)).mpr z) (K e1 (e :: e2) h h1 (fun e' es q => by cases q; exact z))
    · refine br_f (fun q => z ((vt_leR (by omega)).mp q)) ?_
      refine ih (e1 ++ [e]) (e1.length + 1) n (vt_ap h) (vt_la _ _) (fun e' h' => ?_) (by simp only [List.length_cons] at hn; omega)
      rcases List.mem_append.mp h' with h' | h'
      · exact h1 e' h'
      · rw [List.mem_singleton.mp h']; omega
theorem vt_below {post : Int32 → Prop} {x : Nat} {k : Int32} (hx : x < 96) (hE : vt_lf (LE x) x aS aK aV)
    (K : ∀ e1 e2, LE x = e1 ++ e2 → (∀ e ∈ e1, (e.1 : Int) < k.toInt) → (∀ e es, e2 = e :: es → k.toInt ≤ (e.1 : Int)) → post (nI e1.length)) :
    wpX_below post (fw, ff, fl, aU, aS, aK, aV, bU, bS, bL, aR) (nI x) k := by
  unfold wpX_below
  dsimp only
  exact ⟨(LE x).length + 1, vt_belL hx hE K (LE x) [] 0 _ rfl rfl (fun e h => by cases h) (Nat.lt_succ_self _)⟩
/-! placeOf -/
theorem vt_plL {post : Int32 → Prop} {r : Nat} {k : Int32} (hr : r < 8) (hE : vt_cE LE aS aK aV) (hT : vt_rt (RL r) r bS bL) (hne : ∀ y ∈ RL r, LE y ≠ [])
    (K : ∀ A x B, RL r = A ++ x :: B → (A = [] ∨ ∀ e es, LE x = e :: es → (e.1 : Int) ≤ k.toInt) → (∀ y ∈ B, ∀ e es, LE y = e :: es → k.toInt < (e.1 : Int)) → post (nI A.length)) :
    ∀ (L2 A : List Nat) (x : Nat) (B : List Nat) (p i n : Nat), RL r = (A ++ x :: B) ++ L2 → A.length = p → (A ++ x :: B).length = i → (A = [] ∨ ∀ e es, LE x = e :: es → (e.1 : Int) ≤ k.toInt) →
    (∀ y ∈ B, ∀ e es, LE y = e :: es → k.toInt < (e.1 : Int)) → L2.length < n → wX_placeOf_18 post (nI r) k fw ff fl aU aS aK aV bU bS bL aR n (nI p) (nI i) := by
  obtain ⟨hS, h17, hG⟩ := hT
  have v := vt_i8 hr
  have cr : (nI r).toNatClampNeg = r := nI_clamp (by omega)
  intro L2
  induction L2 with
  | nil =>
    intro A x B p i n h hp hi hA hB hn
    obtain ⟨n, rfl⟩ : ∃ m, n = m + 1 := ⟨n - 1, by omega⟩
    subst hp hi
    have hl := vt_le0 h
    have g : bS r ≤ nI (A ++ x :: B).length := by rw [hS]; exact nI_le (by omega) (by omega)
    simp only [wX_placeOf_18, cr]
    exact ⟨v, br_t g (K A x B (by rw [h, List.append_nil]) hA hB)⟩
  | cons y L2 ih =>
    intro A x B p i n h hp hi hA hB hn
    obtain ⟨n, rfl⟩ : ∃ m, n = m + 1 := ⟨n - 1, by omega⟩
    have hl := vt_lt h
    have g : ¬ bS r ≤ nI i := by rw [hS]; exact nI_ge (by omega) (by omega)
    have hy : (RL r)[i]? = some y := hi ▸ vt_at' h
    obtain ⟨q1, q2⟩ := hG _ _ hy
    obtain ⟨e, es, he⟩ : ∃ e es, LE y = e :: es := by
      cases hh : LE y with
      | nil => exact absurd hh (hne y (vt_mem hy))
      | cons e es => exact ⟨e, es, rfl⟩
    obtain ⟨k1, _, k3⟩ := (hE y q2).2.2 0 e (by rw [he]; rfl)
    rw [Nat.add_zero] at k1
    have c := vt_c17 hr (j := i) (by omega)
    have v2 := vt_i17 hr (j := i) (by omega)
    have c5 : (nI y * 5).toNatClampNeg = y * 5 := by rw [vt_m5, nI_clamp (by omega)]
    have v3 : vp_in (nI y * 5) 480 := by rw [vt_m5]; exact vp_in_nI (by omega) (by decide)
    have hn' : L2.length < n := by simp only [List.length_cons] at hn; omega
    have h' : RL r = (A ++ x :: B) ++ [y] ++ L2 := vt_ap h
    simp only [wX_placeOf_18, cr, c, q1, forall_eq, nI_1, c5, k1]
    refine ⟨v, br_f g ⟨v2, v3, ?_⟩⟩
    by_cases z : k.toInt < (e.1 : Int)
    · refine br_t ((vt_ltR (by omega)).mpr z) (ih A x (B ++ [y]) p (i + 1) n (by rw [h']; simp) hp (by simp only [List.length_append, List.length_cons, List.length_nil] at hi ⊢; omega) hA (fun y' hy' => ?_) hn')
      rcases List.mem_append.mp hy' with hy' | hy'
      · exact hB y' hy'
      · rw [List.mem_singleton.mp hy']
        intro e' es' q
        rw [he] at q
        cases q
        exact z
    · refine br_f (fun q => z ((vt_ltR (by omega)).mp q)) (ih (A ++ x :: B) y [] i (i + 1) n (by rw [h']) hi (by rw [vt_la, hi]) (Or.inr (fun e' es' q => ?_)) (fun y' hy' => by cases hy') hn')
      rw [he] at q
      cases q
      omega
theorem vt_plRaw {post : Int32 → Prop} {r : Nat} {k : Int32} (hr : r < 8) (hE : vt_cE LE aS aK aV) (hT : vt_rt (RL r) r bS bL) (hne : ∀ y ∈ RL r, LE y ≠ [])
    (K0 : RL r = [] → post (-1))
    (K : ∀ A x B, RL r = A ++ x :: B → (A = [] ∨ ∀ e es, LE x = e :: es → (e.1 : Int) ≤ k.toInt) → (∀ y ∈ B, ∀ e es, LE y = e :: es → k.toInt < (e.1 : Int)) → post (nI A.length)) :
    wpX_placeOf post (fw, ff, fl, aU, aS, aK, aV, bU, bS, bL, aR) (nI r) k := by
  have cr : (nI r).toNatClampNeg = r := nI_clamp (by omega)
  have hS := hT.1
  have h17 := hT.2.1
  unfold wpX_placeOf
  dsimp only
  rw [cr]
  refine ⟨vt_i8 hr, ?_⟩
  cases hL : RL r with
  | nil =>
    have g : bS r ≤ 0 := by rw [hS, hL]; exact nI_le (a := 0) (b := 0) (by omega) (by decide)
    have g1 : bS r ≤ 1 := by rw [hS, hL]; exact nI_le (a := 0) (b := 1) (by omega) (by decide)
    exact br_t g ⟨1, And.intro (vt_i8 hr) (br_t (by rw [cr]; exact g1) (K0 hL))⟩
  | cons x L =>
    have g : ¬ bS r ≤ 0 := by rw [hS]; exact nI_nle (by rw [hL]; simp) (by omega)
    refine br_f g ⟨L.length + 1, ?_⟩
    exact vt_plL hr hE hT hne K L [] x [] 0 1 _ (by rw [hL]; rfl) rfl rfl (Or.inl rfl) (fun y hy => by cases hy) (Nat.lt_succ_self _)
end
/-! the order of a table -/
def vt_so (L : List (Nat × Int32)) : Prop := L.Pairwise (fun a b => a.1 < b.1)
theorem vt_so_app {A B : List (Nat × Int32)} (h : vt_so (A ++ B)) : vt_so A ∧ vt_so B ∧ ∀ a ∈ A, ∀ b ∈ B, a.1 < b.1 := List.pairwise_append.mp h
theorem vt_so_mk {A B : List (Nat × Int32)} (h1 : vt_so A) (h2 : vt_so B) (h3 : ∀ a ∈ A, ∀ b ∈ B, a.1 < b.1) : vt_so (A ++ B) := List.pairwise_append.mpr ⟨h1, h2, h3⟩
theorem vt_so_key {L : List (Nat × Int32)} (h : vt_so L) {a b : Nat × Int32} (ha : a ∈ L) (hb : b ∈ L) (e : a.1 = b.1) : a = b := by
  induction L with
  | nil => cases ha
  | cons c L ih =>
    obtain ⟨h1, h2⟩ := List.pairwise_cons.mp h
    rcases List.mem_cons.mp ha with q1 | q1
    · rcases List.mem_cons.mp hb with q2 | q2
      · rw [q1, q2]
      · have := h1 b q2; rw [q1] at e; omega
    · rcases List.mem_cons.mp hb with q2 | q2
      · have := h1 a q1; rw [q2] at e; omega
      · exact ih h2 q1 q2
/-- a table as leaves -/
def vt_Shp (LE : Nat → List (Nat × Int32)) (L : List Nat) : Prop := (∀ x ∈ L, 1 ≤ (LE x).length ∧ (LE x).length ≤ 4) ∧ (2 ≤ L.length → ∀ x ∈ L, 2 ≤ (LE x).length)
def vt_OK (LE : Nat → List (Nat × Int32)) (L : List Nat) (C : List (Nat × Int32)) : Prop := L.Nodup ∧ vt_Shp LE L ∧ L.flatMap LE = C
theorem vt_OK_ne {LE : Nat → List (Nat × Int32)} {L : List Nat} {C : List (Nat × Int32)} (h : vt_OK LE L C) : ∀ y ∈ L, LE y ≠ [] := by
  intro y hy q
  have := (h.2.1.1 y hy).1
  rw [q] at this
  exact absurd this (by decide)
theorem vt_fm {LE : Nat → List (Nat × Int32)} (A : List Nat) (x : Nat) (B : List Nat) : (A ++ x :: B).flatMap LE = A.flatMap LE ++ (LE x ++ B.flatMap LE) := by
  rw [List.flatMap_append, List.flatMap_cons]
theorem vt_cut {LE : Nat → List (Nat × Int32)} {A : List Nat} {x : Nat} {B : List Nat} {z : Int} (hs : vt_so ((A ++ x :: B).flatMap LE)) (hne : ∀ y ∈ A ++ x :: B, LE y ≠ [])
    (hA : A = [] ∨ ∀ e es, LE x = e :: es → (e.1 : Int) ≤ z) (hB : ∀ y ∈ B, ∀ e es, LE y = e :: es → z < (e.1 : Int)) :
    (∀ e ∈ A.flatMap LE, (e.1 : Int) < z) ∧ (∀ e ∈ B.flatMap LE, z < (e.1 : Int)) := by
  rw [vt_fm] at hs
  obtain ⟨_, s2, s3⟩ := vt_so_app hs
  obtain ⟨_, s4, _⟩ := vt_so_app s2
  constructor
  · intro e he
    rcases hA with rfl | hA
    · cases he
    · cases hx : LE x with
      | nil => exact absurd hx (hne x (by simp))
      | cons e' es' =>
        have h1 := hA e' es' hx
        have h2 := s3 e he e' (by rw [hx]; simp)
        omega
  · intro e he
    obtain ⟨y, hy, hey⟩ := List.mem_flatMap.mp he
    cases hx : LE y with
    | nil => rw [hx] at hey; cases hey
    | cons e' es' =>
      have h1 := hB y hy e' es' hx
      obtain ⟨B1, B2, rfl⟩ := List.append_of_mem hy
      rw [vt_fm, hx] at s4
      obtain ⟨_, s5, _⟩ := vt_so_app s4
      obtain ⟨s6, _, _⟩ := vt_so_app s5
      obtain ⟨s7, _⟩ := List.pairwise_cons.mp s6
      rw [hx] at hey
      rcases List.mem_cons.mp hey with rfl | hey
      · exact h1
      · have := s7 e hey; omega
section
variable {LU : Nat → Nat} {LE : Nat → List (Nat × Int32)} {RU : Nat → Nat} {RL : Nat → List Nat} {w : Nat} {vr : Nat → Nat} {f l : Nat} {fw ff fl : Int32} {aU aS aK aV bU bS bL aR : Nat → Int32}
theorem vt_place {post : Int32 → Prop} {r : Nat} {k : Int32} {C : List (Nat × Int32)} (R : vt_RC LU LE RU RL w vr f l fw ff fl aU aS aK aV bU bS bL aR) (hr : r < 8) (hO : vt_OK LE (RL r) C) (hs : vt_so C)
    (K0 : RL r = [] → post (-1))
    (K : ∀ A x B, RL r = A ++ x :: B → (∀ e ∈ A.flatMap LE, (e.1 : Int) < k.toInt) → (∀ e ∈ B.flatMap LE, k.toInt < (e.1 : Int)) → post (nI A.length)) :
    wpX_placeOf post (fw, ff, fl, aU, aS, aK, aV, bU, bS, bL, aR) (nI r) k := by
  obtain ⟨rfl, rfl, rfl, hw, hU, hE, hB, hT, hR⟩ := R
  refine vt_plRaw hr hE (hT r hr) (vt_OK_ne hO) K0 (fun A x B h h1 h2 => ?_)
  have hne := vt_OK_ne hO
  rw [← hO.2.2, h] at hs
  rw [h] at hne
  obtain ⟨q1, q2⟩ := vt_cut hs hne h1 h2
  exact K A x B h q1 q2
theorem vt_cell {post : Int32 → Prop} {r : Nat} {k : Int32} {C : List (Nat × Int32)} (R : vt_RC LU LE RU RL w vr f l fw ff fl aU aS aK aV bU bS bL aR) (hr : r < 8) (hO : vt_OK LE (RL r) C) (hs : vt_so C)
    (K0 : (∀ e ∈ C, (e.1 : Int) ≠ k.toInt) → post (-1))
    (K : ∀ A x B e1 e e2, RL r = A ++ x :: B → x < 96 → LE x = e1 ++ e :: e2 → e1.length < 5 → (e.1 : Int) = k.toInt → e ∈ C → post (nI (x * 5 + e1.length))) :
    wpX_cellOf post (fw, ff, fl, aU, aS, aK, aV, bU, bS, bL, aR) (nI r) k := by
  have R0 := R
  obtain ⟨rfl, rfl, rfl, hw, hU, hE, hB, hT, hR⟩ := R
  unfold wpX_cellOf
  dsimp only
  refine vt_place R0 hr hO hs (fun h => ?_) (fun A x B h hA hB => ?_)
  · refine br_f vt_neg1 (K0 (fun e he => ?_))
    rw [← hO.2.2, h] at he
    cases he
  · have hl := vt_lt h
    have h17 := (hT r hr).2.1
    obtain ⟨q1, q2⟩ := (hT r hr).2.2 A.length x (vt_at' h)
    have hEx := hE x q2
    have cx : (nI x).toNatClampNeg = x := nI_clamp (by omega)
    refine br_t (nI_pos' (by omega)) ⟨vt_i17 hr (by omega), ?_⟩
    rw [vt_c17 hr (by omega), q1]
    refine nm_e (vt_below q2 hEx (fun e1 e2 he h1 h2 => ?_))
    refine ⟨vt_i96 q2, ?_⟩
    rw [cx, hEx.1]
    have h5 := hEx.2.1
    have hC : C = A.flatMap LE ++ (LE x ++ B.flatMap LE) := by rw [← hO.2.2, h, vt_fm]
    cases e2 with
    | nil =>
      have hl2 := vt_le0 he
      refine br_t (nI_le (by omega) (by omega)) ?_
      unfold wX_cellOf_67 wX_cellOf_68
      refine br_t rfl (K0 (fun e h' => ?_))
      rw [hC, he, List.append_nil] at h'
      rcases List.mem_append.mp h' with h' | h'
      · have := hA e h'; omega
      · rcases List.mem_append.mp h' with h' | h'
        · have := h1 e h'; omega
        · have := hB e h'; omega
    | cons e e2 =>
      have hl2 := vt_lt he
      obtain ⟨k1, k2, k3⟩ := hEx.2.2 e1.length e (vt_at' he)
      refine br_f (nI_ge hl2 (by omega)) ⟨vt_i5 q2 (by omega), ?_⟩
      rw [vt_c5 q2 (by omega), k1]
      by_cases z : (e.1 : Int) = k.toInt
      · refine br_t ((vt_eqL (by omega)).mpr z) ?_
        unfold wX_cellOf_68
        refine br_f (by decide) ?_
        rw [vt_x5]
        exact K A x B e1 e e2 h q2 he (by omega) z (by rw [hC, he]; simp)
      · refine br_f (fun q => z ((vt_eqL (by omega)).mp q)) ?_
        unfold wX_cellOf_67 wX_cellOf_68
        refine br_t rfl (K0 (fun e' h' => ?_))
        have hz := h2 e e2 rfl
        rw [hC, he] at hs h'
        obtain ⟨_, s2, _⟩ := vt_so_app hs
        obtain ⟨s3, _, _⟩ := vt_so_app s2
        obtain ⟨_, s4, _⟩ := vt_so_app s3
        obtain ⟨s5, _⟩ := List.pairwise_cons.mp s4
        rcases List.mem_append.mp h' with h' | h'
        · have := hA e' h'; omega
        · rcases List.mem_append.mp h' with h' | h'
          · rcases List.mem_append.mp h' with h' | h'
            · have := h1 e' h'; omega
            · rcases List.mem_cons.mp h' with rfl | h'
              · exact z
              · have := s5 e' h'; omega
          · have := hB e' h'; omega
end
end
section
def vt_ka : Option (Nat × Int32) → Int32
  | some e => nI e.1
  | none => -1
def vt_sf (a b : Int) (s : Int32) (e : Nat × Int32) : Int32 := if a ≤ (e.1 : Int) ∧ (e.1 : Int) ≤ b then s + e.2 else s
def vt_kf (s : Int32) (e : Nat × Int32) : Int32 := s ||| ((1 : Int32) <<< (nI e.1 &&& 31))
theorem vt_bt1 (s : Int32) {k i : Nat} (hk : k < 32) (hi : i < 32) : bt (s ||| ((1 : Int32) <<< (nI k &&& 31))) i = (bt s i || decide (i = k)) := by
  rw [b_or, b_shl k hk 1 hi]
  congr 1
  have h1 : ∀ j, j < 32 → bt 1 j = decide (j = 0) := by decide +kernel
  rw [h1 (i - k) (by omega)]
  by_cases h : i = k
  · subst h; simp
  · by_cases h2 : k ≤ i
    · rw [decide_eq_true h2, decide_eq_false h, decide_eq_false (by omega)]; rfl
    · rw [decide_eq_false h2, decide_eq_false h]; rfl
section
variable {LU : Nat → Nat} {LE : Nat → List (Nat × Int32)} {RU : Nat → Nat} {RL : Nat → List Nat} {w : Nat} {vr : Nat → Nat} {f l : Nat} {fw ff fl : Int32} {aU aS aK aV bU bS bL aR : Nat → Int32}
/-! count -/
theorem vt_cntL {post : Int32 → Prop} {r : Nat} (hr : r < 8) (hE : vt_cE LE aS aK aV) (hT : vt_rt (RL r) r bS bL) :
    ∀ (L2 L1 : List Nat) (i s n : Nat), RL r = L1 ++ L2 → L1.length = i → L2.length < n → post (nI (s + (L2.flatMap LE).length)) → wX_count_17 post (nI r) fw ff fl aU aS aK aV bU bS bL aR n (nI s) (nI i) := by
  obtain ⟨hS, h17, hG⟩ := hT
  have v := vt_i8 hr
  have cr : (nI r).toNatClampNeg = r := nI_clamp (by omega)
  intro L2
  induction L2 with
  | nil =>
    intro L1 i s n h hi hn hp
    obtain ⟨n, rfl⟩ : ∃ m, n = m + 1 := ⟨n - 1, by omega⟩
    have hl := vt_le0 h
    have g : bS r ≤ nI i := by rw [hS]; exact nI_le (by omega) (by omega)
    simp only [wX_count_17, cr]
    exact ⟨v, br_t g hp⟩
  | cons x L2 ih =>
    intro L1 i s n h hi hn hp
    obtain ⟨n, rfl⟩ : ∃ m, n = m + 1 := ⟨n - 1, by omega⟩
    have hl := vt_lt h
    have g : ¬ bS r ≤ nI i := by rw [hS]; exact nI_ge (by omega) (by omega)
    obtain ⟨q1, q2⟩ := hG i x (hi ▸ vt_at' h)
    have c := vt_c17 hr (j := i) (by omega)
    have v2 := vt_i17 hr (j := i) (by omega)
    have cx : (nI x).toNatClampNeg = x := nI_clamp (by omega)
    have hSx := (hE x q2).1
    simp only [wX_count_17, cr, c, q1, forall_eq, nI_1, cx, hSx, nI_add]
    rw [List.flatMap_cons, List.length_append, ← Nat.add_assoc] at hp
    exact ⟨v, br_f g ⟨v2, vt_i96 q2, ih (L1 ++ [x]) (i + 1) _ n (vt_ap h) (by rw [vt_la, hi]) (by simp only [List.length_cons] at hn; omega) hp⟩⟩
theorem vt_count {post : Int32 → Prop} {r : Nat} {C : List (Nat × Int32)} {p0 : Int32} (R : vt_RC LU LE RU RL w vr f l fw ff fl aU aS aK aV bU bS bL aR) (hr : r < 8) (hO : vt_OK LE (RL r) C)
    (ho : ∀ po : Int32 → Prop, po (nI r) → wpX_rootOf po (fw, ff, fl, aU, aS, aK, aV, bU, bS, bL, aR) p0) (hp : post (nI C.length)) : wpX_count post (fw, ff, fl, aU, aS, aK, aV, bU, bS, bL, aR) p0 := by
  obtain ⟨rfl, rfl, rfl, hw, hU, hE, hB, hT, hR⟩ := R
  unfold wpX_count
  dsimp only
  refine ho _ (br_t (nI_pos' (by omega)) ⟨(RL r).length + 1, ?_⟩)
  refine vt_cntL hr hE (hT r hr) (RL r) [] 0 0 _ rfl rfl (Nat.lt_succ_self _) ?_
  rw [hO.2.2, Nat.zero_add]
  exact hp
theorem vt_count0 {post : Int32 → Prop} {p0 : Int32} (ho : ∀ po : Int32 → Prop, po (-1) → wpX_rootOf po (fw, ff, fl, aU, aS, aK, aV, bU, bS, bL, aR) p0) (hp : post (-1)) : wpX_count post (fw, ff, fl, aU, aS, aK, aV, bU, bS, bL, aR) p0 := by
  unfold wpX_count
  dsimp only
  exact ho _ (br_f vt_neg1 hp)
/-! rank -/
theorem vt_rnkL {post : Int32 → Prop} {r x : Nat} {k : Int32} {A B : List Nat} (hr : r < 8) (hE : vt_cE LE aS aK aV) (hT : vt_rt (RL r) r bS bL) (h0 : RL r = A ++ x :: B) :
    ∀ (L2 L1 : List Nat) (i s n : Nat), A = L1 ++ L2 → L1.length = i → L2.length < n → wpX_below (fun q => post (nI (s + (L2.flatMap LE).length) + q)) (fw, ff, fl, aU, aS, aK, aV, bU, bS, bL, aR) (nI x) k →
    wX_rank_26 post k (nI r) (nI A.length) fw ff fl aU aS aK aV bU bS bL aR n (nI s) (nI i) := by
  obtain ⟨hS, h17, hG⟩ := hT
  have hlA := vt_lt h0
  intro L2
  induction L2 with
  | nil =>
    intro L1 i s n h hi hn hp
    obtain ⟨n, rfl⟩ : ∃ m, n = m + 1 := ⟨n - 1, by omega⟩
    have hl := vt_le0 h
    have g : nI A.length ≤ nI i := nI_le (by omega) (by omega)
    obtain ⟨q1, q2⟩ := hG A.length x (vt_at' h0)
    have c := vt_c17 hr (j := A.length) (by omega)
    have v2 := vt_i17 hr (j := A.length) (by omega)
    simp only [wX_rank_26, c, q1, forall_eq]
    exact br_t g (br_t (nI_pos' (by omega)) ⟨v2, hp⟩)
  | cons y L2 ih =>
    intro L1 i s n h hi hn hp
    obtain ⟨n, rfl⟩ : ∃ m, n = m + 1 := ⟨n - 1, by omega⟩
    have hl := vt_lt h
    have g : ¬ nI A.length ≤ nI i := nI_ge (by omega) (by omega)
    have h' : RL r = L1 ++ y :: (L2 ++ x :: B) := by rw [h0, h]; simp
    obtain ⟨q1, q2⟩ := hG i y (hi ▸ vt_at' h')
    have c := vt_c17 hr (j := i) (by omega)
    have v2 := vt_i17 hr (j := i) (by omega)
    have cx : (nI y).toNatClampNeg = y := nI_clamp (by omega)
    have hSx := (hE y q2).1
    rw [List.flatMap_cons, List.length_append, ← Nat.add_assoc] at hp
    have hih := ih (L1 ++ [y]) (i + 1) _ n (vt_ap h) (by rw [vt_la, hi]) (by simp only [List.length_cons] at hn; omega) hp
    simp only [wX_rank_26, c, q1, forall_eq, nI_1, cx, hSx, nI_add]
    exact br_f g ⟨v2, vt_i96 q2, hih⟩
def vt_lw (z : Int) (L : List (Nat × Int32)) : List (Nat × Int32) := L.filter (fun e => decide ((e.1 : Int) < z))
def vt_up (z : Int) (L : List (Nat × Int32)) : List (Nat × Int32) := L.filter (fun e => decide (z < (e.1 : Int)))
theorem vt_lw_app (z : Int) (A B : List (Nat × Int32)) : vt_lw z (A ++ B) = vt_lw z A ++ vt_lw z B := List.filter_append ..
theorem vt_up_app (z : Int) (A B : List (Nat × Int32)) : vt_up z (A ++ B) = vt_up z A ++ vt_up z B := List.filter_append ..
theorem vt_lw_all {z : Int} {A : List (Nat × Int32)} (h : ∀ e ∈ A, (e.1 : Int) < z) : vt_lw z A = A := List.filter_eq_self.mpr (fun e he => decide_eq_true (h e he))
theorem vt_up_all {z : Int} {A : List (Nat × Int32)} (h : ∀ e ∈ A, z < (e.1 : Int)) : vt_up z A = A := List.filter_eq_self.mpr (fun e he => decide_eq_true (h e he))
theorem vt_lw_no {z : Int} {A : List (Nat × Int32)} (h : ∀ e ∈ A, z ≤ (e.1 : Int)) : vt_lw z A = [] :=
  List.filter_eq_nil_iff.mpr (fun e he q => by have := h e he; have := of_decide_eq_true q; omega)
theorem vt_up_no {z : Int} {A : List (Nat × Int32)} (h : ∀ e ∈ A, (e.1 : Int) ≤ z) : vt_up z A = [] :=
  List.filter_eq_nil_iff.mpr (fun e he q => by have := h e he; have := of_decide_eq_true q; omega)
theorem vt_so_hd {e1 e2 : List (Nat × Int32)} {z : Int} (hs : vt_so e2) (h2 : ∀ e es, e2 = e :: es → z ≤ (e.1 : Int)) : ∀ e ∈ e2, z ≤ (e.1 : Int) := by
  intro e he
  cases e2 with
  | nil => cases he
  | cons a e2 =>
    have h := h2 a e2 rfl
    obtain ⟨s5, _⟩ := List.pairwise_cons.mp hs
    rcases List.mem_cons.mp he with rfl | he
    · exact h
    · have := s5 e he; omega
theorem vt_rank {post : Int32 → Prop} {r : Nat} {C : List (Nat × Int32)} {p0 k : Int32} (R : vt_RC LU LE RU RL w vr f l fw ff fl aU aS aK aV bU bS bL aR) (hr : r < 8) (hO : vt_OK LE (RL r) C) (hs : vt_so C)
    (ho : ∀ po : Int32 → Prop, po (nI r) → wpX_rootOf po (fw, ff, fl, aU, aS, aK, aV, bU, bS, bL, aR) p0) (hp : post (nI (vt_lw k.toInt C).length)) : wpX_rank post (fw, ff, fl, aU, aS, aK, aV, bU, bS, bL, aR) p0 k := by
  have R0 := R
  obtain ⟨rfl, rfl, rfl, hw, hU, hE, hB, hT, hR⟩ := R
  unfold wpX_rank
  dsimp only
  refine ho _ (br_t (nI_pos' (by omega)) (vt_place R0 hr hO hs (fun h => ?_) (fun A x B h hA hB => ?_)))
  · refine ⟨1, br_t (by decide) (br_f vt_neg1 ?_)⟩
    rw [← hO.2.2, h] at hp
    exact hp
  · obtain ⟨q1, q2⟩ := (hT r hr).2.2 A.length x (vt_at' h)
    refine ⟨A.length + 1, vt_rnkL hr hE (hT r hr) h A [] 0 0 _ rfl rfl (Nat.lt_succ_self _) (vt_below q2 (hE x q2) (fun e1 e2 he h1 h2 => ?_))⟩
    have hC : C = A.flatMap LE ++ ((e1 ++ e2) ++ B.flatMap LE) := by rw [← hO.2.2, h, vt_fm, he]
    rw [hC] at hs
    obtain ⟨_, s2, _⟩ := vt_so_app hs
    obtain ⟨s3, _, _⟩ := vt_so_app s2
    obtain ⟨_, s4, _⟩ := vt_so_app s3
    have h3 := vt_so_hd (e1 := e1) s4 h2
    rw [hC, vt_lw_app, vt_lw_app, vt_lw_app, vt_lw_all hA, vt_lw_all h1, vt_lw_no h3, vt_lw_no (fun e he => Int.le_of_lt (hB e he))] at hp
    rw [nI_add, Nat.zero_add]
    simp only [List.append_nil, List.length_append] at hp
    exact hp
theorem vt_rank0 {post : Int32 → Prop} {p0 k : Int32} (ho : ∀ po : Int32 → Prop, po (-1) → wpX_rootOf po (fw, ff, fl, aU, aS, aK, aV, bU, bS, bL, aR) p0) (hp : post (-1)) : wpX_rank post (fw, ff, fl, aU, aS, aK, aV, bU, bS, bL, aR) p0 k := by
  unfold wpX_rank
  dsimp only
  exact ho _ (br_f vt_neg1 hp)
/-! keyAt -/
theorem vt_katL {post : Int32 → Prop} {r : Nat} (hr : r < 8) (hE : vt_cE LE aS aK aV) (hT : vt_rt (RL r) r bS bL) :
    ∀ (L2 L1 : List Nat) (p i n : Nat), RL r = L1 ++ L2 → L1.length = p → L2.length < n → i < 2 ^ 31 → post (vt_ka (L2.flatMap LE)[i]?) → wX_keyAt_22 post (nI r) fw ff fl aU aS aK aV bU bS bL aR n (nI i) (nI p) := by
  obtain ⟨hS, h17, hG⟩ := hT
  have v := vt_i8 hr
  have cr : (nI r).toNatClampNeg = r := nI_clamp (by omega)
  intro L2
  induction L2 with
  | nil =>
    intro L1 p i n h hi hn hb hp
    obtain ⟨n, rfl⟩ : ∃ m, n = m + 1 := ⟨n - 1, by omega⟩
    have hl := vt_le0 h
    have g : bS r ≤ nI p := by rw [hS]; exact nI_le (by omega) (by omega)
    simp only [wX_keyAt_22, cr]
    exact ⟨v, br_t g hp⟩
  | cons x L2 ih =>
    intro L1 p i n h hi hn hb hp
    obtain ⟨n, rfl⟩ : ∃ m, n = m + 1 := ⟨n - 1, by omega⟩
    have hl := vt_lt h
    have g : ¬ bS r ≤ nI p := by rw [hS]; exact nI_ge (by omega) (by omega)
    obtain ⟨q1, q2⟩ := hG p x (hi ▸ vt_at' h)
    have c := vt_c17 hr (j := p) (by omega)
    have v2 := vt_i17 hr (j := p) (by omega)
    have cx : (nI x).toNatClampNeg = x := nI_clamp (by omega)
    obtain ⟨hSx, h5, hGx⟩ := hE x q2
    rw [List.flatMap_cons] at hp
    simp only [wX_keyAt_22, cr, c, q1, forall_eq, nI_1, cx, hSx]
    refine ⟨v, br_f g ⟨v2, vt_i96 q2, ?_⟩⟩
    by_cases z : (LE x).length ≤ i
    · refine br_t (nI_le z hb) ⟨vt_i96 q2, ?_⟩
      rw [pk_sub z]
      rw [List.getElem?_append_right z] at hp
      exact ih (L1 ++ [x]) (p + 1) _ n (vt_ap h) (by rw [vt_la, hi]) (by simp only [List.length_cons] at hn; omega) (by omega) hp
    · refine br_f (nI_ge (by omega) (by omega)) ⟨vt_i5 q2 (by omega), ?_⟩
      rw [vt_c5 q2 (by omega)]
      rw [List.getElem?_append_left (by omega)] at hp
      have he : (LE x)[i]? = some ((LE x)[i]'(by omega)) := List.getElem?_eq_getElem (by omega)
      rw [(hGx i _ he).1]
      rw [he] at hp
      exact hp
theorem vt_keyAt {post : Int32 → Prop} {r i : Nat} {C : List (Nat × Int32)} {p0 : Int32} (R : vt_RC LU LE RU RL w vr f l fw ff fl aU aS aK aV bU bS bL aR) (hr : r < 8) (hO : vt_OK LE (RL r) C)
    (ho : ∀ po : Int32 → Prop, po (nI r) → wpX_rootOf po (fw, ff, fl, aU, aS, aK, aV, bU, bS, bL, aR) p0) (hi : i < 2 ^ 31) (hp : post (vt_ka C[i]?)) : wpX_keyAt post (fw, ff, fl, aU, aS, aK, aV, bU, bS, bL, aR) p0 (nI i) := by
  obtain ⟨rfl, rfl, rfl, hw, hU, hE, hB, hT, hR⟩ := R
  unfold wpX_keyAt
  dsimp only
  refine ho _ (br_f (nI_pos (by omega)) (br_t (nI_pos' hi) ⟨(RL r).length + 1, ?_⟩))
  refine vt_katL hr hE (hT r hr) (RL r) [] 0 i _ rfl rfl (Nat.lt_succ_self _) hi ?_
  rw [hO.2.2]
  exact hp
theorem vt_keyAtN {post : Int32 → Prop} {r : Nat} {p0 k : Int32} (hr : r < 8)
    (ho : ∀ po : Int32 → Prop, po (nI r) → wpX_rootOf po (fw, ff, fl, aU, aS, aK, aV, bU, bS, bL, aR) p0) (hk : k < 0) (hp : post (-1)) : wpX_keyAt post (fw, ff, fl, aU, aS, aK, aV, bU, bS, bL, aR) p0 k := by
  unfold wpX_keyAt
  dsimp only
  exact ho _ (br_f (nI_pos (by omega)) (br_f (fun q => Int32.not_le.mpr hk q) hp))
theorem vt_keyAt0 {post : Int32 → Prop} {p0 k : Int32} (ho : ∀ po : Int32 → Prop, po (-1) → wpX_rootOf po (fw, ff, fl, aU, aS, aK, aV, bU, bS, bL, aR) p0) (hp : post (-1)) : wpX_keyAt post (fw, ff, fl, aU, aS, aK, aV, bU, bS, bL, aR) p0 k := by
  unfold wpX_keyAt
  dsimp only
  exact ho _ (br_t vt_neg2 hp)
end
end
section
section
variable {LU : Nat → Nat} {LE : Nat → List (Nat × Int32)} {RU : Nat → Nat} {RL : Nat → List Nat} {w : Nat} {vr : Nat → Nat} {f l : Nat} {fw ff fl : Int32} {aU aS aK aV bU bS bL aR : Nat → Int32}
/-! sum -/
theorem vt_s0 {post : Int32 → Prop} {J13 J51 : Int32 → Int32 → Prop} {x2 x3 x4 x5 x6 x7 x8 : Int32} (h : J51 x5 (x8 + 1)) : wX_sum_95 post J13 J51 x2 x3 x4 x5 x6 x7 x8 0 fw ff fl aU aS aK aV bU bS bL aR := by
  unfold wX_sum_95
  exact br_t rfl (nm_r (Int32.add_zero _) (nm_e h))
theorem vt_s1 {post : Int32 → Prop} {J13 J51 : Int32 → Int32 → Prop} {x2 x3 x4 x5 x6 x7 x8 : Int32} (hv : vp_in x8 480) (h : J51 (x5 + aV x8.toNatClampNeg) (x8 + 1)) : wX_sum_95 post J13 J51 x2 x3 x4 x5 x6 x7 x8 1 fw ff fl aU aS aK aV bU bS bL aR := by
  unfold wX_sum_95
  exact br_f (by decide) ⟨hv, nm_e (nm_e h)⟩
theorem vt_sumI {post : Int32 → Prop} {J : Int32 → Int32 → Prop} {a b : Int32} {r p x : Nat} (hx : x < 96) (hE : vt_lf (LE x) x aS aK aV) :
    ∀ (e2 e1 : List (Nat × Int32)) (i : Nat) (s : Int32) (n : Nat), LE x = e1 ++ e2 → x * 5 + e1.length = i → e2.length < n → J (e2.foldl (vt_sf a.toInt b.toInt) s) (nI (p + 1)) →
    wX_sum_51 post J a b (nI r) (nI p) (nI x) fw ff fl aU aS aK aV bU bS bL aR n s (nI i) := by
  obtain ⟨hS, h5, hG⟩ := hE
  have v := vt_i96 hx
  have cx : (nI x).toNatClampNeg = x := nI_clamp (by omega)
  intro e2
  induction e2 with
  | nil =>
    intro e1 i s n h hi hn hp
    obtain ⟨n, rfl⟩ : ∃ m, n = m + 1 := ⟨n - 1, by omega⟩
    have hl := vt_le0 h
    have g : nI (x * 5 + (LE x).length) ≤ nI i := nI_le (by omega) (by omega)
    simp only [wX_sum_51, cx, hS, vt_x5, forall_eq, nI_1]
    exact ⟨v, br_t g hp⟩
  | cons e e2 ih =>
    intro e1 i s n h hi hn hp
    obtain ⟨n, rfl⟩ : ∃ m, n = m + 1 := ⟨n - 1, by omega⟩
    have hl := vt_lt h
    have g : ¬ nI (x * 5 + (LE x).length) ≤ nI i := nI_ge (by omega) (by omega)
    obtain ⟨q1, q2, q3⟩ := hG e1.length e (vt_at' h)
    have ci : (nI i).toNatClampNeg = i := nI_clamp (by omega)
    have vi : vp_in (nI i) 480 := vp_in_nI (by omega) (by decide)
    rw [hi] at q1 q2
    have hih := fun s' hp' => ih (e1 ++ [e]) (i + 1) s' n (vt_ap h) (by rw [vt_la]; omega) (by simp only [List.length_cons] at hn; omega) hp'
    simp only [wX_sum_51, cx, hS, vt_x5, ci, q1]
    refine ⟨v, br_f g ⟨vi, ?_⟩⟩
    rw [List.foldl_cons] at hp
    by_cases z1 : (e.1 : Int) < a.toInt
    · refine br_t ((vt_ltL (by omega)).mpr z1) ?_
      unfold wX_sum_94
      refine vt_s0 ?_
      rw [nI_1]
      refine hih s ?_
      have : vt_sf a.toInt b.toInt s e = s := if_neg (by omega)
      rw [this] at hp
      exact hp
    · refine br_f (fun q => z1 ((vt_ltL (by omega)).mp q)) ⟨vi, ?_⟩
      by_cases z2 : b.toInt < (e.1 : Int)
      · refine br_t ((vt_ltR (by omega)).mpr z2) ?_
        unfold wX_sum_94
        refine vt_s0 ?_
        rw [nI_1]
        refine hih s ?_
        have : vt_sf a.toInt b.toInt s e = s := if_neg (by omega)
        rw [this] at hp
        exact hp
      · refine br_f (fun q => z2 ((vt_ltR (by omega)).mp q)) ?_
        refine vt_s1 vi ?_
        rw [nI_1, ci, q2]
        refine hih _ ?_
        have : vt_sf a.toInt b.toInt s e = s + e.2 := if_pos (by omega)
        rw [this] at hp
        exact hp
theorem vt_sumO {post : Int32 → Prop} {a b : Int32} {r : Nat} (hr : r < 8) (hE : vt_cE LE aS aK aV) (hT : vt_rt (RL r) r bS bL) :
    ∀ (L2 L1 : List Nat) (i : Nat) (s : Int32) (n : Nat), RL r = L1 ++ L2 → L1.length = i → L2.length < n → post ((L2.flatMap LE).foldl (vt_sf a.toInt b.toInt) s) →
    wX_sum_13 post a b (nI r) fw ff fl aU aS aK aV bU bS bL aR n s (nI i) := by
  obtain ⟨hS, h17, hG⟩ := hT
  have v := vt_i8 hr
  have cr : (nI r).toNatClampNeg = r := nI_clamp (by omega)
  have nr : ¬ nI r < 0 := nI_pos (by omega)
  intro L2
  induction L2 with
  | nil =>
    intro L1 i s n h hi hn hp
    obtain ⟨n, rfl⟩ : ∃ m, n = m + 1 := ⟨n - 1, by omega⟩
    have hl := vt_le0 h
    have g : bS r ≤ nI i := by rw [hS]; exact nI_le (by omega) (by omega)
    simp only [wX_sum_13, cr]
    exact br_f nr ⟨v, br_t g hp⟩
  | cons x L2 ih =>
    intro L1 i s n h hi hn hp
    obtain ⟨n, rfl⟩ : ∃ m, n = m + 1 := ⟨n - 1, by omega⟩
    have hl := vt_lt h
    have g : ¬ bS r ≤ nI i := by rw [hS]; exact nI_ge (by omega) (by omega)
    obtain ⟨q1, q2⟩ := hG i x (hi ▸ vt_at' h)
    have c := vt_c17 hr (j := i) (by omega)
    have v2 := vt_i17 hr (j := i) (by omega)
    simp only [wX_sum_13, cr, c, q1, forall_eq, vt_m5]
    rw [List.flatMap_cons, List.foldl_append] at hp
    refine br_f nr ⟨v, br_f g ⟨v2, (LE x).length + 1, ?_⟩⟩
    refine vt_sumI q2 (hE x q2) (LE x) [] _ s _ rfl rfl (Nat.lt_succ_self _) ?_
    exact ih (L1 ++ [x]) (i + 1) _ n (vt_ap h) (by rw [vt_la, hi]) (by simp only [List.length_cons] at hn; omega) hp
theorem vt_sum {post : Int32 → Prop} {r : Nat} {C : List (Nat × Int32)} {p0 a b : Int32} (R : vt_RC LU LE RU RL w vr f l fw ff fl aU aS aK aV bU bS bL aR) (hr : r < 8) (hO : vt_OK LE (RL r) C)
    (ho : ∀ po : Int32 → Prop, po (nI r) → wpX_rootOf po (fw, ff, fl, aU, aS, aK, aV, bU, bS, bL, aR) p0) (hp : post (C.foldl (vt_sf a.toInt b.toInt) 0)) : wpX_sum post (fw, ff, fl, aU, aS, aK, aV, bU, bS, bL, aR) p0 a b := by
  obtain ⟨rfl, rfl, rfl, hw, hU, hE, hB, hT, hR⟩ := R
  unfold wpX_sum
  dsimp only
  refine ho _ ⟨(RL r).length + 1, ?_⟩
  refine vt_sumO hr hE (hT r hr) (RL r) [] 0 0 _ rfl rfl (Nat.lt_succ_self _) ?_
  rw [hO.2.2]
  exact hp
theorem vt_sum0 {post : Int32 → Prop} {p0 a b : Int32} (ho : ∀ po : Int32 → Prop, po (-1) → wpX_rootOf po (fw, ff, fl, aU, aS, aK, aV, bU, bS, bL, aR) p0) (hp : post 0) : wpX_sum post (fw, ff, fl, aU, aS, aK, aV, bU, bS, bL, aR) p0 a b := by
  unfold wpX_sum
  dsimp only
  exact ho _ ⟨1, br_t vt_neg2 hp⟩
/-! keys -/
theorem vt_kyI {post : Int32 → Prop} {J : Int32 → Int32 → Prop} {r p x : Nat} (hx : x < 96) (hE : vt_lf (LE x) x aS aK aV) :
    ∀ (e2 e1 : List (Nat × Int32)) (i : Nat) (s : Int32) (n : Nat), LE x = e1 ++ e2 → x * 5 + e1.length = i → e2.length < n → J (e2.foldl vt_kf s) (nI (p + 1)) →
    wX_keys_46 post J (nI r) (nI p) (nI x) fw ff fl aU aS aK aV bU bS bL aR n s (nI i) := by
  obtain ⟨hS, h5, hG⟩ := hE
  have v := vt_i96 hx
  have cx : (nI x).toNatClampNeg = x := nI_clamp (by omega)
  intro e2
  induction e2 with
  | nil =>
    intro e1 i s n h hi hn hp
    obtain ⟨n, rfl⟩ : ∃ m, n = m + 1 := ⟨n - 1, by omega⟩
    have hl := vt_le0 h
    have g : nI (x * 5 + (LE x).length) ≤ nI i := nI_le (by omega) (by omega)
    simp only [wX_keys_46, cx, hS, vt_x5, forall_eq, nI_1]
    exact ⟨v, br_t g hp⟩
  | cons e e2 ih =>
    intro e1 i s n h hi hn hp
    obtain ⟨n, rfl⟩ : ∃ m, n = m + 1 := ⟨n - 1, by omega⟩
    have hl := vt_lt h
    have g : ¬ nI (x * 5 + (LE x).length) ≤ nI i := nI_ge (by omega) (by omega)
    obtain ⟨q1, q2, q3⟩ := hG e1.length e (vt_at' h)
    have ci : (nI i).toNatClampNeg = i := nI_clamp (by omega)
    have vi : vp_in (nI i) 480 := vp_in_nI (by omega) (by decide)
    rw [hi] at q1
    simp only [wX_keys_46, cx, hS, vt_x5, ci, q1, forall_eq, nI_1]
    exact ⟨v, br_f g ⟨vi, ih (e1 ++ [e]) (i + 1) _ n (vt_ap h) (by rw [vt_la]; omega) (by simp only [List.length_cons] at hn; omega) hp⟩⟩
theorem vt_kyO {post : Int32 → Prop} {r : Nat} (hr : r < 8) (hE : vt_cE LE aS aK aV) (hT : vt_rt (RL r) r bS bL) :
    ∀ (L2 L1 : List Nat) (i : Nat) (s : Int32) (n : Nat), RL r = L1 ++ L2 → L1.length = i → L2.length < n → post ((L2.flatMap LE).foldl vt_kf s) →
    wX_keys_11 post (nI r) fw ff fl aU aS aK aV bU bS bL aR n s (nI i) := by
  obtain ⟨hS, h17, hG⟩ := hT
  have v := vt_i8 hr
  have cr : (nI r).toNatClampNeg = r := nI_clamp (by omega)
  have nr : ¬ nI r < 0 := nI_pos (by omega)
  intro L2
  induction L2 with
  | nil =>
    intro L1 i s n h hi hn hp
    obtain ⟨n, rfl⟩ : ∃ m, n = m + 1 := ⟨n - 1, by omega⟩
    have hl := vt_le0 h
    have g : bS r ≤ nI i := by rw [hS]; exact nI_le (by omega) (by omega)
    simp only [wX_keys_11, cr]
    exact br_f nr ⟨v, br_t g hp⟩
  | cons x L2 ih =>
    intro L1 i s n h hi hn hp
    obtain ⟨n, rfl⟩ : ∃ m, n = m + 1 := ⟨n - 1, by omega⟩
    have hl := vt_lt h
    have g : ¬ bS r ≤ nI i := by rw [hS]; exact nI_ge (by omega) (by omega)
    obtain ⟨q1, q2⟩ := hG i x (hi ▸ vt_at' h)
    have c := vt_c17 hr (j := i) (by omega)
    have v2 := vt_i17 hr (j := i) (by omega)
    simp only [wX_keys_11, cr, c, q1, forall_eq, vt_m5]
    rw [List.flatMap_cons, List.foldl_append] at hp
    refine br_f nr ⟨v, br_f g ⟨v2, (LE x).length + 1, ?_⟩⟩
    refine vt_kyI q2 (hE x q2) (LE x) [] _ s _ rfl rfl (Nat.lt_succ_self _) ?_
    exact ih (L1 ++ [x]) (i + 1) _ n (vt_ap h) (by rw [vt_la, hi]) (by simp only [List.length_cons] at hn; omega) hp
theorem vt_keys {post : Int32 → Prop} {r : Nat} {C : List (Nat × Int32)} {p0 : Int32} (R : vt_RC LU LE RU RL w vr f l fw ff fl aU aS aK aV bU bS bL aR) (hr : r < 8) (hO : vt_OK LE (RL r) C)
    (ho : ∀ po : Int32 → Prop, po (nI r) → wpX_rootOf po (fw, ff, fl, aU, aS, aK, aV, bU, bS, bL, aR) p0) (hp : post (C.foldl vt_kf 0)) : wpX_keys post (fw, ff, fl, aU, aS, aK, aV, bU, bS, bL, aR) p0 := by
  obtain ⟨rfl, rfl, rfl, hw, hU, hE, hB, hT, hR⟩ := R
  unfold wpX_keys
  dsimp only
  refine ho _ ⟨(RL r).length + 1, ?_⟩
  refine vt_kyO hr hE (hT r hr) (RL r) [] 0 0 _ rfl rfl (Nat.lt_succ_self _) ?_
  rw [hO.2.2]
  exact hp
theorem vt_keys0 {post : Int32 → Prop} {p0 : Int32} (ho : ∀ po : Int32 → Prop, po (-1) → wpX_rootOf po (fw, ff, fl, aU, aS, aK, aV, bU, bS, bL, aR) p0) (hp : post 0) : wpX_keys post (fw, ff, fl, aU, aS, aK, aV, bU, bS, bL, aR) p0 := by
  unfold wpX_keys
  dsimp only
  exact ho _ ⟨1, br_t vt_neg2 hp⟩
/-! difference -/
theorem vt_hlL {post : Int32 → Prop} {r x : Nat} (hr : r < 8) (hx : x < 96) (hT : vt_rt (RL r) r bS bL) :
    ∀ (L2 L1 : List Nat) (i n : Nat), RL r = L1 ++ L2 → L1.length = i → L2.length < n → (x ∈ L2 → post 1) → (x ∉ L2 → post 0) → wX_hasLeaf_2 post (nI r) (nI x) fw ff fl aU aS aK aV bU bS bL aR n (nI i) := by
  obtain ⟨hS, h17, hG⟩ := hT
  have v := vt_i8 hr
  have cr : (nI r).toNatClampNeg = r := nI_clamp (by omega)
  intro L2
  induction L2 with
  | nil =>
    intro L1 i n h hi hn h1 h0
    obtain ⟨n, rfl⟩ : ∃ m, n = m + 1 := ⟨n - 1, by omega⟩
    have hl := vt_le0 h
    have g : bS r ≤ nI i := by rw [hS]; exact nI_le (by omega) (by omega)
    simp only [wX_hasLeaf_2, cr]
    exact ⟨v, br_t g (h0 (fun q => by cases q))⟩
  | cons y L2 ih =>
    intro L1 i n h hi hn h1 h0
    obtain ⟨n, rfl⟩ : ∃ m, n = m + 1 := ⟨n - 1, by omega⟩
    have hl := vt_lt h
    have g : ¬ bS r ≤ nI i := by rw [hS]; exact nI_ge (by omega) (by omega)
    obtain ⟨q1, q2⟩ := hG i y (hi ▸ vt_at' h)
    have c := vt_c17 hr (j := i) (by omega)
    have v2 := vt_i17 hr (j := i) (by omega)
    simp only [wX_hasLeaf_2, cr, c, q1, forall_eq, nI_1]
    refine ⟨v, br_f g ⟨v2, ?_⟩⟩
    by_cases z : y = x
    · exact br_t (congrArg nI z) (h1 (by rw [z]; simp))
    · refine br_f (fun q => z ((nI_eq (by omega) (by omega)).mp q)) (ih (L1 ++ [y]) (i + 1) n (vt_ap h) (by rw [vt_la, hi]) (by simp only [List.length_cons] at hn; omega) (fun q => h1 (List.mem_cons_of_mem _ q)) (fun q => h0 (fun q' => ?_)))
      rcases List.mem_cons.mp q' with e | q'
      · exact z e.symm
      · exact q q'
theorem vt_moL {post : Int32 → Prop} {x r : Nat} {M : List (Nat × Int32)} (R : vt_RC LU LE RU RL w vr f l fw ff fl aU aS aK aV bU bS bL aR) (hr : r < 8) (hO : vt_OK LE (RL r) M) (hs : vt_so M) (hx : x < 96) :
    ∀ (e2 e1 : List (Nat × Int32)) (i : Nat) (s : Int32) (n : Nat), LE x = e1 ++ e2 → x * 5 + e1.length = i → e2.length < n →
    (∀ s' : Int32, (∀ k, k < 32 → (bt s' k = true ↔ (bt s k = true ∨ ∃ e, e ∈ e2 ∧ e.1 = k ∧ e ∉ M))) → post s') → wX_missingOf_7 post (nI x) (nI r) fw ff fl aU aS aK aV bU bS bL aR n s (nI i) := by
  have R0 := R
  obtain ⟨rfl, rfl, rfl, hw, hU, hE, hB, hT, hR⟩ := R
  obtain ⟨hS, h5, hG⟩ := hE x hx
  have v := vt_i96 hx
  have cx : (nI x).toNatClampNeg = x := nI_clamp (by omega)
  intro e2
  induction e2 with
  | nil =>
    intro e1 i s n h hi hn hp
    obtain ⟨n, rfl⟩ : ∃ m, n = m + 1 := ⟨n - 1, by omega⟩
    have hl := vt_le0 h
    have g : nI (x * 5 + (LE x).length) ≤ nI i := nI_le (by omega) (by omega)
    simp only [wX_missingOf_7, cx, hS, vt_x5]
    refine ⟨v, br_t g (hp s (fun k hk => ⟨Or.inl, fun q => ?_⟩))⟩
    rcases q with q | ⟨e, he, _⟩
    · exact q
    · cases he
  | cons e e2 ih =>
    intro e1 i s n h hi hn hp
    obtain ⟨n, rfl⟩ : ∃ m, n = m + 1 := ⟨n - 1, by omega⟩
    have hl := vt_lt h
    have g : ¬ nI (x * 5 + (LE x).length) ≤ nI i := nI_ge (by omega) (by omega)
    obtain ⟨q1, q2, q3⟩ := hG e1.length e (vt_at' h)
    have ci : (nI i).toNatClampNeg = i := nI_clamp (by omega)
    have vi : vp_in (nI i) 480 := vp_in_nI (by omega) (by decide)
    have ke : (nI e.1).toInt = (e.1 : Int) := nI_toInt (by omega)
    rw [hi] at q1 q2
    have hset : e ∉ M → wX_missingOf_7 post (nI x) (nI r) (nI w) (nI f) (nI l) aU aS aK aV bU bS bL aR n (s ||| ((1 : Int32) <<< (nI e.1 &&& 31))) (nI (i + 1)) := by
      intro heM
      refine ih (e1 ++ [e]) (i + 1) _ n (vt_ap h) (by rw [vt_la]; omega) (by simp only [List.length_cons] at hn; omega) (fun s' hs' => hp s' (fun k hk => ?_))
      rw [hs' k hk, vt_bt1 s q3 hk, Bool.or_eq_true, decide_eq_true_eq]
      constructor
      · rintro ((q | q) | ⟨e', h1, h2⟩)
        · exact Or.inl q
        · exact Or.inr ⟨e, by simp, q.symm, heM⟩
        · exact Or.inr ⟨e', List.mem_cons_of_mem _ h1, h2⟩
      · rintro (q | ⟨e', h1, h2, h3⟩)
        · exact Or.inl (Or.inl q)
        · rcases List.mem_cons.mp h1 with rfl | h1
          · exact Or.inl (Or.inr h2.symm)
          · exact Or.inr ⟨e', h1, h2, h3⟩
    have h58 : e ∉ M → wX_missingOf_58 post (wX_missingOf_7 post (nI x) (nI r) (nI w) (nI f) (nI l) aU aS aK aV bU bS bL aR n) (nI x) (nI r) s (nI i) (nI w) (nI f) (nI l) aU aS aK aV bU bS bL aR := by
      intro heM
      unfold wX_missingOf_58
      rw [ci, q1]
      exact ⟨vi, nm_e (nm_r (nI_1 i) (hset heM))⟩
    simp only [wX_missingOf_7, cx, hS, vt_x5, ci, q1]
    refine ⟨v, br_f g ⟨vi, ?_⟩⟩
    refine vt_cell R0 hr hO hs (fun hno => ?_) (fun A y B f1 e' f2 hy1 hy2 hy3 hy4 hy5 hy6 => ?_)
    · refine br_t vt_neg2 (h58 (fun q => hno e q ?_))
      rw [ke]
    · obtain ⟨k1, k2, k3⟩ := (hE y hy2).2.2 f1.length e' (vt_at' hy3)
      have cy : (nI (y * 5 + f1.length)).toNatClampNeg = y * 5 + f1.length := nI_clamp (by omega)
      have hkk : e'.1 = e.1 := by rw [ke] at hy5; omega
      refine br_f (nI_pos (by omega)) ⟨vp_in_nI (by omega) (by decide), vi, ?_⟩
      rw [cy, k2, q2]
      by_cases z : e'.2 = e.2
      · have hee : e' = e := Prod.ext hkk z
        refine br_t z (nm_r (nI_1 i) ?_)
        refine ih (e1 ++ [e]) (i + 1) _ n (vt_ap h) (by rw [vt_la]; omega) (by simp only [List.length_cons] at hn; omega) (fun s' hs' => hp s' (fun k hk => ?_))
        rw [hs' k hk]
        constructor
        · rintro (q | ⟨e'', h1, h2⟩)
          · exact Or.inl q
          · exact Or.inr ⟨e'', List.mem_cons_of_mem _ h1, h2⟩
        · rintro (q | ⟨e'', h1, h2, h3⟩)
          · exact Or.inl q
          · rcases List.mem_cons.mp h1 with rfl | h1
            · exact absurd (hee ▸ hy6) h3
            · exact Or.inr ⟨e'', h1, h2, h3⟩
      · refine br_f z (h58 (fun q => z ?_))
        rw [vt_so_key hs hy6 q hkk]
theorem vt_mo {post : Int32 → Prop} {x r : Nat} {M : List (Nat × Int32)} (R : vt_RC LU LE RU RL w vr f l fw ff fl aU aS aK aV bU bS bL aR) (hr : r < 8) (hO : vt_OK LE (RL r) M) (hs : vt_so M) (hx : x < 96)
    (hp : ∀ s' : Int32, (∀ k, k < 32 → (bt s' k = true ↔ ∃ e, e ∈ LE x ∧ e.1 = k ∧ e ∉ M)) → post s') : wpX_missingOf post (fw, ff, fl, aU, aS, aK, aV, bU, bS, bL, aR) (nI x) (nI r) := by
  unfold wpX_missingOf
  dsimp only
  refine nm_r (vt_m5 x) ⟨(LE x).length + 1, ?_⟩
  refine vt_moL R hr hO hs hx (LE x) [] _ 0 _ rfl rfl (Nat.lt_succ_self _) (fun s' hs' => hp s' (fun k hk => ?_))
  rw [hs' k hk, b_0]
  simp
theorem vt_miL {post : Int32 → Prop} {q r : Nat} {C M : List (Nat × Int32)} (R : vt_RC LU LE RU RL w vr f l fw ff fl aU aS aK aV bU bS bL aR) (hq : q < 8) (hr : r < 8) (hO : vt_OK LE (RL r) M) (hs : vt_so M) :
    ∀ (L2 L1 : List Nat) (i : Nat) (s : Int32) (n : Nat), RL q = L1 ++ L2 → L1.length = i → L2.length < n →
    (∀ s' : Int32, (∀ k, k < 32 → (bt s' k = true ↔ (bt s k = true ∨ ∃ e, e ∈ L2.flatMap LE ∧ e.1 = k ∧ e ∉ M))) → post s') → wX_missing_5 post (nI q) (nI r) fw ff fl aU aS aK aV bU bS bL aR n s (nI i) := by
  have R0 := R
  obtain ⟨rfl, rfl, rfl, hw, hU, hE, hB, hT, hR⟩ := R
  obtain ⟨hS, h17, hG⟩ := hT q hq
  have v := vt_i8 hq
  have cr : (nI q).toNatClampNeg = q := nI_clamp (by omega)
  intro L2
  induction L2 with
  | nil =>
    intro L1 i s n h hi hn hp
    obtain ⟨n, rfl⟩ : ∃ m, n = m + 1 := ⟨n - 1, by omega⟩
    have hl := vt_le0 h
    have g : bS q ≤ nI i := by rw [hS]; exact nI_le (by omega) (by omega)
    simp only [wX_missing_5, cr]
    refine ⟨v, br_t g (hp s (fun k hk => ⟨Or.inl, fun q => ?_⟩))⟩
    rcases q with q | ⟨e, he, _⟩
    · exact q
    · cases he
  | cons x L2 ih =>
    intro L1 i s n h hi hn hp
    obtain ⟨n, rfl⟩ : ∃ m, n = m + 1 := ⟨n - 1, by omega⟩
    have hl := vt_lt h
    have g : ¬ bS q ≤ nI i := by rw [hS]; exact nI_ge (by omega) (by omega)
    obtain ⟨q1, q2⟩ := hG i x (hi ▸ vt_at' h)
    have c := vt_c17 hq (j := i) (by omega)
    have v2 := vt_i17 hq (j := i) (by omega)
    have hn' : L2.length < n := by simp only [List.length_cons] at hn; omega
    have hih := fun s hp => ih (L1 ++ [x]) (i + 1) s n (vt_ap h) (by rw [vt_la, hi]) hn' hp
    simp only [wX_missing_5, cr, c, q1, nI_1]
    refine ⟨v, br_f g ⟨v2, nm_e ?_⟩⟩
    refine Exists.intro ((RL r).length + 1) (vt_hlL hr q2 (hT r hr) (RL r) [] 0 _ rfl rfl (Nat.lt_succ_self _) (fun hin => ?_) (fun hout => ?_))
    · refine br_f (by decide) (nm_e (hih s (fun s' hs' => hp s' (fun k hk => ?_))))
      rw [hs' k hk, List.flatMap_cons]
      constructor
      · rintro (q | ⟨e, h1, h2⟩)
        · exact Or.inl q
        · exact Or.inr ⟨e, List.mem_append_right _ h1, h2⟩
      · rintro (q | ⟨e, h1, h2, h3⟩)
        · exact Or.inl q
        · rcases List.mem_append.mp h1 with h1 | h1
          · refine absurd ?_ h3
            rw [← hO.2.2]
            exact List.mem_flatMap.mpr ⟨x, hin, h1⟩
          · exact Or.inr ⟨e, h1, h2, h3⟩
    · refine br_t rfl (vt_mo R0 hr hO hs q2 (fun s1 hs1 => nm_e (nm_e (hih _ (fun s' hs' => hp s' (fun k hk => ?_))))))
      rw [hs' k hk, b_or, Bool.or_eq_true, hs1 k hk, List.flatMap_cons]
      constructor
      · rintro ((q | ⟨e, h1, h2⟩) | ⟨e, h1, h2⟩)
        · exact Or.inl q
        · exact Or.inr ⟨e, List.mem_append_left _ h1, h2⟩
        · exact Or.inr ⟨e, List.mem_append_right _ h1, h2⟩
      · rintro (q | ⟨e, h1, h2⟩)
        · exact Or.inl (Or.inl q)
        · rcases List.mem_append.mp h1 with h1 | h1
          · exact Or.inl (Or.inr ⟨e, h1, h2⟩)
          · exact Or.inr ⟨e, h1, h2⟩
theorem vt_mi {post : Int32 → Prop} {q r : Nat} {C M : List (Nat × Int32)} (R : vt_RC LU LE RU RL w vr f l fw ff fl aU aS aK aV bU bS bL aR) (hq : q < 8) (hr : r < 8) (hQ : vt_OK LE (RL q) C) (hO : vt_OK LE (RL r) M) (hs : vt_so M)
    (hp : ∀ s' : Int32, (∀ k, k < 32 → (bt s' k = true ↔ ∃ e, e ∈ C ∧ e.1 = k ∧ e ∉ M)) → post s') : wpX_missing post (fw, ff, fl, aU, aS, aK, aV, bU, bS, bL, aR) (nI q) (nI r) := by
  unfold wpX_missing
  dsimp only
  refine ⟨(RL q).length + 1, ?_⟩
  refine vt_miL (C := C) R hq hr hO hs (RL q) [] 0 0 _ rfl rfl (Nat.lt_succ_self _) (fun s' hs' => hp s' (fun k hk => ?_))
  rw [hs' k hk, b_0, hQ.2.2]
  simp
end
end
section
/-! the reference's tables as lists -/
def vt_yr (ks : Int32) (vs : Nat → Int32) (t : Nat) : Nat → Nat → List (Nat × Int32)
  | 0, _ => []
  | d + 1, i => if bt ks i = true then (i, vs (32 * t + i)) :: vt_yr ks vs t d (i + 1) else vt_yr ks vs t d (i + 1)
def vt_yt (ks : Nat → Int32) (vs : Nat → Int32) (t : Nat) : List (Nat × Int32) := vt_yr (ks t) vs t 32 0
theorem vt_yr_t {ks : Int32} {vs : Nat → Int32} {t d i : Nat} (h : bt ks i = true) : vt_yr ks vs t (d + 1) i = (i, vs (32 * t + i)) :: vt_yr ks vs t d (i + 1) := by
  rw [vt_yr, if_pos h]
theorem vt_yr_f {ks : Int32} {vs : Nat → Int32} {t d i : Nat} (h : bt ks i = false) : vt_yr ks vs t (d + 1) i = vt_yr ks vs t d (i + 1) := by
  rw [vt_yr, if_neg (by rw [h]; decide)]
theorem vt_yr_mem {ks : Int32} {vs : Nat → Int32} {t : Nat} (e : Nat × Int32) : ∀ d i, e ∈ vt_yr ks vs t d i ↔ i ≤ e.1 ∧ e.1 < i + d ∧ bt ks e.1 = true ∧ e.2 = vs (32 * t + e.1) := by
  intro d
  induction d with
  | zero =>
    intro i
    constructor
    · intro h; cases h
    · rintro ⟨h1, h2, _⟩; omega
  | succ d ih =>
    intro i
    cases hb : bt ks i with
    | false =>
      rw [vt_yr_f hb, ih]
      constructor
      · rintro ⟨h1, h2, h3⟩; exact ⟨by omega, by omega, h3⟩
      · rintro ⟨h1, h2, h3, h4⟩
        have : e.1 ≠ i := fun q => by rw [q, hb] at h3; cases h3
        exact ⟨by omega, by omega, h3, h4⟩
    | true =>
      rw [vt_yr_t hb, List.mem_cons, ih]
      constructor
      · rintro (rfl | ⟨h1, h2, h3⟩)
        · exact ⟨Nat.le_refl _, by omega, hb, rfl⟩
        · exact ⟨by omega, by omega, h3⟩
      · rintro ⟨h1, h2, h3, h4⟩
        by_cases q : e.1 = i
        · left; exact Prod.ext q (by rw [h4, q])
        · right; exact ⟨by omega, by omega, h3, h4⟩
theorem vt_yr_so {ks : Int32} {vs : Nat → Int32} {t : Nat} : ∀ d i, vt_so (vt_yr ks vs t d i) := by
  intro d
  induction d with
  | zero => intro i; exact List.Pairwise.nil
  | succ d ih =>
    intro i
    cases hb : bt ks i with
    | false => rw [vt_yr_f hb]; exact ih _
    | true =>
      rw [vt_yr_t hb]
      refine List.pairwise_cons.mpr ⟨fun e he => ?_, ih _⟩
      have := ((vt_yr_mem e d (i + 1)).mp he).1
      show i < e.1
      omega
theorem vt_yr_add {ks : Int32} {vs : Nat → Int32} {t : Nat} (b : Nat) : ∀ a i, vt_yr ks vs t (a + b) i = vt_yr ks vs t a i ++ vt_yr ks vs t b (i + a) := by
  intro a
  induction a with
  | zero => intro i; rw [Nat.zero_add]; rfl
  | succ a ih =>
    intro i
    have e : a + 1 + b = (a + b) + 1 := by omega
    have e2 : i + (a + 1) = i + 1 + a := by omega
    cases hb : bt ks i with
    | false => rw [e, vt_yr_f hb, vt_yr_f hb, ih, e2]
    | true => rw [e, vt_yr_t hb, vt_yr_t hb, ih, e2]; rfl
theorem vt_yt_mem {ks vs : Nat → Int32} {t : Nat} (e : Nat × Int32) : e ∈ vt_yt ks vs t ↔ e.1 < 32 ∧ bt (ks t) e.1 = true ∧ e.2 = vs (32 * t + e.1) := by
  unfold vt_yt
  rw [vt_yr_mem]
  constructor
  · rintro ⟨_, h1, h2⟩; exact ⟨by omega, h2⟩
  · rintro ⟨h1, h2⟩; exact ⟨Nat.zero_le _, by omega, h2⟩
theorem vt_yt_so (ks vs : Nat → Int32) (t : Nat) : vt_so (vt_yt ks vs t) := vt_yr_so 32 0
theorem vt_so_ext : ∀ {A B : List (Nat × Int32)}, vt_so A → vt_so B → (∀ e, e ∈ A ↔ e ∈ B) → A = B := by
  intro A
  induction A with
  | nil =>
    intro B _ _ h
    cases B with
    | nil => rfl
    | cons b B => have := (h b).mpr (by simp); cases this
  | cons a A ih =>
    intro B hA hB h
    cases B with
    | nil => have := (h a).mp (by simp); cases this
    | cons b B =>
      obtain ⟨a1, a2⟩ := List.pairwise_cons.mp hA
      obtain ⟨b1, b2⟩ := List.pairwise_cons.mp hB
      have e : a = b := by
        rcases List.mem_cons.mp ((h a).mp (by simp)) with q | q
        · exact q
        · rcases List.mem_cons.mp ((h b).mpr (by simp)) with q' | q'
          · exact q'.symm
          · have := b1 a q; have := a1 b q'; omega
      subst e
      congr 1
      refine ih a2 b2 (fun e => ⟨fun q => ?_, fun q => ?_⟩)
      · rcases List.mem_cons.mp ((h e).mp (List.mem_cons_of_mem _ q)) with rfl | q'
        · have := a1 e q; omega
        · exact q'
      · rcases List.mem_cons.mp ((h e).mpr (List.mem_cons_of_mem _ q)) with rfl | q'
        · have := b1 e q; omega
        · exact q'
def vt_put (k : Nat) (v : Int32) (L : List (Nat × Int32)) : List (Nat × Int32) := vt_lw k L ++ (k, v) :: vt_up k L
def vt_rm (k : Nat) (L : List (Nat × Int32)) : List (Nat × Int32) := L.filter (fun e => decide (e.1 ≠ k))
theorem vt_lw_mem {z : Int} {L : List (Nat × Int32)} {e : Nat × Int32} : e ∈ vt_lw z L ↔ e ∈ L ∧ (e.1 : Int) < z := by
  unfold vt_lw; rw [List.mem_filter, decide_eq_true_eq]
theorem vt_up_mem {z : Int} {L : List (Nat × Int32)} {e : Nat × Int32} : e ∈ vt_up z L ↔ e ∈ L ∧ z < (e.1 : Int) := by
  unfold vt_up; rw [List.mem_filter, decide_eq_true_eq]
theorem vt_rm_mem {k : Nat} {L : List (Nat × Int32)} {e : Nat × Int32} : e ∈ vt_rm k L ↔ e ∈ L ∧ e.1 ≠ k := by
  unfold vt_rm; rw [List.mem_filter, decide_eq_true_eq]
theorem vt_put_mem {k : Nat} {v : Int32} {L : List (Nat × Int32)} {e : Nat × Int32} : e ∈ vt_put k v L ↔ (e ∈ L ∧ e.1 ≠ k) ∨ e = (k, v) := by
  unfold vt_put
  rw [List.mem_append, List.mem_cons, vt_lw_mem, vt_up_mem]
  constructor
  · rintro (⟨h1, h2⟩ | h | ⟨h1, h2⟩)
    · exact Or.inl ⟨h1, by omega⟩
    · exact Or.inr h
    · exact Or.inl ⟨h1, by omega⟩
  · rintro (⟨h1, h2⟩ | h)
    · by_cases q : e.1 < k
      · exact Or.inl ⟨h1, by omega⟩
      · exact Or.inr (Or.inr ⟨h1, by omega⟩)
    · exact Or.inr (Or.inl h)
theorem vt_lw_so {z : Int} {L : List (Nat × Int32)} (h : vt_so L) : vt_so (vt_lw z L) := List.Pairwise.filter _ h
theorem vt_up_so {z : Int} {L : List (Nat × Int32)} (h : vt_so L) : vt_so (vt_up z L) := List.Pairwise.filter _ h
theorem vt_rm_so {k : Nat} {L : List (Nat × Int32)} (h : vt_so L) : vt_so (vt_rm k L) := List.Pairwise.filter _ h
theorem vt_put_so {k : Nat} {v : Int32} {L : List (Nat × Int32)} (h : vt_so L) : vt_so (vt_put k v L) := by
  refine vt_so_mk (vt_lw_so h) (List.pairwise_cons.mpr ⟨fun e he => ?_, vt_up_so h⟩) (fun a ha b hb => ?_)
  · have := (vt_up_mem.mp he).2
    show k < e.1
    omega
  · have h1 := (vt_lw_mem.mp ha).2
    rcases List.mem_cons.mp hb with rfl | hb
    · show a.1 < k
      omega
    · have := (vt_up_mem.mp hb).2
      omega
theorem vt_yt_put {ks vs : Nat → Int32} {k : Nat} {v : Int32} (hk : k < 32) :
    vt_yt (upd ks 0 (ks 0 ||| ((1 : Int32) <<< (nI k &&& 31)))) (upd vs k v) 0 = vt_put k v (vt_yt ks vs 0) := by
  refine vt_so_ext (vt_yt_so _ _ _) (vt_put_so (vt_yt_so _ _ _)) (fun e => ?_)
  rw [vt_put_mem, vt_yt_mem, vt_yt_mem, pk_us]
  have e0 : 32 * 0 + e.1 = e.1 := by omega
  rw [e0]
  constructor
  · rintro ⟨h1, h2, h3⟩
    rw [vt_bt1 _ hk h1, Bool.or_eq_true, decide_eq_true_eq] at h2
    by_cases q : e.1 = k
    · right
      rw [q, pk_us] at h3
      exact Prod.ext q h3
    · left
      rw [pk_un q] at h3
      rcases h2 with h2 | h2
      · exact ⟨⟨h1, h2, h3⟩, q⟩
      · exact absurd h2 q
  · rintro (⟨⟨h1, h2, h3⟩, q⟩ | rfl)
    · refine ⟨h1, ?_, by rw [pk_un q]; exact h3⟩
      rw [vt_bt1 _ hk h1, h2]; rfl
    · refine ⟨hk, ?_, by rw [pk_us]⟩
      rw [vt_bt1 _ hk hk]; simp
theorem vt_yt_keep {ks vs : Nat → Int32} {k : Nat} {v y : Int32} (hk : k < 32) {t : Nat} (ht : t ≠ 0) : vt_yt (upd ks 0 y) (upd vs k v) t = vt_yt ks vs t := by
  refine vt_so_ext (vt_yt_so _ _ _) (vt_yt_so _ _ _) (fun e => ?_)
  rw [vt_yt_mem, vt_yt_mem, pk_un ht, pk_un (by omega)]
theorem vt_bt0 (s : Int32) {k i : Nat} (hk : k < 32) (hi : i < 32) : bt (s &&& (((1 : Int32) <<< (nI k &&& 31)) ^^^ (-1))) i = (bt s i && decide (i ≠ k)) := by
  have h := vt_bt1 0 hk hi
  rw [b_or, b_0, Bool.false_or, Bool.false_or] at h
  rw [b_and, b_xor, h, b_m1 i hi]
  congr 1
  by_cases q : i = k <;> simp [q]
theorem vt_yt_rm {ks vs : Nat → Int32} {k : Nat} (hk : k < 32) :
    vt_yt (upd ks 0 (ks 0 &&& (((1 : Int32) <<< (nI k &&& 31)) ^^^ (-1)))) vs 0 = vt_rm k (vt_yt ks vs 0) := by
  refine vt_so_ext (vt_yt_so _ _ _) (vt_rm_so (vt_yt_so _ _ _)) (fun e => ?_)
  rw [vt_rm_mem, vt_yt_mem, vt_yt_mem, pk_us]
  constructor
  · rintro ⟨h1, h2, h3⟩
    rw [vt_bt0 _ hk h1, Bool.and_eq_true, decide_eq_true_eq] at h2
    exact ⟨⟨h1, h2.1, h3⟩, h2.2⟩
  · rintro ⟨⟨h1, h2, h3⟩, q⟩
    refine ⟨h1, ?_, h3⟩
    rw [vt_bt0 _ hk h1, h2, decide_eq_true q]; rfl
theorem vt_yt_keep' {ks vs : Nat → Int32} {y : Int32} {t : Nat} (ht : t ≠ 0) : vt_yt (upd ks 0 y) vs t = vt_yt ks vs t := by
  refine vt_so_ext (vt_yt_so _ _ _) (vt_yt_so _ _ _) (fun e => ?_)
  rw [vt_yt_mem, vt_yt_mem, pk_un ht]
theorem vt_yt_cp {ks vs vs' : Nat → Int32} {a b : Nat} (h : ∀ j, j < 32 → vs' (32 * b + j) = vs (32 * a + j)) : vt_yt (upd ks b (ks a)) vs' b = vt_yt ks vs a := by
  refine vt_so_ext (vt_yt_so _ _ _) (vt_yt_so _ _ _) (fun e => ?_)
  rw [vt_yt_mem, vt_yt_mem, pk_us]
  constructor
  · rintro ⟨h1, h2, h3⟩; exact ⟨h1, h2, by rw [h3, h _ h1]⟩
  · rintro ⟨h1, h2, h3⟩; exact ⟨h1, h2, by rw [h3, h _ h1]⟩
theorem vt_yt_cp' {ks vs vs' : Nat → Int32} {b t : Nat} {y : Int32} (ht : t ≠ b) (h : ∀ c, (c < 32 * b ∨ 32 * b + 32 ≤ c) → vs' c = vs c) : vt_yt (upd ks b y) vs' t = vt_yt ks vs t := by
  refine vt_so_ext (vt_yt_so _ _ _) (vt_yt_so _ _ _) (fun e => ?_)
  rw [vt_yt_mem, vt_yt_mem, pk_un ht]
  constructor
  · rintro ⟨h1, h2, h3⟩; exact ⟨h1, h2, by rw [h3, h _ (by omega)]⟩
  · rintro ⟨h1, h2, h3⟩; exact ⟨h1, h2, by rw [h3, h _ (by omega)]⟩
theorem vt_yt_lw {ks vs : Nat → Int32} {t i : Nat} (hi : i ≤ 32) : vt_lw (i : Int) (vt_yt ks vs t) = vt_yr (ks t) vs t i 0 := by
  unfold vt_yt
  have h1 : ∀ e ∈ vt_yr (ks t) vs t i 0, (e.1 : Int) < (i : Int) := fun e he => by
    have := ((vt_yr_mem e _ _).mp he).2.1
    omega
  have h2 : ∀ e ∈ vt_yr (ks t) vs t (32 - i) (0 + i), (i : Int) ≤ (e.1 : Int) := fun e he => by
    have := ((vt_yr_mem e _ _).mp he).1
    omega
  have e : vt_yr (ks t) vs t 32 0 = vt_yr (ks t) vs t i 0 ++ vt_yr (ks t) vs t (32 - i) (0 + i) := by
    rw [← vt_yr_add]
    congr 1
    omega
  rw [e, vt_lw_app, vt_lw_all h1, vt_lw_no h2, List.append_nil]
end
section
theorem vt_bit (x : Int32) {k : Nat} (hk : k < 32) : ((x >>> (nI k &&& 31)) &&& 1) = 1 ↔ bt x k = true := by
  have h1 : ∀ j, j < 32 → bt 1 j = decide (j = 0) := by decide +kernel
  have h0 : bt (x >>> (nI k &&& 31)) 0 = bt x k := by
    rw [b_sshr k hk x (by omega), Nat.add_zero, if_pos hk]
  constructor
  · intro h
    have := congrArg (fun y => bt y 0) h
    rw [b_and, h1 0 (by omega), h0] at this
    simpa using this
  · intro h
    refine b_ext (fun i hi => ?_)
    rw [b_and, h1 i hi]
    by_cases q : i = 0
    · subst q; rw [h0, h]; rfl
    · simp [q]
section
variable {ye yg : Int32} {ks vs : Nat → Int32}
theorem vt_yin {post : Int32 → Prop} {t k : Nat} (ht : t < 5) (hk : k < 32) (h1 : bt (ks t) k = true → post 1) (h0 : bt (ks t) k = false → post 0) : wpY_in post (ye, yg, ks, vs) (nI t) (nI k) := by
  unfold wpY_in
  dsimp only
  refine br_f (nI_pos (by omega)) (br_f (nI_pos (by omega)) (br_f (nI_nlt (a := 31) (b := k) (by omega) (by decide)) ⟨vp_in_nI ht (by decide), ?_⟩))
  rw [nI_clamp (by omega)]
  cases hb : bt (ks t) k with
  | true => exact br_t ((vt_bit _ hk).mpr hb) (h1 hb)
  | false => exact br_f (fun q => by rw [(vt_bit _ hk).mp q] at hb; cases hb) (h0 hb)
theorem vt_yinN {post : Int32 → Prop} {k : Int32} (h0 : post 0) : wpY_in post (ye, yg, ks, vs) (-1) k := by
  unfold wpY_in
  dsimp only
  exact br_t vt_neg2 h0
theorem vt_yinG {post : Int32 → Prop} {t : Nat} {p : Int32} (ht : t < 5) (h1 : ∀ k, k < 32 → p = nI k → bt (ks t) k = true → post 1) (h0 : (∀ k, k < 32 → p = nI k → bt (ks t) k = false) → post 0) :
    wpY_in post (ye, yg, ks, vs) (nI t) p := by
  by_cases z : p < 0
  · unfold wpY_in
    dsimp only
    refine br_f (nI_pos (by omega)) (br_t z (h0 (fun k hk e => ?_)))
    rw [e] at z
    exact absurd z (nI_pos (by omega))
  · obtain ⟨j, hj, rfl⟩ := nI_of z
    by_cases z2 : j < 32
    · refine vt_yin ht z2 (h1 j z2 rfl) (fun hb => h0 (fun k hk e => ?_))
      have : j = k := (nI_eq hj (by omega)).mp e
      rw [← this]; exact hb
    · unfold wpY_in
      dsimp only
      refine br_f (nI_pos (by omega)) (br_f z (br_t (nI_lt (a := 31) (b := j) (by omega) hj) (h0 (fun k hk e => ?_))))
      have : j = k := (nI_eq hj (by omega)).mp e
      omega
/-! rank -/
theorem vt_yrkL {post : Int32 → Prop} {t : Nat} {k : Int32} (ht : t < 5) :
    ∀ (d i m n : Nat), i + d = 32 → d < n → post (nI (m + (vt_lw k.toInt (vt_yr (ks t) vs t d i)).length)) → wY_rank_20 post k (nI t) ye yg ks vs n (nI m) (nI i) := by
  intro d
  induction d with
  | zero =>
    intro i m n h hn hp
    obtain ⟨n, rfl⟩ : ∃ m, n = m + 1 := ⟨n - 1, by omega⟩
    simp only [wY_rank_20]
    exact br_t (nI_le (a := 32) (by omega) (by omega)) hp
  | succ d ih =>
    intro i m n h hn hp
    obtain ⟨n, rfl⟩ : ∃ m, n = m + 1 := ⟨n - 1, by omega⟩
    simp only [wY_rank_20, forall_eq, nI_1]
    refine br_f (nI_ge (b := 32) (by omega) (by decide)) ?_
    by_cases z : k.toInt ≤ (i : Int)
    · refine br_t ((vt_leR (by omega)).mpr z) (ih (i + 1) m n (by omega) (by omega) ?_)
      cases hb : bt (ks t) i with
      | false => rw [vt_yr_f hb] at hp; exact hp
      | true =>
        rw [vt_yr_t hb] at hp
        have e : vt_lw k.toInt ((i, vs (32 * t + i)) :: vt_yr (ks t) vs t d (i + 1)) = vt_lw k.toInt (vt_yr (ks t) vs t d (i + 1)) := List.filter_cons_of_neg (fun q => by have := of_decide_eq_true q; dsimp only at this; omega)
        rw [e] at hp
        exact hp
    · refine br_f (fun q => z ((vt_leR (by omega)).mp q)) (vt_yin ht (by omega) (fun hb => ?_) (fun hb => ?_))
      · refine br_f (by decide) (ih (i + 1) (m + 1) n (by omega) (by omega) ?_)
        rw [vt_yr_t hb] at hp
        have e : vt_lw k.toInt ((i, vs (32 * t + i)) :: vt_yr (ks t) vs t d (i + 1)) = (i, vs (32 * t + i)) :: vt_lw k.toInt (vt_yr (ks t) vs t d (i + 1)) := List.filter_cons_of_pos (decide_eq_true (by dsimp only; omega))
        rw [e, List.length_cons] at hp
        have e2 : m + 1 + (vt_lw k.toInt (vt_yr (ks t) vs t d (i + 1))).length = m + ((vt_lw k.toInt (vt_yr (ks t) vs t d (i + 1))).length + 1) := by omega
        rw [e2]
        exact hp
      · refine br_t rfl (ih (i + 1) m n (by omega) (by omega) ?_)
        rw [vt_yr_f hb] at hp
        exact hp
theorem vt_yrkN {post : Int32 → Prop} {k x : Int32} (hp : post x) : ∀ (d i n : Nat), i + d = 32 → d < n → wY_rank_20 post k (-1) ye yg ks vs n x (nI i) := by
  intro d
  induction d with
  | zero =>
    intro i n h hn
    obtain ⟨n, rfl⟩ : ∃ m, n = m + 1 := ⟨n - 1, by omega⟩
    simp only [wY_rank_20]
    exact br_t (nI_le (a := 32) (by omega) (by omega)) hp
  | succ d ih =>
    intro i n h hn
    obtain ⟨n, rfl⟩ : ∃ m, n = m + 1 := ⟨n - 1, by omega⟩
    simp only [wY_rank_20, forall_eq, nI_1]
    exact br_f (nI_ge (b := 32) (by omega) (by decide)) (br_c (fun _ => ih (i + 1) n (by omega) (by omega)) (fun _ => vt_yinN (br_t rfl (ih (i + 1) n (by omega) (by omega)))))
theorem vt_yrank {post : Int32 → Prop} {t : Nat} {p0 k : Int32} (ht : t < 5) (ho : ∀ po : Int32 → Prop, po (nI t) → wpY_table po (ye, yg, ks, vs) p0) (hp : post (nI (vt_lw k.toInt (vt_yt ks vs t)).length)) :
    wpY_rank post (ye, yg, ks, vs) p0 k := by
  unfold wpY_rank
  dsimp only
  refine ho _ (br_t (nI_pos' (by omega)) ⟨33, ?_⟩)
  refine vt_yrkL ht 32 0 0 33 rfl (by omega) ?_
  rw [Nat.zero_add]
  exact hp
theorem vt_yrank0 {post : Int32 → Prop} {p0 k : Int32} (ho : ∀ po : Int32 → Prop, po (-1) → wpY_table po (ye, yg, ks, vs) p0) (hp : post (-1)) :
    wpY_rank post (ye, yg, ks, vs) p0 k := by
  unfold wpY_rank
  dsimp only
  exact ho _ (br_f vt_neg1 ⟨33, vt_yrkN hp 32 0 33 rfl (by omega)⟩)
/-! from -/
theorem vt_yfrL {post : Int32 → Prop} {t : Nat} {k : Int32} (ht : t < 5) :
    ∀ (d i n : Nat), i + d = 32 → d < n → post (vt_ka ((vt_yr (ks t) vs t d i).find? (fun e => decide (k.toInt ≤ (e.1 : Int))))) → wY_from_9 post k (nI t) ye yg ks vs n (nI i) := by
  intro d
  induction d with
  | zero =>
    intro i n h hn hp
    obtain ⟨n, rfl⟩ : ∃ m, n = m + 1 := ⟨n - 1, by omega⟩
    simp only [wY_from_9]
    exact br_t (nI_le (a := 32) (by omega) (by omega)) hp
  | succ d ih =>
    intro i n h hn hp
    obtain ⟨n, rfl⟩ : ∃ m, n = m + 1 := ⟨n - 1, by omega⟩
    simp only [wY_from_9, forall_eq, nI_1]
    refine br_f (nI_ge (b := 32) (by omega) (by decide)) ?_
    by_cases z : (i : Int) < k.toInt
    · refine br_t ((vt_ltL (by omega)).mpr z) (ih (i + 1) n (by omega) (by omega) ?_)
      cases hb : bt (ks t) i with
      | false => rw [vt_yr_f hb] at hp; exact hp
      | true =>
        rw [vt_yr_t hb, List.find?_cons_of_neg (fun q => by have := of_decide_eq_true q; dsimp only at this; omega)] at hp
        exact hp
    · refine br_f (fun q => z ((vt_ltL (by omega)).mp q)) (vt_yin ht (by omega) (fun hb => ?_) (fun hb => ?_))
      · refine br_f (by decide) ?_
        have e : ((i, vs (32 * t + i)) :: vt_yr (ks t) vs t d (i + 1)).find? (fun e => decide (k.toInt ≤ (e.1 : Int))) = some (i, vs (32 * t + i)) :=
          List.find?_cons_of_pos (decide_eq_true (by omega))
        rw [vt_yr_t hb, e] at hp
        exact hp
      · refine br_t rfl (ih (i + 1) n (by omega) (by omega) ?_)
        rw [vt_yr_f hb] at hp
        exact hp
theorem vt_yfrN {post : Int32 → Prop} {k : Int32} (hp : post (-1)) : ∀ (d i n : Nat), i + d = 32 → d < n → wY_from_9 post k (-1) ye yg ks vs n (nI i) := by
  intro d
  induction d with
  | zero =>
    intro i n h hn
    obtain ⟨n, rfl⟩ : ∃ m, n = m + 1 := ⟨n - 1, by omega⟩
    simp only [wY_from_9]
    exact br_t (nI_le (a := 32) (by omega) (by omega)) hp
  | succ d ih =>
    intro i n h hn
    obtain ⟨n, rfl⟩ : ∃ m, n = m + 1 := ⟨n - 1, by omega⟩
    simp only [wY_from_9, forall_eq, nI_1]
    exact br_f (nI_ge (b := 32) (by omega) (by decide)) (br_c (fun _ => ih (i + 1) n (by omega) (by omega)) (fun _ => vt_yinN (br_t rfl (ih (i + 1) n (by omega) (by omega)))))
theorem vt_yfrom {post : Int32 → Prop} {t : Nat} {p0 k : Int32} (ht : t < 5) (ho : ∀ po : Int32 → Prop, po (nI t) → wpY_table po (ye, yg, ks, vs) p0)
    (hp : post (vt_ka ((vt_yt ks vs t).find? (fun e => decide (k.toInt ≤ (e.1 : Int)))))) : wpY_from post (ye, yg, ks, vs) p0 k := by
  unfold wpY_from
  dsimp only
  exact ho _ ⟨33, vt_yfrL ht 32 0 33 rfl (by omega) hp⟩
theorem vt_yfrom0 {post : Int32 → Prop} {p0 k : Int32} (ho : ∀ po : Int32 → Prop, po (-1) → wpY_table po (ye, yg, ks, vs) p0) (hp : post (-1)) : wpY_from post (ye, yg, ks, vs) p0 k := by
  unfold wpY_from
  dsimp only
  exact ho _ ⟨33, vt_yfrN hp 32 0 33 rfl (by omega)⟩
/-! upTo -/
def vt_dn : Nat → Int32
  | 0 => -1
  | j + 1 => nI j
theorem vt_dnm (j : Nat) : nI j + (-1) = vt_dn j := by
  cases j with
  | zero => decide
  | succ j => exact pk_m1 j
def vt_le (z : Int) (L : List (Nat × Int32)) : List (Nat × Int32) := L.filter (fun e => decide ((e.1 : Int) ≤ z))
theorem vt_le_app (z : Int) (A B : List (Nat × Int32)) : vt_le z (A ++ B) = vt_le z A ++ vt_le z B := List.filter_append ..
theorem vt_yr_1 {ks : Int32} {vs : Nat → Int32} {t : Nat} (j : Nat) : vt_yr ks vs t (j + 1) 0 = vt_yr ks vs t j 0 ++ vt_yr ks vs t 1 j := by
  have := vt_yr_add (ks := ks) (vs := vs) (t := t) 1 j 0
  rw [Nat.zero_add] at this
  exact this
theorem vt_yupL {post : Int32 → Prop} {t : Nat} {k : Int32} (ht : t < 5) :
    ∀ (i n : Nat), i ≤ 32 → i < n → post (vt_ka (vt_le k.toInt (vt_yr (ks t) vs t i 0)).getLast?) → wY_upTo_10 post k (nI t) ye yg ks vs n (vt_dn i) := by
  intro i
  induction i with
  | zero =>
    intro n h hn hp
    obtain ⟨n, rfl⟩ : ∃ m, n = m + 1 := ⟨n - 1, by omega⟩
    simp only [wY_upTo_10]
    exact br_t vt_neg2 hp
  | succ j ih =>
    intro n h hn hp
    obtain ⟨n, rfl⟩ : ∃ m, n = m + 1 := ⟨n - 1, by omega⟩
    simp only [wY_upTo_10, forall_eq, vt_dn, vt_dnm]
    rw [vt_yr_1, vt_le_app] at hp
    refine br_f (nI_pos (by omega)) ?_
    by_cases z : k.toInt < (j : Int)
    · refine br_t ((vt_ltR (by omega)).mpr z) (ih n (by omega) (by omega) ?_)
      have e : vt_le k.toInt (vt_yr (ks t) vs t 1 j) = [] := List.filter_eq_nil_iff.mpr (fun e he q => by
        have h1 := ((vt_yr_mem e _ _).mp he).1
        have h2 := of_decide_eq_true q
        omega)
      rw [e, List.append_nil] at hp
      exact hp
    · refine br_f (fun q => z ((vt_ltR (by omega)).mp q)) (vt_yin ht (by omega) (fun hb => ?_) (fun hb => ?_))
      · refine br_f (by decide) ?_
        have e : vt_le k.toInt (vt_yr (ks t) vs t 1 j) = [(j, vs (32 * t + j))] := by
          rw [vt_yr_t hb]
          exact List.filter_cons_of_pos (decide_eq_true (by dsimp only; omega))
        rw [e, List.getLast?_append] at hp
        exact hp
      · refine br_t rfl (ih n (by omega) (by omega) ?_)
        have e : vt_yr (ks t) vs t 1 j = [] := vt_yr_f hb
        rw [e] at hp
        rw [show vt_le k.toInt [] = [] from rfl, List.append_nil] at hp
        exact hp
theorem vt_yupN {post : Int32 → Prop} {k : Int32} (hp : post (-1)) : ∀ (i n : Nat), i ≤ 32 → i < n → wY_upTo_10 post k (-1) ye yg ks vs n (vt_dn i) := by
  intro i
  induction i with
  | zero =>
    intro n h hn
    obtain ⟨n, rfl⟩ : ∃ m, n = m + 1 := ⟨n - 1, by omega⟩
    simp only [wY_upTo_10]
    exact br_t vt_neg2 hp
  | succ j ih =>
    intro n h hn
    obtain ⟨n, rfl⟩ : ∃ m, n = m + 1 := ⟨n - 1, by omega⟩
    simp only [wY_upTo_10, forall_eq, vt_dn, vt_dnm]
    exact br_f (nI_pos (by omega)) (br_c (fun _ => ih n (by omega) (by omega)) (fun _ => vt_yinN (br_t rfl (ih n (by omega) (by omega)))))
theorem vt_yupTo {post : Int32 → Prop} {t : Nat} {p0 k : Int32} (ht : t < 5) (ho : ∀ po : Int32 → Prop, po (nI t) → wpY_table po (ye, yg, ks, vs) p0)
    (hp : post (vt_ka (vt_le k.toInt (vt_yt ks vs t)).getLast?)) : wpY_upTo post (ye, yg, ks, vs) p0 k := by
  unfold wpY_upTo
  dsimp only
  exact ho _ ⟨33, vt_yupL ht 32 33 (Nat.le_refl _) (by omega) hp⟩
theorem vt_yupTo0 {post : Int32 → Prop} {p0 k : Int32} (ho : ∀ po : Int32 → Prop, po (-1) → wpY_table po (ye, yg, ks, vs) p0) (hp : post (-1)) : wpY_upTo post (ye, yg, ks, vs) p0 k := by
  unfold wpY_upTo
  dsimp only
  exact ho _ ⟨33, vt_yupN hp 32 33 (Nat.le_refl _) (by omega)⟩
/-! keyAt -/
def vt_kb (x : Int32) : List (Nat × Int32) → Nat → Int32
  | [], _ => -1
  | e :: L, m => if nI m = x then nI e.1 else vt_kb x L (m + 1)
theorem vt_ykaL {post : Int32 → Prop} {t : Nat} {p0 x : Int32} (ht : t < 5) (ho : ∀ po : Int32 → Prop, po (nI t) → wpY_table po (ye, yg, ks, vs) p0) :
    ∀ (d i n : Nat), i + d = 32 → d < n → post (vt_kb x (vt_yr (ks t) vs t d i) (vt_yr (ks t) vs t i 0).length) → wY_keyAt_9 post p0 x (nI t) ye yg ks vs n (nI i) := by
  intro d
  induction d with
  | zero =>
    intro i n h hn hp
    obtain ⟨n, rfl⟩ : ∃ m, n = m + 1 := ⟨n - 1, by omega⟩
    simp only [wY_keyAt_9]
    exact br_t (nI_le (a := 32) (by omega) (by omega)) hp
  | succ d ih =>
    intro i n h hn hp
    obtain ⟨n, rfl⟩ : ∃ m, n = m + 1 := ⟨n - 1, by omega⟩
    simp only [wY_keyAt_9, forall_eq, nI_1]
    refine br_f (nI_ge (b := 32) (by omega) (by decide)) (vt_yin ht (by omega) (fun hb => ?_) (fun hb => ?_))
    · refine br_f (by decide) (vt_yrank ht ho ?_)
      rw [nI_toInt (by omega), vt_yt_lw (by omega)]
      rw [vt_yr_t hb, vt_kb] at hp
      have e : (vt_yr (ks t) vs t (i + 1) 0).length = (vt_yr (ks t) vs t i 0).length + 1 := by
        rw [vt_yr_1, vt_yr_t hb]
        exact vt_la _ _
      by_cases z : nI (vt_yr (ks t) vs t i 0).length = x
      · rw [if_pos z] at hp
        exact br_t z hp
      · rw [if_neg z, ← e] at hp
        exact br_f z (ih (i + 1) n (by omega) (by omega) hp)
    · have e : vt_yr (ks t) vs t (i + 1) 0 = vt_yr (ks t) vs t i 0 := by
        rw [vt_yr_1, vt_yr_f hb]
        exact List.append_nil _
      rw [vt_yr_f hb, ← e] at hp
      exact br_t rfl (ih (i + 1) n (by omega) (by omega) hp)
theorem vt_ykaN {post : Int32 → Prop} {p0 x : Int32} (hp : post (-1)) : ∀ (d i n : Nat), i + d = 32 → d < n → wY_keyAt_9 post p0 x (-1) ye yg ks vs n (nI i) := by
  intro d
  induction d with
  | zero =>
    intro i n h hn
    obtain ⟨n, rfl⟩ : ∃ m, n = m + 1 := ⟨n - 1, by omega⟩
    simp only [wY_keyAt_9]
    exact br_t (nI_le (a := 32) (by omega) (by omega)) hp
  | succ d ih =>
    intro i n h hn
    obtain ⟨n, rfl⟩ : ∃ m, n = m + 1 := ⟨n - 1, by omega⟩
    simp only [wY_keyAt_9, forall_eq, nI_1]
    exact br_f (nI_ge (b := 32) (by omega) (by decide)) (vt_yinN (br_t rfl (ih (i + 1) n (by omega) (by omega))))
theorem vt_ykeyAt {post : Int32 → Prop} {t : Nat} {p0 x : Int32} (ht : t < 5) (ho : ∀ po : Int32 → Prop, po (nI t) → wpY_table po (ye, yg, ks, vs) p0)
    (hp : post (vt_kb x (vt_yt ks vs t) 0)) : wpY_keyAt post (ye, yg, ks, vs) p0 x := by
  unfold wpY_keyAt
  dsimp only
  exact ho _ ⟨33, vt_ykaL ht ho 32 0 33 rfl (by omega) hp⟩
theorem vt_ykeyAt0 {post : Int32 → Prop} {p0 x : Int32} (ho : ∀ po : Int32 → Prop, po (-1) → wpY_table po (ye, yg, ks, vs) p0) (hp : post (-1)) : wpY_keyAt post (ye, yg, ks, vs) p0 x := by
  unfold wpY_keyAt
  dsimp only
  exact ho _ ⟨33, vt_ykaN hp 32 0 33 rfl (by omega)⟩
end
end
section
theorem vt_x32 (t j : Nat) : 32 * nI t + nI j = nI (32 * t + j) := by
  have e : 32 * nI t = nI (32 * t) := pk_mul 32 t
  rw [e, nI_add]
theorem vt_c32 {t j : Nat} (ht : t < 5) (hj : j < 32) : (32 * nI t + nI j).toNatClampNeg = 32 * t + j := by rw [vt_x32, nI_clamp (by omega)]
theorem vt_i32 {t j : Nat} (ht : t < 5) (hj : j < 32) : vp_in (32 * nI t + nI j) 160 := by rw [vt_x32]; exact vp_in_nI (by omega) (by decide)
section
variable {ye yg : Int32} {ks vs : Nat → Int32}
/-! sum -/
theorem vt_ysmL {post : Int32 → Prop} {t : Nat} {a b : Int32} (ht : t < 5) :
    ∀ (d i : Nat) (s : Int32) (n : Nat), i + d = 32 → d < n → post ((vt_yr (ks t) vs t d i).foldl (vt_sf a.toInt b.toInt) s) → wY_sum_13 post a b (nI t) ye yg ks vs n s (nI i) := by
  intro d
  induction d with
  | zero =>
    intro i s n h hn hp
    obtain ⟨n, rfl⟩ : ∃ m, n = m + 1 := ⟨n - 1, by omega⟩
    simp only [wY_sum_13]
    exact br_t (nI_le (a := 32) (by omega) (by omega)) hp
  | succ d ih =>
    intro i s n h hn hp
    obtain ⟨n, rfl⟩ : ∃ m, n = m + 1 := ⟨n - 1, by omega⟩
    have c := vt_c32 ht (j := i) (by omega)
    have v := vt_i32 ht (j := i) (by omega)
    have hout : ¬ (a.toInt ≤ (i : Int) ∧ (i : Int) ≤ b.toInt) → post ((vt_yr (ks t) vs t d (i + 1)).foldl (vt_sf a.toInt b.toInt) s) := by
      intro hno
      cases hb : bt (ks t) i with
      | false => rw [vt_yr_f hb] at hp; exact hp
      | true =>
        rw [vt_yr_t hb, List.foldl_cons] at hp
        have e : vt_sf a.toInt b.toInt s (i, vs (32 * t + i)) = s := if_neg hno
        rw [e] at hp
        exact hp
    simp only [wY_sum_13, forall_eq, nI_1, c]
    refine br_f (nI_ge (b := 32) (by omega) (by decide)) ?_
    by_cases z1 : (i : Int) < a.toInt
    · exact br_t ((vt_ltL (by omega)).mpr z1) (ih (i + 1) s n (by omega) (by omega) (hout (by omega)))
    · refine br_f (fun q => z1 ((vt_ltL (by omega)).mp q)) ?_
      by_cases z2 : b.toInt < (i : Int)
      · exact br_t ((vt_ltR (by omega)).mpr z2) (ih (i + 1) s n (by omega) (by omega) (hout (by omega)))
      · refine br_f (fun q => z2 ((vt_ltR (by omega)).mp q)) (vt_yin ht (by omega) (fun hb => ?_) (fun hb => ?_))
        · refine br_f (by decide) ⟨v, ih (i + 1) _ n (by omega) (by omega) ?_⟩
          rw [vt_yr_t hb, List.foldl_cons] at hp
          have e : vt_sf a.toInt b.toInt s (i, vs (32 * t + i)) = s + vs (32 * t + i) := if_pos (by dsimp only; omega)
          rw [e] at hp
          exact hp
        · refine br_t rfl (ih (i + 1) s n (by omega) (by omega) ?_)
          rw [vt_yr_f hb] at hp
          exact hp
theorem vt_ysmN {post : Int32 → Prop} {a b s : Int32} (hp : post s) : ∀ (d i n : Nat), i + d = 32 → d < n → wY_sum_13 post a b (-1) ye yg ks vs n s (nI i) := by
  intro d
  induction d with
  | zero =>
    intro i n h hn
    obtain ⟨n, rfl⟩ : ∃ m, n = m + 1 := ⟨n - 1, by omega⟩
    simp only [wY_sum_13]
    exact br_t (nI_le (a := 32) (by omega) (by omega)) hp
  | succ d ih =>
    intro i n h hn
    obtain ⟨n, rfl⟩ : ∃ m, n = m + 1 := ⟨n - 1, by omega⟩
    have hh := ih (i + 1) n (by omega) (by omega)
    simp only [wY_sum_13, forall_eq, nI_1]
    exact br_f (nI_ge (b := 32) (by omega) (by decide)) (br_c (fun _ => hh) (fun _ => br_c (fun _ => hh) (fun _ => vt_yinN (br_t rfl hh))))
theorem vt_ysum {post : Int32 → Prop} {t : Nat} {p0 a b : Int32} (ht : t < 5) (ho : ∀ po : Int32 → Prop, po (nI t) → wpY_table po (ye, yg, ks, vs) p0)
    (hp : post ((vt_yt ks vs t).foldl (vt_sf a.toInt b.toInt) 0)) : wpY_sum post (ye, yg, ks, vs) p0 a b := by
  unfold wpY_sum
  dsimp only
  exact ho _ ⟨33, vt_ysmL ht 32 0 0 33 rfl (by omega) hp⟩
theorem vt_ysum0 {post : Int32 → Prop} {p0 a b : Int32} (ho : ∀ po : Int32 → Prop, po (-1) → wpY_table po (ye, yg, ks, vs) p0) (hp : post 0) : wpY_sum post (ye, yg, ks, vs) p0 a b := by
  unfold wpY_sum
  dsimp only
  exact ho _ ⟨33, vt_ysmN hp 32 0 33 rfl (by omega)⟩
/-! difference -/
def vt_df (ks vs : Nat → Int32) (t u k : Nat) : Prop := ¬ (bt (ks t) k = bt (ks u) k ∧ (bt (ks t) k = true → vs (32 * t + k) = vs (32 * u + k)))
theorem vt_y96a {post : Int32 → Prop} {J : Int32 → Int32 → Prop} {x3 x4 x5 : Int32} {i : Nat} (h : J (x5 ||| ((1 : Int32) <<< (nI i &&& 31))) (nI (i + 1))) : wY_difference_95 post J x3 x4 x5 (nI i) ye yg ks vs := by
  unfold wY_difference_95 wY_difference_96
  exact br_t rfl (nm_e (nm_r (nI_1 i) h))
theorem vt_y96b {post : Int32 → Prop} {J : Int32 → Int32 → Prop} {x3 x4 x5 : Int32} {i : Nat} (h : J x5 (nI (i + 1))) : wY_difference_91 post J x3 x4 x5 (nI i) ye yg ks vs := by
  unfold wY_difference_91 wY_difference_96
  exact br_f (by decide) (nm_r (nI_1 i) h)
theorem vt_ydfL {post : Int32 → Prop} {t u : Nat} (ht : t < 5) (hu : u < 5) :
    ∀ (d i : Nat) (s : Int32) (n : Nat), i + d = 32 → d < n → (∀ s' : Int32, (∀ k, k < 32 → (bt s' k = true ↔ (bt s k = true ∨ (i ≤ k ∧ vt_df ks vs t u k)))) → post s') → wY_difference_19 post (nI t) (nI u) ye yg ks vs n s (nI i) := by
  intro d
  induction d with
  | zero =>
    intro i s n h hn hp
    obtain ⟨n, rfl⟩ : ∃ m, n = m + 1 := ⟨n - 1, by omega⟩
    simp only [wY_difference_19]
    refine br_t (nI_le (a := 32) (by omega) (by omega)) (hp s (fun k hk => ⟨Or.inl, fun q => ?_⟩))
    rcases q with q | ⟨q, _⟩
    · exact q
    · omega
  | succ d ih =>
    intro i s n h hn hp
    obtain ⟨n, rfl⟩ : ∃ m, n = m + 1 := ⟨n - 1, by omega⟩
    have c1 := vt_c32 ht (j := i) (by omega)
    have v1 := vt_i32 ht (j := i) (by omega)
    have c2 := vt_c32 hu (j := i) (by omega)
    have v2 := vt_i32 hu (j := i) (by omega)
    have hd : vt_df ks vs t u i → wY_difference_95 post (wY_difference_19 post (nI t) (nI u) ye yg ks vs n) (nI t) (nI u) s (nI i) ye yg ks vs := by
      intro hdf
      refine vt_y96a (ih (i + 1) _ n (by omega) (by omega) (fun s' hs' => hp s' (fun k hk => ?_)))
      rw [hs' k hk, vt_bt1 s (by omega) hk, Bool.or_eq_true, decide_eq_true_eq]
      constructor
      · rintro ((q | rfl) | ⟨q1, q2⟩)
        · exact Or.inl q
        · exact Or.inr ⟨Nat.le_refl _, hdf⟩
        · exact Or.inr ⟨by omega, q2⟩
      · rintro (q | ⟨q1, q2⟩)
        · exact Or.inl (Or.inl q)
        · by_cases e : k = i
          · exact Or.inl (Or.inr e)
          · exact Or.inr ⟨by omega, q2⟩
    have hsame : ¬ vt_df ks vs t u i → wY_difference_91 post (wY_difference_19 post (nI t) (nI u) ye yg ks vs n) (nI t) (nI u) s (nI i) ye yg ks vs := by
      intro hdf
      refine vt_y96b (ih (i + 1) _ n (by omega) (by omega) (fun s' hs' => hp s' (fun k hk => ?_)))
      rw [hs' k hk]
      constructor
      · rintro (q | ⟨q1, q2⟩)
        · exact Or.inl q
        · exact Or.inr ⟨by omega, q2⟩
      · rintro (q | ⟨q1, q2⟩)
        · exact Or.inl q
        · by_cases e : k = i
          · rw [e] at q2; exact absurd q2 hdf
          · exact Or.inr ⟨by omega, q2⟩
    simp only [wY_difference_19, c1, c2]
    refine br_f (nI_ge (b := 32) (by omega) (by decide)) (br_f (nI_pos (by omega)) (br_f (nI_pos (by omega)) ?_))
    refine vt_yin ht (by omega) (fun hb1 => ?_) (fun hb1 => ?_)
    · refine vt_yin hu (by omega) (fun hb2 => ?_) (fun hb2 => ?_)
      · refine br_t rfl (vt_yin ht (by omega) (fun _ => ?_) (fun hb3 => absurd (hb1.symm.trans hb3) (by decide)))
        refine br_f (by decide) ⟨v1, v2, ?_⟩
        by_cases z : vs (32 * t + i) = vs (32 * u + i)
        · exact br_t z (hsame (fun q => q ⟨by rw [hb1, hb2], fun _ => z⟩))
        · exact br_f z (hd (fun q => z (q.2 hb1)))
      · exact br_f (by decide) (hd (fun q => by have := q.1; rw [hb1, hb2] at this; cases this))
    · refine vt_yin hu (by omega) (fun hb2 => ?_) (fun hb2 => ?_)
      · exact br_f (by decide) (hd (fun q => by have := q.1; rw [hb1, hb2] at this; cases this))
      · refine br_t rfl (vt_yin ht (by omega) (fun hb3 => absurd (hb1.symm.trans hb3) (by decide)) (fun _ => ?_))
        exact br_t rfl (hsame (fun q => q ⟨by rw [hb1, hb2], fun q' => by rw [hb1] at q'; cases q'⟩))
theorem vt_ydiff {post : Int32 → Prop} {t u : Nat} {p0 p1 : Int32} (ht : t < 5) (hu : u < 5) (ho : ∀ po : Int32 → Prop, po (nI t) → wpY_table po (ye, yg, ks, vs) p0) (ho1 : ∀ po : Int32 → Prop, po (nI u) → wpY_table po (ye, yg, ks, vs) p1)
    (hp : ∀ s' : Int32, (∀ k, k < 32 → (bt s' k = true ↔ vt_df ks vs t u k)) → post s') : wpY_difference post (ye, yg, ks, vs) p0 p1 := by
  unfold wpY_difference
  dsimp only
  refine ho _ (ho1 _ ⟨33, vt_ydfL ht hu 32 0 0 33 rfl (by omega) (fun s' hs' => hp s' (fun k hk => ?_))⟩)
  rw [hs' k hk, b_0]
  simp
theorem vt_ydiff0 {post : Int32 → Prop} {x : Int32} {p0 p1 : Int32} (ho : ∀ po : Int32 → Prop, po (-1) → wpY_table po (ye, yg, ks, vs) p0) (ho1 : ∀ po : Int32 → Prop, po x → wpY_table po (ye, yg, ks, vs) p1)
    (hp : post 0) : wpY_difference post (ye, yg, ks, vs) p0 p1 := by
  unfold wpY_difference
  dsimp only
  exact ho _ (ho1 _ ⟨1, br_f (by decide) (br_t vt_neg2 hp)⟩)
theorem vt_ydiff1 {post : Int32 → Prop} {t : Nat} {p0 p1 : Int32} (ht : t < 5) (ho : ∀ po : Int32 → Prop, po (nI t) → wpY_table po (ye, yg, ks, vs) p0) (ho1 : ∀ po : Int32 → Prop, po (-1) → wpY_table po (ye, yg, ks, vs) p1)
    (hp : post 0) : wpY_difference post (ye, yg, ks, vs) p0 p1 := by
  unfold wpY_difference
  dsimp only
  exact ho _ (ho1 _ ⟨1, br_f (by decide) (br_f (nI_pos (by omega)) (br_t vt_neg2 hp))⟩)
/-! copy -/
theorem vt_ycpL {post : SY → Prop} {a b : Nat} {ks' : Nat → Int32} (ha : a < 5) (hb : b < 5) (hab : a ≠ b) :
    ∀ (d i n : Nat) (vs : Nat → Int32), i + d = 32 → d < n →
    (∀ vs', (∀ c, (c < 32 * b ∨ 32 * b + 32 ≤ c) → vs' c = vs c) → (∀ j, j < i → vs' (32 * b + j) = vs (32 * b + j)) → (∀ j, i ≤ j → j < 32 → vs' (32 * b + j) = vs (32 * a + j)) → post (ye, yg, ks', vs')) →
    wY_copy_14 post (nI a) (nI b) ye yg n (nI i) ks' vs := by
  intro d
  induction d with
  | zero =>
    intro i n vs h hn hp
    obtain ⟨n, rfl⟩ : ∃ m, n = m + 1 := ⟨n - 1, by omega⟩
    simp only [wY_copy_14]
    exact br_t (nI_le (a := 32) (by omega) (by omega)) (hp vs (fun _ _ => rfl) (fun _ _ => rfl) (fun j h1 h2 => by omega))
  | succ d ih =>
    intro i n vs h hn hp
    obtain ⟨n, rfl⟩ : ∃ m, n = m + 1 := ⟨n - 1, by omega⟩
    have c1 := vt_c32 ha (j := i) (by omega)
    have v1 := vt_i32 ha (j := i) (by omega)
    have c2 := vt_c32 hb (j := i) (by omega)
    have v2 := vt_i32 hb (j := i) (by omega)
    simp only [wY_copy_14, forall_eq, nI_1, c1, c2]
    refine br_f (nI_ge (b := 32) (by omega) (by decide)) ⟨v1, v2, ih (i + 1) n _ (by omega) (by omega) (fun vs' h1 h2 h3 => hp vs' (fun c hc => ?_) (fun j hj => ?_) (fun j hj hj2 => ?_))⟩
    · rw [h1 c hc, pk_un (by omega)]
    · rw [h2 j (by omega), pk_un (by omega)]
    · by_cases e : j = i
      · subst e; rw [h2 j (by omega), pk_us]
      · rw [h3 j (by omega) hj2, pk_un (by omega)]
theorem vt_ycopy {post : SY → Prop} {a b : Nat} (ha : a < 5) (hb : b < 5) (hab : a ≠ b)
    (hp : ∀ vs', (∀ c, (c < 32 * b ∨ 32 * b + 32 ≤ c) → vs' c = vs c) → (∀ j, j < 32 → vs' (32 * b + j) = vs (32 * a + j)) → post (ye, yg, upd ks b (ks a), vs')) :
    wpY_copy post (ye, yg, ks, vs) (nI a) (nI b) := by
  unfold wpY_copy
  dsimp only
  rw [nI_clamp (n := a) (by omega), nI_clamp (n := b) (by omega)]
  exact ⟨vp_in_nI ha (by decide), vp_in_nI hb (by decide), nm_e ⟨33, vt_ycpL ha hb hab 32 0 33 vs rfl (by omega) (fun vs' h1 h2 h3 => hp vs' h1 (fun j hj => h3 j (Nat.zero_le _) hj))⟩⟩
end
end
section
theorem vt_so_lenA {n : Nat} : ∀ (L : List (Nat × Int32)) (m : Nat), vt_so L → (∀ e ∈ L, m ≤ e.1) → (∀ e ∈ L, e.1 < n) → m ≤ n → L.length + m ≤ n := by
  intro L
  induction L with
  | nil => intro m _ _ _ h; rw [List.length_nil]; omega
  | cons a L ih =>
    intro m hs h1 h2 h3
    obtain ⟨s1, s2⟩ := List.pairwise_cons.mp hs
    have ha := h1 a (by simp)
    have hb := h2 a (by simp)
    have := ih (a.1 + 1) s2 (fun e he => s1 e he) (fun e he => h2 e (List.mem_cons_of_mem _ he)) (by omega)
    rw [List.length_cons]
    omega
theorem vt_so_len {n : Nat} {L : List (Nat × Int32)} (hs : vt_so L) (h : ∀ e ∈ L, e.1 < n) : L.length ≤ n := vt_so_lenA L 0 hs (fun _ _ => Nat.zero_le _) h (Nat.zero_le _)
theorem vt_yt_len (ks vs : Nat → Int32) (t : Nat) : (vt_yt ks vs t).length ≤ 32 := vt_so_len (vt_yt_so ks vs t) (fun e he => ((vt_yt_mem e).mp he).1)
theorem vt_lw_len (z : Int) (L : List (Nat × Int32)) : (vt_lw z L).length ≤ L.length := List.length_filter_le _ _
theorem vt_lw_cut {z : Int} : ∀ {L : List (Nat × Int32)}, vt_so L → ∃ M, L = vt_lw z L ++ M ∧ ∀ e ∈ M, z ≤ (e.1 : Int) := by
  intro L
  induction L with
  | nil => intro _; exact ⟨[], rfl, fun e h => by cases h⟩
  | cons a L ih =>
    intro hs
    obtain ⟨s1, s2⟩ := List.pairwise_cons.mp hs
    by_cases q : (a.1 : Int) < z
    · obtain ⟨M, hM, hM2⟩ := ih s2
      refine ⟨M, ?_, hM2⟩
      have e : vt_lw z (a :: L) = a :: vt_lw z L := List.filter_cons_of_pos (decide_eq_true q)
      rw [e, List.cons_append, ← hM]
    · have hall : ∀ e ∈ a :: L, z ≤ (e.1 : Int) := fun e he => by
        rcases List.mem_cons.mp he with rfl | he
        · omega
        · have := s1 e he; omega
      exact ⟨a :: L, by rw [vt_lw_no hall]; rfl, hall⟩
theorem vt_fromEq {z : Int} {L : List (Nat × Int32)} (hs : vt_so L) : L[(vt_lw z L).length]? = L.find? (fun e => decide (z ≤ (e.1 : Int))) := by
  obtain ⟨M, hM, h2⟩ := vt_lw_cut (z := z) hs
  generalize hA : vt_lw z L = A at hM ⊢
  have h1 : ∀ e ∈ A, (e.1 : Int) < z := fun e he => by rw [← hA] at he; exact (vt_lw_mem.mp he).2
  rw [hM, List.getElem?_append_right (Nat.le_refl _), Nat.sub_self, List.find?_append]
  have e1 : A.find? (fun e => decide (z ≤ (e.1 : Int))) = none := List.find?_eq_none.mpr (fun e he q => by have := h1 e he; have := of_decide_eq_true q; omega)
  rw [e1, Option.none_or]
  cases M with
  | nil => rfl
  | cons b M =>
    have e2 : (b :: M).find? (fun e => decide (z ≤ (e.1 : Int))) = some b := List.find?_cons_of_pos (decide_eq_true (h2 b (by simp)))
    rw [e2]
    rfl
theorem vt_upA {z : Int} {L : List (Nat × Int32)} (hs : vt_so L) {e : Nat × Int32} (he : e ∈ L) (hz : (e.1 : Int) = z) : (vt_le z L).getLast? = some e := by
  obtain ⟨A, B, rfl⟩ := List.append_of_mem he
  obtain ⟨_, s2, _⟩ := vt_so_app hs
  obtain ⟨s3, _⟩ := List.pairwise_cons.mp s2
  have e1 : vt_le z (e :: B) = [e] := by
    have h1 : vt_le z (e :: B) = e :: vt_le z B := List.filter_cons_of_pos (decide_eq_true (by omega))
    have h2 : vt_le z B = [] := List.filter_eq_nil_iff.mpr (fun b hb q => by have := s3 b hb; have := of_decide_eq_true q; omega)
    rw [h1, h2]
  rw [vt_le_app, e1, List.getLast?_append]
  rfl
theorem vt_upB {z : Int} {L : List (Nat × Int32)} (h : ∀ e ∈ L, (e.1 : Int) ≠ z) : vt_le z L = vt_lw z L :=
  List.filter_congr (fun e he => by have := h e he; by_cases q : (e.1 : Int) < z <;> simp [q] <;> omega)
theorem vt_upC {z : Int} {L : List (Nat × Int32)} (hs : vt_so L) {m : Nat} (hm : (vt_lw z L).length = m + 1) : (vt_lw z L).getLast? = L[m]? := by
  obtain ⟨M, hM, _⟩ := vt_lw_cut (z := z) hs
  rw [List.getLast?_eq_getElem?, hm, Nat.add_sub_cancel]
  generalize vt_lw z L = A at hM hm ⊢
  rw [hM, List.getElem?_append_left (by omega)]
theorem vt_upD {z : Int} {L : List (Nat × Int32)} (hm : (vt_lw z L).length = 0) : (vt_lw z L).getLast? = none := by
  rw [List.length_eq_zero_iff.mp hm]
  rfl
theorem vt_kbN {x : Int32} (hx : x < 0) : ∀ (L : List (Nat × Int32)) (m : Nat), m + L.length < 2 ^ 31 → vt_kb x L m = -1 := by
  intro L
  induction L with
  | nil => intro m _; rfl
  | cons e L ih =>
    intro m h
    rw [List.length_cons] at h
    rw [vt_kb, if_neg (fun q => by rw [← q] at hx; exact nI_pos (by omega) hx)]
    exact ih (m + 1) (by omega)
theorem vt_kbP {i : Nat} (hi : i < 2 ^ 31) : ∀ (L : List (Nat × Int32)) (m : Nat), m + L.length < 2 ^ 31 → m ≤ i → vt_kb (nI i) L m = vt_ka L[i - m]? := by
  intro L
  induction L with
  | nil => intro m _ _; rfl
  | cons e L ih =>
    intro m h hm
    rw [List.length_cons] at h
    rw [vt_kb]
    by_cases q : m = i
    · subst q
      rw [if_pos rfl, Nat.sub_self]
      rfl
    · rw [if_neg (fun q' => q ((nI_eq (by omega) hi).mp q')), ih (m + 1) (by omega) (by omega)]
      have e2 : i - m = (i - (m + 1)) + 1 := by omega
      rw [e2, List.getElem?_cons_succ]
theorem vt_kfB : ∀ (L : List (Nat × Int32)) (s : Int32), (∀ e ∈ L, e.1 < 32) → ∀ k, k < 32 → (bt (L.foldl vt_kf s) k = true ↔ (bt s k = true ∨ ∃ e, e ∈ L ∧ e.1 = k)) := by
  intro L
  induction L with
  | nil =>
    intro s _ k _
    constructor
    · exact Or.inl
    · rintro (q | ⟨e, he, _⟩)
      · exact q
      · cases he
  | cons a L ih =>
    intro s h k hk
    rw [List.foldl_cons, ih _ (fun e he => h e (List.mem_cons_of_mem _ he)) k hk]
    unfold vt_kf
    rw [vt_bt1 s (h a (by simp)) hk, Bool.or_eq_true, decide_eq_true_eq]
    constructor
    · rintro ((q | q) | ⟨e, h1, h2⟩)
      · exact Or.inl q
      · exact Or.inr ⟨a, by simp, q.symm⟩
      · exact Or.inr ⟨e, List.mem_cons_of_mem _ h1, h2⟩
    · rintro (q | ⟨e, h1, h2⟩)
      · exact Or.inl (Or.inl q)
      · rcases List.mem_cons.mp h1 with rfl | h1
        · exact Or.inl (Or.inr h2.symm)
        · exact Or.inr ⟨e, h1, h2⟩
theorem vt_iff {a b : Bool} (h : a = true ↔ b = true) : a = b := by
  cases a <;> cases b <;> simp_all
theorem vt_yt_keys (ks vs : Nat → Int32) (t : Nat) : (vt_yt ks vs t).foldl vt_kf 0 = ks t := by
  refine b_ext (fun k hk => vt_iff ?_)
  rw [vt_kfB _ _ (fun e he => ((vt_yt_mem e).mp he).1) k hk, b_0]
  constructor
  · rintro (q | ⟨e, h1, h2⟩)
    · cases q
    · have := ((vt_yt_mem e).mp h1).2.1
      rw [h2] at this
      exact this
  · intro h
    exact Or.inr ⟨(k, vs (32 * t + k)), (vt_yt_mem _).mpr ⟨hk, h, rfl⟩, rfl⟩
theorem vt_dfB {ks vs : Nat → Int32} {t u k : Nat} {s1 s2 : Int32} (hk : k < 32)
    (h1 : bt s1 k = true ↔ ∃ e, e ∈ vt_yt ks vs t ∧ e.1 = k ∧ e ∉ vt_yt ks vs u) (h2 : bt s2 k = true ↔ ∃ e, e ∈ vt_yt ks vs u ∧ e.1 = k ∧ e ∉ vt_yt ks vs t) :
    bt (s1 ||| s2) k = true ↔ vt_df ks vs t u k := by
  rw [b_or, Bool.or_eq_true, h1, h2]
  have ht := vt_yt_mem (ks := ks) (vs := vs) (t := t) (k, vs (32 * t + k))
  have hu := vt_yt_mem (ks := ks) (vs := vs) (t := u) (k, vs (32 * u + k))
  unfold vt_df
  constructor
  · rintro (⟨e, a1, a2, a3⟩ | ⟨e, a1, a2, a3⟩) ⟨q1, q2⟩
    · obtain ⟨b1, b2, b3⟩ := (vt_yt_mem e).mp a1
      rw [a2] at b2 b3
      exact a3 ((vt_yt_mem e).mpr ⟨b1, by rw [a2, ← q1]; exact b2, by rw [b3, a2]; exact q2 b2⟩)
    · obtain ⟨b1, b2, b3⟩ := (vt_yt_mem e).mp a1
      rw [a2] at b2 b3
      have b4 : bt (ks t) k = true := by rw [q1]; exact b2
      exact a3 ((vt_yt_mem e).mpr ⟨b1, by rw [a2]; exact b4, by rw [b3, a2]; exact (q2 b4).symm⟩)
  · intro h
    cases b1 : bt (ks t) k with
    | true =>
      left
      refine ⟨(k, vs (32 * t + k)), ht.mpr ⟨hk, b1, rfl⟩, rfl, fun q => ?_⟩
      obtain ⟨_, c2, c3⟩ := (vt_yt_mem _).mp q
      exact h ⟨by rw [b1]; exact c2.symm, fun _ => c3⟩
    | false =>
      cases b2 : bt (ks u) k with
      | false => exact absurd ⟨by rw [b1, b2], fun q => by rw [b1] at q; cases q⟩ h
      | true =>
        right
        refine ⟨(k, vs (32 * u + k)), hu.mpr ⟨hk, b2, rfl⟩, rfl, fun q => ?_⟩
        have := ((vt_yt_mem _).mp q).2.1
        dsimp only at this
        rw [b1] at this
        cases this
end
section
theorem vt_pred {m : Nat} (h : 1 ≤ m) : nI m - 1 = nI (m - 1) := pk_sub (a := m) (b := 1) h
theorem vt_xm17 (r j : Nat) : nI r * 17 + nI (j + 1) - 1 = nI (r * 17 + j) := by rw [vt_x17]; exact nI_pred (r * 17 + j)
theorem vt_xp17 (r j : Nat) : nI r * 17 + nI j + 1 = nI (r * 17 + j + 1) := by rw [vt_x17, nI_1]
def vt_rel (LU RU : Nat → Nat) (RL : Nat → List Nat) (r : Nat) : Nat → Nat := if RU r = 1 then (fun x => LU x - (RL r).count x) else LU
section
variable {LU : Nat → Nat} {LE : Nat → List (Nat × Int32)} {RU : Nat → Nat} {RL : Nat → List Nat} {w : Nat} {vr : Nat → Nat} {f l : Nat} {fw ff fl : Int32} {aU aS aK aV bU bS bL aR : Nat → Int32}
/-! freshLeaf -/
theorem vt_flL {post : Int32 → SX → Prop} (hU : vt_cU LU 96 aU) (K : ∀ x, x < 96 → LU x = 0 → post (nI x) (fw, ff, fl, upd aU x (nI 1), upd aS x (nI 0), aK, aV, bU, bS, bL, aR)) :
    ∀ d i n, i + d = 96 → (∃ x, i ≤ x ∧ x < 96 ∧ LU x = 0) → d < n → wX_freshLeaf_2 post fw ff fl aU aS aK aV bU bS bL aR n (nI i) := by
  intro d
  induction d with
  | zero =>
    intro i n h1 hx _
    obtain ⟨x, h2, h3, _⟩ := hx
    omega
  | succ d ih =>
    intro i n h1 hx hn
    obtain ⟨n, rfl⟩ : ∃ m, n = m + 1 := ⟨n - 1, by omega⟩
    have c : (nI i).toNatClampNeg = i := nI_clamp (by omega)
    have v : vp_in (nI i) 96 := vt_i96 (by omega)
    have g : ¬ (96 : Int32) ≤ nI i := nI_ge (b := 96) (by omega) (by decide)
    obtain ⟨hu, hu2⟩ := hU i (by omega)
    simp only [wX_freshLeaf_2, c]
    by_cases z : LU i = 0
    · have z' : aU i = 0 := by rw [hu, z, nI_0]
      exact br_f g ⟨v, br_t z' ⟨v, nm_r (congrArg (upd aU i) (vt_n (m := 1) (by decide))) ⟨v, nm_r (congrArg (upd aS i) (vt_n (m := 0) (by decide))) (K i (by omega) z)⟩⟩⟩
    · have z' : ¬ aU i = 0 := by rw [hu]; exact nI_ne0 (by omega) (by omega)
      obtain ⟨x, a, b, e⟩ := hx
      have hxi : x ≠ i := fun q => z (q ▸ e)
      exact br_f g ⟨v, br_f z' (nm_r (nI_1 i) (ih (i + 1) n (by omega) ⟨x, by omega, b, e⟩ (by omega)))⟩
theorem vt_freshLeaf {post : Int32 → SX → Prop} (R : vt_RC LU LE RU RL w vr f l fw ff fl aU aS aK aV bU bS bL aR) (hx : ∃ x, x < 96 ∧ LU x = 0)
    (K : ∀ x, x < 96 → LU x = 0 → ∀ fw' ff' fl' aU' aS' aK' aV' bU' bS' bL' aR', vt_RC (vt_set LU x 1) (vt_set LE x []) RU RL w vr f l fw' ff' fl' aU' aS' aK' aV' bU' bS' bL' aR' → post (nI x) (fw', ff', fl', aU', aS', aK', aV', bU', bS', bL', aR')) : wpX_freshLeaf post (fw, ff, fl, aU, aS, aK, aV, bU, bS, bL, aR) := by
  obtain ⟨e1, e2, e3, hw, hU, hE, hB, hT, hR⟩ := R
  unfold wpX_freshLeaf
  dsimp only
  refine ⟨97, vt_flL hU (fun x h1 h2 => ?_) 96 0 97 rfl (by obtain ⟨x, h1, h2⟩ := hx; exact ⟨x, Nat.zero_le _, h1, h2⟩) (by omega)⟩
  refine K x h1 h2 _ _ _ _ _ _ _ _ _ _ _ ⟨e1, e2, e3, hw, vt_cU_set hU x (by omega), ?_, hB, hT, hR⟩
  refine vt_cE_set hE x [] ⟨pk_us, by simp, fun j e he => by cases he⟩ (fun i hi => pk_un hi) (fun _ _ => rfl) (fun _ _ => rfl)
/-! freshRoot -/
theorem vt_frL {post : Int32 → SX → Prop} (hB : vt_cU RU 8 bU) (K : ∀ x, x < 8 → RU x = 0 → post (nI x) (fw, ff, fl, aU, aS, aK, aV, upd bU x (nI 1), upd bS x (nI 0), bL, aR)) :
    ∀ d i n, i + d = 8 → (∃ x, i ≤ x ∧ x < 8 ∧ RU x = 0) → d < n → wX_freshRoot_2 post fw ff fl aU aS aK aV bU bS bL aR n (nI i) := by
  intro d
  induction d with
  | zero =>
    intro i n h1 hx _
    obtain ⟨x, h2, h3, _⟩ := hx
    omega
  | succ d ih =>
    intro i n h1 hx hn
    obtain ⟨n, rfl⟩ : ∃ m, n = m + 1 := ⟨n - 1, by omega⟩
    have c : (nI i).toNatClampNeg = i := nI_clamp (by omega)
    have v : vp_in (nI i) 8 := vt_i8 (by omega)
    have g : ¬ (8 : Int32) ≤ nI i := nI_ge (b := 8) (by omega) (by decide)
    obtain ⟨hu, hu2⟩ := hB i (by omega)
    simp only [wX_freshRoot_2, c]
    by_cases z : RU i = 0
    · have z' : bU i = 0 := by rw [hu, z, nI_0]
      exact br_f g ⟨v, br_t z' ⟨v, nm_r (congrArg (upd bU i) (vt_n (m := 1) (by decide))) ⟨v, nm_r (congrArg (upd bS i) (vt_n (m := 0) (by decide))) (K i (by omega) z)⟩⟩⟩
    · have z' : ¬ bU i = 0 := by rw [hu]; exact nI_ne0 (by omega) (by omega)
      obtain ⟨x, a, b, e⟩ := hx
      have hxi : x ≠ i := fun q => z (q ▸ e)
      exact br_f g ⟨v, br_f z' (nm_r (nI_1 i) (ih (i + 1) n (by omega) ⟨x, by omega, b, e⟩ (by omega)))⟩
theorem vt_freshRoot {post : Int32 → SX → Prop} (R : vt_RC LU LE RU RL w vr f l fw ff fl aU aS aK aV bU bS bL aR) (hx : ∃ x, x < 8 ∧ RU x = 0)
    (K : ∀ x, x < 8 → RU x = 0 → ∀ fw' ff' fl' aU' aS' aK' aV' bU' bS' bL' aR', vt_RC LU LE (vt_set RU x 1) (vt_set RL x []) w vr f l fw' ff' fl' aU' aS' aK' aV' bU' bS' bL' aR' → post (nI x) (fw', ff', fl', aU', aS', aK', aV', bU', bS', bL', aR')) : wpX_freshRoot post (fw, ff, fl, aU, aS, aK, aV, bU, bS, bL, aR) := by
  obtain ⟨e1, e2, e3, hw, hU, hE, hB, hT, hR⟩ := R
  unfold wpX_freshRoot
  dsimp only
  refine ⟨9, vt_frL hB (fun x h1 h2 => ?_) 8 0 9 rfl (by obtain ⟨x, h1, h2⟩ := hx; exact ⟨x, Nat.zero_le _, h1, h2⟩) (by omega)⟩
  refine K x h1 h2 _ _ _ _ _ _ _ _ _ _ _ ⟨e1, e2, e3, hw, hU, hE, vt_cU_set hB x (by omega), ?_, hR⟩
  refine vt_cT_set hT x [] ⟨pk_us, by simp, fun j e he => by cases he⟩ (fun i hi => pk_un hi) (fun _ _ => rfl)
/-! release -/
theorem vt_rlL {post : SX → Prop} {r : Nat} (hr : r < 8) (hT : vt_rt (RL r) r bS bL) :
    ∀ (L2 L1 : List Nat) (i n : Nat) (LU : Nat → Nat) (aU : Nat → Int32), RL r = L1 ++ L2 → L1.length = i → L2.length < n → vt_cU LU 96 aU → L2.Nodup → (∀ x ∈ L2, 1 ≤ LU x) →
    (∀ aU', vt_cU (fun x => LU x - L2.count x) 96 aU' → post (fw, ff, fl, aU', aS, aK, aV, bU, bS, bL, aR)) → wX_release_22 post (nI r) fw ff fl n (nI i) aU aS aK aV bU bS bL aR := by
  obtain ⟨hS, h17, hG⟩ := hT
  have v := vt_i8 hr
  have cr : (nI r).toNatClampNeg = r := nI_clamp (by omega)
  intro L2
  induction L2 with
  | nil =>
    intro L1 i n LU aU h hi hn hU hd h1 K
    obtain ⟨n, rfl⟩ : ∃ m, n = m + 1 := ⟨n - 1, by omega⟩
    have hl := vt_le0 h
    have g : bS r ≤ nI i := by rw [hS]; exact nI_le (by omega) (by omega)
    simp only [wX_release_22, cr]
    exact ⟨v, br_t g (K aU hU)⟩
  | cons x L2 ih =>
    intro L1 i n LU aU h hi hn hU hd h1 K
    obtain ⟨n, rfl⟩ : ∃ m, n = m + 1 := ⟨n - 1, by omega⟩
    have hl := vt_lt h
    have g : ¬ bS r ≤ nI i := by rw [hS]; exact nI_ge (by omega) (by omega)
    obtain ⟨q1, q2⟩ := hG i x (hi ▸ vt_at' h)
    have c := vt_c17 hr (j := i) (by omega)
    have v2 := vt_i17 hr (j := i) (by omega)
    have cx : (nI x).toNatClampNeg = x := nI_clamp (by omega)
    obtain ⟨hu, hu2⟩ := hU x q2
    have hx1 := h1 x (by simp)
    have hst : vp_nar .byte ((nI (LU x) - 1).toInt8.toInt32) = nI (LU x - 1) := vt_n2 (vt_pred hx1) (by omega)
    obtain ⟨d1, d2⟩ := List.nodup_cons.mp hd
    simp only [wX_release_22, cr, c, q1, cx, hu, hst, forall_eq, nI_1]
    refine ⟨v, br_f g ⟨v2, vt_i96 q2, vt_i96 q2, ?_⟩⟩
    refine ih (L1 ++ [x]) (i + 1) n (vt_set LU x (LU x - 1)) _ (vt_ap h) (by rw [vt_la, hi]) (by simp only [List.length_cons] at hn; omega) (vt_cU_set hU x (by omega)) d2 (fun y hy => ?_) (fun aU' hU' => K aU' ?_)
    · have : y ≠ x := fun q => d1 (q ▸ hy)
      rw [vt_sn this]
      exact h1 y (List.mem_cons_of_mem _ hy)
    · have e : (fun y => LU y - (x :: L2).count y) = (fun y => vt_set LU x (LU x - 1) y - L2.count y) := by
        funext y
        rw [List.count_cons]
        by_cases q : y = x
        · subst q; rw [vt_ss]; simp; omega
        · rw [vt_sn q]
          have : (x == y) = false := by simp; exact fun q' => q q'.symm
          rw [this]; simp
      rw [e]
      exact hU'
theorem vt_release {post : SX → Prop} {r : Nat} (R : vt_RC LU LE RU RL w vr f l fw ff fl aU aS aK aV bU bS bL aR) (hr : r < 8) (h1 : 1 ≤ RU r) (hn : RU r = 1 → (RL r).Nodup ∧ ∀ x ∈ RL r, 1 ≤ LU x)
    (K : ∀ fw' ff' fl' aU' aS' aK' aV' bU' bS' bL' aR', vt_RC (vt_rel LU RU RL r) LE (vt_set RU r (RU r - 1)) RL w vr f l fw' ff' fl' aU' aS' aK' aV' bU' bS' bL' aR' → post (fw', ff', fl', aU', aS', aK', aV', bU', bS', bL', aR')) : wpX_release post (fw, ff, fl, aU, aS, aK, aV, bU, bS, bL, aR) (nI r) := by
  obtain ⟨e1, e2, e3, hw, hU, hE, hB, hT, hR⟩ := R
  have v := vt_i8 hr
  have cr : (nI r).toNatClampNeg = r := nI_clamp (by omega)
  obtain ⟨hb, hb2⟩ := hB r hr
  have hst : vp_nar .byte ((nI (RU r) - 1).toInt8.toInt32) = nI (RU r - 1) := vt_n2 (vt_pred h1) (by omega)
  have hB' : vt_cU (vt_set RU r (RU r - 1)) 8 (upd bU r (nI (RU r - 1))) := vt_cU_set hB r (by omega)
  unfold wpX_release
  dsimp only
  rw [cr, hb, hst]
  refine ⟨v, v, nm_e ⟨v, ?_⟩⟩
  rw [pk_us]
  by_cases z : RU r = 1
  · have z0 : nI (RU r - 1) = 0 := by rw [z]; exact nI_0
    refine br_t z0 ⟨(RL r).length + 1, vt_rlL hr (hT r hr) (RL r) [] 0 _ LU aU rfl rfl (Nat.lt_succ_self _) hU (hn z).1 (hn z).2 (fun aU' hU' => ?_)⟩
    refine K _ _ _ _ _ _ _ _ _ _ _ ⟨e1, e2, e3, hw, ?_, hE, hB', hT, hR⟩
    unfold vt_rel
    rw [if_pos z]
    exact hU'
  · refine br_f (nI_ne0 (by omega) (by omega)) (K _ _ _ _ _ _ _ _ _ _ _ ⟨e1, e2, e3, hw, ?_, hE, hB', hT, hR⟩)
    unfold vt_rel
    rw [if_neg z]
    exact hU
/-! insertLeaf -/
theorem vt_insL {post : SX → Prop} {p x len : Nat} (hw : w < 8) (hx : x < 96) (hb : bS w = nI len) (hlen : len ≤ 16) :
    ∀ (d n : Nat) (bL : Nat → Int32), p + d ≤ 16 → d < n → (∀ j, j < p + d → ∃ y, y < 96 ∧ bL (w * 17 + j) = nI y) →
    (∀ bL', (∀ c, c < w * 17 + p → bL' c = bL c) → (∀ c, w * 17 + p + d < c → bL' c = bL c) → (∀ j, j < d → bL' (w * 17 + p + 1 + j) = bL (w * 17 + p + j)) → bL' (w * 17 + p) = nI x →
      post (nI w, ff, fl, aU, aS, aK, aV, bU, upd bS w (nI (len + 1)), bL', aR)) → wX_insertLeaf_10 post (nI p) (nI x) (nI w) ff fl n (nI (p + d)) aU aS aK aV bU bS bL aR := by
  have v := vt_i8 hw
  have cw : (nI w).toNatClampNeg = w := nI_clamp (by omega)
  have hst : vp_nar .byte ((nI len + 1).toInt8.toInt32) = nI (len + 1) := vt_n2 (nI_1 _) (by omega)
  have hsx : vp_nar .byte (nI x).toInt8.toInt32 = nI x := vt_n2 rfl (by omega)
  intro d
  induction d with
  | zero =>
    intro n bL hp hn hv K
    obtain ⟨n, rfl⟩ : ∃ m, n = m + 1 := ⟨n - 1, by omega⟩
    have c := vt_c17 hw (j := p) (by omega)
    have v2 := vt_i17 hw (j := p) (by omega)
    simp only [wX_insertLeaf_10, cw, c, hb, hst, hsx, forall_eq, Nat.add_zero]
    refine br_t (nI_le (Nat.le_refl _) (by omega)) ⟨v2, v, v, K _ (fun c' h => pk_un (by omega)) (fun c' h => pk_un (by omega)) (fun j h => by omega) pk_us⟩
  | succ d ih =>
    intro n bL hp hn hv K
    obtain ⟨n, rfl⟩ : ∃ m, n = m + 1 := ⟨n - 1, by omega⟩
    have c := vt_c17 hw (j := p + (d + 1)) (by omega)
    have v2 := vt_i17 hw (j := p + (d + 1)) (by omega)
    have em : nI w * 17 + nI (p + (d + 1)) - 1 = nI (w * 17 + (p + d)) := vt_xm17 w (p + d)
    have cm : (nI (w * 17 + (p + d))).toNatClampNeg = w * 17 + (p + d) := nI_clamp (by omega)
    have vm : vp_in (nI (w * 17 + (p + d))) 136 := vp_in_nI (by omega) (by decide)
    have e1 : nI (p + (d + 1)) + (-1) = nI (p + d) := pk_m1 (p + d)
    obtain ⟨y, hy, hq⟩ := hv (p + d) (by omega)
    have hsy := vt_n (m := y) (by omega)
    simp only [wX_insertLeaf_10, c, em, cm, hq, hsy, forall_eq, e1]
    refine br_f (nI_ge (by omega) (by omega)) ⟨vm, v2, ih n _ (by omega) (by omega) (fun j hj => ?_) (fun bL' h1 h2 h3 h4 => K bL' (fun c' h => ?_) (fun c' h => ?_) (fun j h => ?_) h4)⟩
    · rw [pk_un (by omega)]; exact hv j (by omega)
    · rw [h1 c' h, pk_un (by omega)]
    · rw [h2 c' (by omega), pk_un (by omega)]
    · by_cases q : j = d
      · subst q
        have e2 : w * 17 + p + 1 + j = w * 17 + (p + (j + 1)) := by omega
        have e3 : w * 17 + p + j = w * 17 + (p + j) := by omega
        rw [h2 _ (by omega), e2, pk_us, e3, hq]
      · rw [h3 j (by omega), pk_un (by omega)]
theorem vt_insertLeaf {post : SX → Prop} {x : Nat} {P Q : List Nat} {p0 p1 : Int32} (R : vt_RC LU LE RU RL w vr f l fw ff fl aU aS aK aV bU bS bL aR) (hx : x < 96) (hL : RL w = P ++ Q) (hlen : (RL w).length ≤ 16) (e0 : p0 = nI P.length) (e1 : p1 = nI x)
    (K : ∀ fw' ff' fl' aU' aS' aK' aV' bU' bS' bL' aR', vt_RC LU LE RU (vt_set RL w (P ++ x :: Q)) w vr f l fw' ff' fl' aU' aS' aK' aV' bU' bS' bL' aR' → post (fw', ff', fl', aU', aS', aK', aV', bU', bS', bL', aR')) : wpX_insertLeaf post (fw, ff, fl, aU, aS, aK, aV, bU, bS, bL, aR) p0 p1 := by
  obtain ⟨rfl, rfl, rfl, hw, hU, hE, hB, hT, hR⟩ := R
  subst e0 e1
  obtain ⟨hS, _, hG⟩ := hT w hw
  have cw : (nI w).toNatClampNeg = w := nI_clamp (by omega)
  have hPQ : (RL w).length = P.length + Q.length := by rw [hL, List.length_append]
  unfold wpX_insertLeaf
  dsimp only
  rw [cw, hS, hPQ]
  have hcell : ∀ j, j < P.length + Q.length → ∃ y, (P ++ Q)[j]? = some y := fun j hj => ⟨_, List.getElem?_eq_getElem (by rw [List.length_append]; exact hj)⟩
  rw [hL] at hG
  refine ⟨vt_i8 hw, nm_e ⟨Q.length + 1, vt_insL hw hx (hS.trans (by rw [hPQ])) (by omega) Q.length _ bL (by omega) (Nat.lt_succ_self _) (fun j hj => ?_) (fun bL' h1 h2 h3 h4 => ?_)⟩⟩
  · obtain ⟨y, hy⟩ := hcell j hj
    exact ⟨y, (hG j y hy).2, (hG j y hy).1⟩
  · refine K _ _ _ _ _ _ _ _ _ _ _ ⟨rfl, rfl, rfl, hw, hU, hE, hB, ?_, hR⟩
    refine vt_cT_set hT w _ ⟨?_, ?_, fun j y hy => ?_⟩ (fun i hi => pk_un hi) (fun c hc => ?_)
    · rw [pk_us]; congr 1; simp only [List.length_append, List.length_cons]; omega
    · simp only [List.length_append, List.length_cons]; omega
    · have hj := vt_len hy
      simp only [List.length_append, List.length_cons] at hj
      by_cases q : j < P.length
      · rw [List.getElem?_append_left q] at hy
        rw [h1 _ (by omega)]
        exact hG j y (by rw [List.getElem?_append_left q]; exact hy)
      · by_cases q2 : j = P.length
        · subst q2
          rw [vt_at] at hy
          cases hy
          exact ⟨h4, hx⟩
        · obtain ⟨m, rfl⟩ : ∃ m, j = P.length + 1 + m := ⟨j - P.length - 1, by omega⟩
          have e2 : w * 17 + (P.length + 1 + m) = w * 17 + P.length + 1 + m := by omega
          rw [List.getElem?_append_right (by omega), show P.length + 1 + m - P.length = m + 1 from by omega, List.getElem?_cons_succ] at hy
          rw [e2, h3 m (by omega), show w * 17 + P.length + m = w * 17 + (P.length + m) from by omega]
          refine hG _ y ?_
          rw [List.getElem?_append_right (by omega), show P.length + m - P.length = m from by omega]
          exact hy
    · rcases hc with hc | hc
      · exact h1 c (by omega)
      · exact h2 c (by omega)
/-! dropLeaf -/
theorem vt_drpL {post : SX → Prop} {m : Nat} (hw : w < 8) (hb : bS w = nI m) (hm : m ≤ 16) :
    ∀ (d i n : Nat) (bL : Nat → Int32), i + d = m → d < n → (∀ j, j ≤ m → ∃ y, y < 96 ∧ bL (w * 17 + j) = nI y) →
    (∀ bL', (∀ c, c < w * 17 + i → bL' c = bL c) → (∀ c, w * 17 + m ≤ c → bL' c = bL c) → (∀ j, i ≤ j → j < m → bL' (w * 17 + j) = bL (w * 17 + j + 1)) →
      post (nI w, ff, fl, aU, aS, aK, aV, bU, bS, bL', aR)) → wX_dropLeaf_40 post (nI w) ff fl n (nI i) aU aS aK aV bU bS bL aR := by
  have v := vt_i8 hw
  have cw : (nI w).toNatClampNeg = w := nI_clamp (by omega)
  intro d
  induction d with
  | zero =>
    intro i n bL h hn hv K
    obtain ⟨n, rfl⟩ : ∃ m, n = m + 1 := ⟨n - 1, by omega⟩
    simp only [wX_dropLeaf_40, cw, hb]
    exact ⟨v, br_t (nI_le (by omega) (by omega)) (K bL (fun _ _ => rfl) (fun _ _ => rfl) (fun j h1 h2 => by omega))⟩
  | succ d ih =>
    intro i n bL h hn hv K
    obtain ⟨n, rfl⟩ : ∃ m, n = m + 1 := ⟨n - 1, by omega⟩
    have c := vt_c17 hw (j := i) (by omega)
    have v2 := vt_i17 hw (j := i) (by omega)
    have em : nI w * 17 + nI i + 1 = nI (w * 17 + i + 1) := vt_xp17 w i
    have cm : (nI (w * 17 + i + 1)).toNatClampNeg = w * 17 + i + 1 := nI_clamp (by omega)
    have vm : vp_in (nI (w * 17 + i + 1)) 136 := vp_in_nI (by omega) (by decide)
    obtain ⟨y, hy, hq⟩ := hv (i + 1) (by omega)
    rw [← Nat.add_assoc] at hq
    have hsy := vt_n (m := y) (by omega)
    have e1 := nI_1 i
    simp only [wX_dropLeaf_40, cw, hb, c, em, cm, hq, hsy, forall_eq, e1]
    refine ⟨v, br_f (nI_ge (by omega) (by omega)) ⟨vm, v2, ih (i + 1) n _ (by omega) (by omega) (fun j hj => ?_) (fun bL' h1 h2 h3 => K bL' (fun c' h => ?_) (fun c' h => ?_) (fun j hj hj2 => ?_))⟩⟩
    · by_cases q : j = i
      · exact ⟨y, hy, by rw [q, pk_us]⟩
      · rw [pk_un (by omega)]; exact hv j hj
    · rw [h1 c' (by omega), pk_un (by omega)]
    · rw [h2 c' h, pk_un (by omega)]
    · by_cases q : j = i
      · subst q
        rw [h1 _ (by omega), pk_us, hq]
      · rw [h3 j (by omega) hj2, pk_un (by omega)]
theorem vt_dropLeaf {post : SX → Prop} {x : Nat} {P Q : List Nat} {p0 : Int32} (R : vt_RC LU LE RU RL w vr f l fw ff fl aU aS aK aV bU bS bL aR) (hL : RL w = P ++ x :: Q) (hx1 : 1 ≤ LU x) (e0 : p0 = nI P.length)
    (K : ∀ fw' ff' fl' aU' aS' aK' aV' bU' bS' bL' aR', vt_RC (vt_set LU x (LU x - 1)) LE RU (vt_set RL w (P ++ Q)) w vr f l fw' ff' fl' aU' aS' aK' aV' bU' bS' bL' aR' → post (fw', ff', fl', aU', aS', aK', aV', bU', bS', bL', aR')) : wpX_dropLeaf post (fw, ff, fl, aU, aS, aK, aV, bU, bS, bL, aR) p0 := by
  obtain ⟨rfl, rfl, rfl, hw, hU, hE, hB, hT, hR⟩ := R
  subst e0
  obtain ⟨hS, h17, hG⟩ := hT w hw
  have cw : (nI w).toNatClampNeg = w := nI_clamp (by omega)
  have hPQ : (RL w).length = P.length + Q.length + 1 := by rw [hL, List.length_append, List.length_cons]; omega
  obtain ⟨q1, q2⟩ := hG P.length x (vt_at' hL)
  have cx : (nI x).toNatClampNeg = x := nI_clamp (by omega)
  obtain ⟨hu, hu2⟩ := hU x q2
  have hst : vp_nar .byte ((nI (LU x) - 1).toInt8.toInt32) = nI (LU x - 1) := vt_n2 (vt_pred hx1) (by omega)
  have hss : vp_nar .byte ((nI (P.length + Q.length + 1) - 1).toInt8.toInt32) = nI (P.length + Q.length) := vt_n2 (nI_pred _) (by omega)
  unfold wpX_dropLeaf
  dsimp only
  rw [vt_c17 hw (by omega), q1, cx, hu, hst, cw, hS, hPQ, hss]
  rw [hL] at hG
  have hcell : ∀ j, j ≤ P.length + Q.length → ∃ y, (P ++ x :: Q)[j]? = some y := fun j hj => ⟨_, List.getElem?_eq_getElem (by rw [List.length_append, List.length_cons]; omega)⟩
  refine ⟨vt_i17 hw (by omega), vt_i96 q2, vt_i96 q2, nm_e ⟨vt_i8 hw, vt_i8 hw, nm_e ⟨Q.length + 1, ?_⟩⟩⟩
  refine vt_drpL (m := P.length + Q.length) hw pk_us (by omega) Q.length P.length _ bL rfl (Nat.lt_succ_self _) (fun j hj => ?_) (fun bL' h1 h2 h3 => ?_)
  · obtain ⟨y, hy⟩ := hcell j hj
    exact ⟨y, (hG j y hy).2, (hG j y hy).1⟩
  · refine K _ _ _ _ _ _ _ _ _ _ _ ⟨rfl, rfl, rfl, hw, vt_cU_set hU x (by omega), hE, hB, ?_, hR⟩
    refine vt_cT_set hT w _ ⟨?_, ?_, fun j y hy => ?_⟩ (fun i hi => pk_un hi) (fun c hc => ?_)
    · rw [pk_us, List.length_append]
    · rw [List.length_append]; omega
    · have hj := vt_len hy
      rw [List.length_append] at hj
      by_cases q : j < P.length
      · rw [List.getElem?_append_left q] at hy
        rw [h1 _ (by omega)]
        exact hG j y (by rw [List.getElem?_append_left q]; exact hy)
      · rw [h3 j (by omega) hj, Nat.add_assoc]
        refine hG (j + 1) y ?_
        rw [List.getElem?_append_right (by omega)] at hy ⊢
        rw [show j + 1 - P.length = (j - P.length) + 1 from by omega, List.getElem?_cons_succ]
        exact hy
    · rcases hc with hc | hc
      · exact h1 c (by omega)
      · exact h2 c (by omega)
end
end
section
section
variable {LU : Nat → Nat} {LE : Nat → List (Nat × Int32)} {RU : Nat → Nat} {RL : Nat → List Nat} {w : Nat} {vr : Nat → Nat} {f l : Nat} {fw ff fl : Int32} {aU aS aK aV bU bS bL aR : Nat → Int32}
/-! ownRoot -/
theorem vt_orL {post : SX → Prop} {r o : Nat} {L : List Nat} (ho : o < 8) (hr : r < 8) (hor : o ≠ r) (hb : bS o = nI L.length) (h17 : L.length ≤ 17) :
    ∀ (L2 L1 : List Nat) (i n : Nat) (LU : Nat → Nat) (aU bL : Nat → Int32), L = L1 ++ L2 → L1.length = i → L2.length < n → vt_cU LU 96 aU → (∀ x, x < 96 → LU x + L2.count x < 100) →
    (∀ j x, L[j]? = some x → bL (o * 17 + j) = nI x ∧ x < 96) → (∀ j x, L1[j]? = some x → bL (r * 17 + j) = nI x) →
    (∀ n aU' bL', vt_cU (fun x => LU x + L2.count x) 96 aU' → (∀ c, (c < r * 17 ∨ r * 17 + 17 ≤ c) → bL' c = bL c) → (∀ j x, L[j]? = some x → bL' (r * 17 + j) = nI x) →
      wX_ownRoot_38 post (nI o) (nI r) fw ff fl (n + 1) (nI L.length) aU' aS aK aV bU bS bL' aR) →
    wX_ownRoot_38 post (nI o) (nI r) fw ff fl n (nI i) aU aS aK aV bU bS bL aR := by
  have v := vt_i8 ho
  have cr : (nI o).toNatClampNeg = o := nI_clamp (by omega)
  intro L2
  induction L2 with
  | nil =>
    intro L1 i n LU aU bL h hi hn hU hc hG h1 K
    obtain ⟨n, rfl⟩ : ∃ m, n = m + 1 := ⟨n - 1, by omega⟩
    have hl := vt_le0 h
    rw [List.append_nil] at h
    have e : i = L.length := by omega
    rw [e]
    exact K n aU bL hU (fun _ _ => rfl) (by rw [h]; exact h1)
  | cons x L2 ih =>
    intro L1 i n LU aU bL h hi hn hU hc hG h1 K
    obtain ⟨n, rfl⟩ : ∃ m, n = m + 1 := ⟨n - 1, by omega⟩
    have hl := vt_lt h
    have g : ¬ nI L.length ≤ nI i := nI_ge (by omega) (by omega)
    obtain ⟨q1, q2⟩ := hG i x (hi ▸ vt_at' h)
    have c1 := vt_c17 ho (j := i) (by omega)
    have v1 := vt_i17 ho (j := i) (by omega)
    have c2 := vt_c17 hr (j := i) (by omega)
    have v2 := vt_i17 hr (j := i) (by omega)
    have cx : (nI x).toNatClampNeg = x := nI_clamp (by omega)
    obtain ⟨hu, hu2⟩ := hU x q2
    have hcx := hc x q2
    have hcc : (x :: L2).count x = L2.count x + 1 := List.count_cons_self
    have hst : vp_nar .byte ((nI (LU x + 1)).toInt8.toInt32) = nI (LU x + 1) := vt_n2 rfl (by omega)
    have hsx : vp_nar .byte (nI x).toInt8.toInt32 = nI x := vt_n2 rfl (by omega)
    simp only [wX_ownRoot_38, cr, hb, c1, c2, q1, forall_eq, cx, hu, hst, hsx, nI_1]
    have ef : (fun y => vt_set LU x (LU x + 1) y + L2.count y) = (fun y => LU y + (x :: L2).count y) := by
      funext y
      rw [List.count_cons]
      by_cases q : y = x
      · subst q; rw [vt_ss]; simp; omega
      · rw [vt_sn q]
        have : (x == y) = false := by simp; exact fun q' => q q'.symm
        rw [this]; simp
    refine ⟨v, br_f g ⟨v1, v2, vt_i96 q2, vt_i96 q2, ?_⟩⟩
    refine ih (L1 ++ [x]) (i + 1) n (vt_set LU x (LU x + 1)) _ _ (vt_ap h) (by rw [vt_la, hi]) (by simp only [List.length_cons] at hn; omega) (vt_cU_set hU x (by omega)) (fun y hy => ?_) (fun j y hy => ?_) (fun j y hy => ?_) (fun n' aU' bL' k1 k2 k3 => K n' aU' bL' (ef ▸ k1) (fun c hcc => ?_) k3)
    · have := congrFun ef y
      rw [this]
      exact hc y hy
    · have hj := vt_len hy
      rw [pk_un (by omega)]
      exact hG j y hy
    · have hj := vt_len hy
      rw [vt_la] at hj
      by_cases q : j = i
      · subst q
        rw [pk_us]
        rw [← hi, vt_at] at hy
        cases hy
        rfl
      · rw [pk_un (by omega)]
        rw [List.getElem?_append_left (by omega)] at hy
        exact h1 j y hy
    · rw [k2 c hcc, pk_un (by omega)]
theorem vt_ownRoot {post : SX → Prop} (R : vt_RC LU LE RU RL w vr f l fw ff fl aU aS aK aV bU bS bL aR) (h1 : 1 ≤ RU w) (hx : RU w ≠ 1 → ∃ x, x < 8 ∧ RU x = 0) (hc : RU w ≠ 1 → ∀ x, x < 96 → LU x + (RL w).count x < 100)
    (K1 : RU w = 1 → post (fw, ff, fl, aU, aS, aK, aV, bU, bS, bL, aR))
    (K2 : RU w ≠ 1 → ∀ r, r < 8 → RU r = 0 → ∀ fw' ff' fl' aU' aS' aK' aV' bU' bS' bL' aR', vt_RC (fun x => LU x + (RL w).count x) LE (vt_set (vt_set RU r 1) w (RU w - 1)) (vt_set RL r (RL w)) r vr f l fw' ff' fl' aU' aS' aK' aV' bU' bS' bL' aR' → post (fw', ff', fl', aU', aS', aK', aV', bU', bS', bL', aR')) : wpX_ownRoot post (fw, ff, fl, aU, aS, aK, aV, bU, bS, bL, aR) := by
  have R0 := R
  obtain ⟨rfl, rfl, rfl, hw, hU, hE, hB, hT, hR⟩ := R
  have cw : (nI w).toNatClampNeg = w := nI_clamp (by omega)
  obtain ⟨hb, hb2⟩ := hB w hw
  unfold wpX_ownRoot
  dsimp only
  rw [cw, hb]
  refine ⟨vt_i8 hw, ?_⟩
  by_cases z : RU w = 1
  · exact br_t (congrArg nI z) (K1 z)
  · refine br_f (fun q => z ((nI_eq (b := 1) (by omega) (by decide)).mp q)) ?_
    refine vt_freshRoot R0 (hx z) (fun r hr hr0 => ?_)
    intro fw' ff' fl' aU' aS' aK' aV' bU' bS' bL' aR' R'
    obtain ⟨rfl, rfl, rfl, hw', hU', hE', hB', hT', hR'⟩ := R'
    have hrw : w ≠ r := fun q => by rw [q] at h1; omega
    have cr : (nI r).toNatClampNeg = r := nI_clamp (by omega)
    obtain ⟨tS, t17, tG⟩ := hT' w hw
    rw [vt_sn hrw] at tS t17 tG
    dsimp only
    rw [cr, tS, vt_n (by omega)]
    refine ⟨vt_i8 hw, vt_i8 hr, nm_e ⟨(RL w).length + 1, ?_⟩⟩
    refine vt_orL (L := RL w) hw hr hrw (by rw [pk_un hrw]; exact tS) t17 (RL w) [] 0 _ LU aU' bL' rfl rfl (Nat.lt_succ_self _) hU' (hc z) tG (fun j x hy => by cases hy) (fun n aU2 bL2 k1 k2 k3 => ?_)
    have hle : upd bS' r (nI (RL w).length) w ≤ nI (RL w).length := by rw [pk_un hrw, tS]; exact nI_le (Nat.le_refl _) (by omega)
    simp only [wX_ownRoot_38, cw]
    refine ⟨vt_i8 hw, br_t hle ?_⟩
    have R2 : vt_RC (fun x => LU x + (RL w).count x) LE (vt_set RU r 1) (vt_set RL r (RL w)) w vr f l (nI w) (nI f) (nI l) aU2 aS' aK' aV' bU' (upd bS' r (nI (RL w).length)) bL2 aR' := by
      refine ⟨rfl, rfl, rfl, hw, k1, hE', hB', ?_, hR'⟩
      rw [← vt_s2 RL r [] (RL w)]
      exact vt_cT_set hT' r (RL w) ⟨pk_us, t17, fun j x hy => ⟨k3 j x hy, (tG j x hy).2⟩⟩ (fun i hi => pk_un hi) k2
    have e2 : vt_set RU r 1 w = RU w := vt_sn hrw
    refine vt_release R2 hw (by rw [e2]; exact h1) (fun q => absurd (e2 ▸ q) z) ?_
    intro fw'' ff'' fl'' aU'' aS'' aK'' aV'' bU'' bS'' bL'' aR'' R''
    dsimp only
    have e3 : vt_rel (fun x => LU x + (RL w).count x) (vt_set RU r 1) (vt_set RL r (RL w)) w = fun x => LU x + (RL w).count x := by
      unfold vt_rel
      rw [if_neg (by rw [e2]; exact z)]
    rw [e2, e3] at R''
    obtain ⟨rfl, rfl, rfl, p1, p2, p3, p4, p5, p6⟩ := R''
    exact K2 z r hr hr0 _ _ _ _ _ _ _ _ _ _ _ ⟨rfl, rfl, rfl, hr, p2, p3, p4, p5, p6⟩
/-! ownLeaf -/
theorem vt_olL {post : Int32 → SX → Prop} {p o x : Nat} {es : List (Nat × Int32)} (ho : o < 96) (hx : x < 96) (hox : o ≠ x) (hs : aS o = nI es.length) (h5 : es.length ≤ 5) :
    ∀ (e2 e1 : List (Nat × Int32)) (i n : Nat) (aK aV : Nat → Int32), es = e1 ++ e2 → e1.length = i → e2.length < n →
    (∀ j e, es[j]? = some e → aK (o * 5 + j) = nI e.1 ∧ aV (o * 5 + j) = e.2 ∧ e.1 < 32) → (∀ j e, e1[j]? = some e → aK (x * 5 + j) = nI e.1 ∧ aV (x * 5 + j) = e.2) →
    (∀ n aK' aV', (∀ c, (c < x * 5 ∨ x * 5 + 5 ≤ c) → aK' c = aK c ∧ aV' c = aV c) → (∀ j e, es[j]? = some e → aK' (x * 5 + j) = nI e.1 ∧ aV' (x * 5 + j) = e.2) →
      wX_ownLeaf_47 post (nI p) (nI o) (nI x) (n + 1) (nI es.length) fw ff fl aU aS aK' aV' bU bS bL aR) →
    wX_ownLeaf_47 post (nI p) (nI o) (nI x) n (nI i) fw ff fl aU aS aK aV bU bS bL aR := by
  have v := vt_i96 ho
  have co : (nI o).toNatClampNeg = o := nI_clamp (by omega)
  intro e2
  induction e2 with
  | nil =>
    intro e1 i n aK aV h hi hn hG h1 K
    obtain ⟨n, rfl⟩ : ∃ m, n = m + 1 := ⟨n - 1, by omega⟩
    have hl := vt_le0 h
    rw [List.append_nil] at h
    have e : i = es.length := by omega
    rw [e]
    exact K n aK aV (fun _ _ => ⟨rfl, rfl⟩) (by rw [h]; exact h1)
  | cons e e2 ih =>
    intro e1 i n aK aV h hi hn hG h1 K
    obtain ⟨n, rfl⟩ : ∃ m, n = m + 1 := ⟨n - 1, by omega⟩
    have hl := vt_lt h
    have g : ¬ nI es.length ≤ nI i := nI_ge (by omega) (by omega)
    obtain ⟨q1, q2, q3⟩ := hG i e (hi ▸ vt_at' h)
    simp only [wX_ownLeaf_47, co, hs]
    refine ⟨v, br_f g ?_⟩
    refine vt_copy o i x i e.1 ho (by omega) hx (by omega) rfl rfl rfl rfl q1 (by omega) ?_
    dsimp only
    refine nm_r (nI_1 i) ?_
    refine ih (e1 ++ [e]) (i + 1) n _ _ (vt_ap h) (by rw [vt_la, hi]) (by simp only [List.length_cons] at hn; omega) (fun j e' hy => ?_) (fun j e' hy => ?_) (fun n' aK' aV' k1 k2 => K n' aK' aV' (fun c hc => ?_) k2)
    · have hj := vt_len hy
      rw [pk_un (by omega), pk_un (by omega)]
      exact hG j e' hy
    · have hj := vt_len hy
      rw [vt_la] at hj
      by_cases q : j = i
      · subst q
        rw [pk_us, pk_us, q2]
        rw [← hi, vt_at] at hy
        cases hy
        exact ⟨rfl, rfl⟩
      · rw [pk_un (by omega), pk_un (by omega)]
        rw [List.getElem?_append_left (by omega)] at hy
        exact h1 j e' hy
    · rw [(k1 c hc).1, (k1 c hc).2, pk_un (by omega), pk_un (by omega)]
      exact ⟨rfl, rfl⟩
theorem vt_ownLeaf {post : Int32 → SX → Prop} {o : Nat} {P Q : List Nat} {p0 : Int32} (R : vt_RC LU LE RU RL w vr f l fw ff fl aU aS aK aV bU bS bL aR) (hL : RL w = P ++ o :: Q) (e0 : p0 = nI P.length) (h1 : 1 ≤ LU o) (hx : LU o ≠ 1 → ∃ x, x < 96 ∧ LU x = 0)
    (K1 : o < 96 → LU o = 1 → post (nI o) (fw, ff, fl, aU, aS, aK, aV, bU, bS, bL, aR))
    (K2 : o < 96 → LU o ≠ 1 → ∀ x, x < 96 → LU x = 0 → ∀ fw' ff' fl' aU' aS' aK' aV' bU' bS' bL' aR', vt_RC (vt_set (vt_set LU x 1) o (LU o - 1)) (vt_set LE x (LE o)) RU (vt_set RL w (P ++ x :: Q)) w vr f l fw' ff' fl' aU' aS' aK' aV' bU' bS' bL' aR' → post (nI x) (fw', ff', fl', aU', aS', aK', aV', bU', bS', bL', aR')) : wpX_ownLeaf post (fw, ff, fl, aU, aS, aK, aV, bU, bS, bL, aR) p0 := by
  have R0 := R
  obtain ⟨rfl, rfl, rfl, hw, hU, hE, hB, hT, hR⟩ := R
  subst e0
  obtain ⟨tS, t17, tG⟩ := hT w hw
  have hlP := vt_lt hL
  obtain ⟨q1, ho⟩ := tG P.length o (vt_at' hL)
  have co : (nI o).toNatClampNeg = o := nI_clamp (by omega)
  obtain ⟨hu, hu2⟩ := hU o ho
  unfold wpX_ownLeaf
  dsimp only
  rw [vt_c17 hw (by omega), q1]
  refine ⟨vt_i17 hw (by omega), nm_e ⟨vt_i96 ho, ?_⟩⟩
  rw [co, hu]
  by_cases z : LU o = 1
  · exact br_t (congrArg nI z) (K1 ho z)
  · refine br_f (fun q => z ((nI_eq (b := 1) (by omega) (by decide)).mp q)) ?_
    refine vt_freshLeaf R0 (hx z) (fun x hx hx0 => ?_)
    intro fw' ff' fl' aU' aS' aK' aV' bU' bS' bL' aR' R'
    obtain ⟨rfl, rfl, rfl, hw', hU', hE', hB', hT', hR'⟩ := R'
    have hox : o ≠ x := fun q => by rw [q] at h1; omega
    have cx : (nI x).toNatClampNeg = x := nI_clamp (by omega)
    obtain ⟨lS, l5, lG⟩ := hE' o ho
    rw [vt_sn hox] at lS l5 lG
    dsimp only
    rw [cx, lS, vt_n (by omega)]
    refine ⟨vt_i96 ho, vt_i96 hx, nm_e ⟨(LE o).length + 1, ?_⟩⟩
    refine vt_olL (es := LE o) ho hx hox (by rw [pk_un hox]; exact lS) l5 (LE o) [] 0 _ aK' aV' rfl rfl (Nat.lt_succ_self _) lG (fun j e hy => by cases hy) (fun n aK2 aV2 k1 k2 => ?_)
    have hle : upd aS' x (nI (LE o).length) o ≤ nI (LE o).length := by rw [pk_un hox, lS]; exact nI_le (Nat.le_refl _) (by omega)
    obtain ⟨hu', hu2'⟩ := hU' o ho
    rw [vt_sn hox] at hu'
    have hst : vp_nar .byte ((nI (LU o) - 1).toInt8.toInt32) = nI (LU o - 1) := vt_n2 (vt_pred h1) (by omega)
    have hsx : vp_nar .byte (nI x).toInt8.toInt32 = nI x := vt_n2 rfl (by omega)
    have c1 := vt_c17 hw (j := P.length) (by omega)
    simp only [wX_ownLeaf_47, co, hu', hst, hsx, c1, forall_eq]
    refine ⟨vt_i96 ho, br_t hle ⟨vt_i96 ho, vt_i96 ho, vt_i17 hw (by omega), ?_⟩⟩
    refine K2 ho z x hx hx0 _ _ _ _ _ _ _ _ _ _ _ ⟨rfl, rfl, rfl, hw, vt_cU_set hU' o (by omega), ?_, hB', ?_, hR'⟩
    · rw [← vt_s2 LE x [] (LE o)]
      exact vt_cE_set hE' x (LE o) ⟨pk_us, l5, fun j e hy => ⟨(k2 j e hy).1, (k2 j e hy).2, (lG j e hy).2.2⟩⟩ (fun i hi => pk_un hi) (fun c hc => (k1 c hc).1) (fun c hc => (k1 c hc).2)
    · obtain ⟨tS', t17', tG'⟩ := hT' w hw
      rw [hL] at tS' t17' tG'
      refine vt_cT_set hT' w (P ++ x :: Q) ⟨?_, ?_, fun j y hy => ?_⟩ (fun i hi => rfl) (fun c hc => pk_un (by omega))
      · rw [tS']; congr 1; simp only [List.length_append, List.length_cons]
      · simp only [List.length_append, List.length_cons] at t17' ⊢; exact t17'
      · by_cases q : j = P.length
        · subst q
          rw [vt_at] at hy
          cases hy
          exact ⟨pk_us, hx⟩
        · rw [pk_un (by omega)]
          refine tG' j y ?_
          by_cases q2 : j < P.length
          · rw [List.getElem?_append_left q2] at hy ⊢
            exact hy
          · obtain ⟨m, rfl⟩ : ∃ m, j = P.length + (m + 1) := ⟨j - P.length - 1, by omega⟩
            rw [List.getElem?_append_right (by omega), show P.length + (m + 1) - P.length = m + 1 from by omega, List.getElem?_cons_succ] at hy ⊢
            exact hy
end
end
section
/-! counts -/
def vt_cn (P : Nat → Bool) : Nat → Nat
  | 0 => 0
  | n + 1 => vt_cn P n + (if P n = true then 1 else 0)
theorem vt_cn_eq {P Q : Nat → Bool} : ∀ {n : Nat}, (∀ r, r < n → P r = Q r) → vt_cn P n = vt_cn Q n := by
  intro n
  induction n with
  | zero => intro _; rfl
  | succ n ih => intro h; rw [vt_cn, vt_cn, ih (fun r hr => h r (by omega)), h n (by omega)]
theorem vt_cn_up {P Q : Nat → Bool} {a : Nat} (hp : P a = false) (hq : Q a = true) : ∀ {n : Nat}, a < n → (∀ r, r < n → r ≠ a → P r = Q r) → vt_cn Q n = vt_cn P n + 1 := by
  intro n
  induction n with
  | zero => intro h; omega
  | succ n ih =>
    intro ha h
    rw [vt_cn, vt_cn]
    by_cases e : a = n
    · subst e
      rw [hp, hq, vt_cn_eq (P := Q) (Q := P) (fun r hr => (h r (by omega) (by omega)).symm)]
      rfl
    · rw [ih (by omega) (fun r hr hne => h r (by omega) hne), h n (by omega) (fun q => e q.symm)]
      omega
theorem vt_cn_le (P : Nat → Bool) : ∀ n, vt_cn P n ≤ n := by
  intro n
  induction n with
  | zero => exact Nat.le_refl _
  | succ n ih => rw [vt_cn]; split <;> omega
theorem vt_cn_pos {P : Nat → Bool} {a : Nat} (hp : P a = true) : ∀ {n : Nat}, a < n → 1 ≤ vt_cn P n := by
  intro n
  induction n with
  | zero => intro h; omega
  | succ n ih =>
    intro ha
    rw [vt_cn]
    by_cases e : a = n
    · subst e; rw [if_pos hp]; omega
    · have := ih (by omega); omega
theorem vt_cn_z {P : Nat → Bool} {n r : Nat} (h : vt_cn P n = 0) (hr : r < n) : P r = false := by
  cases hp : P r with
  | false => rfl
  | true => have := vt_cn_pos hp hr; omega
theorem vt_cn_1 {P : Nat → Bool} {n a r : Nat} (h : vt_cn P n = 1) (ha : a < n) (hp : P a = true) (hr : r < n) (hne : r ≠ a) : P r = false := by
  cases hq : P r with
  | false => rfl
  | true =>
    have e := vt_cn_up (P := fun q => if q = a then false else P q) (Q := P) (a := a) (by simp) hp ha (fun q _ hqa => by simp [hqa])
    have := vt_cn_pos (P := fun q => if q = a then false else P q) (a := r) (by simp [hne, hq]) hr
    omega
theorem vt_pig : ∀ (A B : List Nat), A.Nodup → (∀ x ∈ A, x ∈ B) → A.length ≤ B.length := by
  intro A
  induction A with
  | nil => intro B _ _; exact Nat.zero_le _
  | cons a A ih =>
    intro B hd h
    obtain ⟨d1, d2⟩ := List.nodup_cons.mp hd
    have ha := h a (by simp)
    have := ih (B.erase a) d2 (fun x hx => by
      have hxa : x ≠ a := fun q => d1 (q ▸ hx)
      exact (List.mem_erase_of_ne hxa).mpr (h x (List.mem_cons_of_mem _ hx)))
    rw [List.length_erase_of_mem ha] at this
    have := List.length_pos_of_mem ha
    rw [List.length_cons]
    omega
theorem vt_fmlen {RL : Nat → List Nat} : ∀ (T : List Nat), (∀ r ∈ T, (RL r).length ≤ 17) → (T.flatMap RL).length ≤ 17 * T.length := by
  intro T
  induction T with
  | nil => intro _; exact Nat.zero_le _
  | cons a T ih =>
    intro h
    have h1 := h a (by simp)
    have h2 := ih (fun r hr => h r (List.mem_cons_of_mem _ hr))
    rw [List.flatMap_cons, List.length_append, List.length_cons]
    omega
/-! the invariants -/
def vt_hs (RU : Nat → Nat) (RL : Nat → List Nat) (x : Nat) : Nat → Bool := fun r => decide (RU r ≠ 0 ∧ x ∈ RL r)
theorem vt_hs_t {RU : Nat → Nat} {RL : Nat → List Nat} {x r : Nat} (h1 : RU r ≠ 0) (h2 : x ∈ RL r) : vt_hs RU RL x r = true := decide_eq_true ⟨h1, h2⟩
theorem vt_hs_f {RU : Nat → Nat} {RL : Nat → List Nat} {x r : Nat} (h : vt_hs RU RL x r = false) (h1 : RU r ≠ 0) : x ∉ RL r := fun q => by rw [vt_hs_t h1 q] at h; cases h
theorem vt_hs_n {RU : Nat → Nat} {RL : Nat → List Nat} {x r : Nat} (h : x ∉ RL r) : vt_hs RU RL x r = false := decide_eq_false (fun q => h q.2)
theorem vt_hs_0 {RU : Nat → Nat} {RL : Nat → List Nat} {x r : Nat} (h : RU r = 0) : vt_hs RU RL x r = false := decide_eq_false (fun q => q.1 h)
theorem vt_hs_e {RU RU' : Nat → Nat} {RL RL' : Nat → List Nat} {x r : Nat} (h1 : RU r = 0 ↔ RU' r = 0) (h2 : x ∈ RL r ↔ x ∈ RL' r) : vt_hs RU RL x r = vt_hs RU' RL' x r := by
  unfold vt_hs
  rw [decide_eq_decide, h2, Ne, Ne, h1]
def vt_LI (LU RU : Nat → Nat) (RL : Nat → List Nat) : Prop := ∀ x, x < 96 → LU x = vt_cn (vt_hs RU RL x) 8
def vt_TI (RU : Nat → Nat) (T : List Nat) : Prop := ∀ r, r < 8 → RU r = T.count r
theorem vt_TI_in {RU : Nat → Nat} {T : List Nat} (h : vt_TI RU T) {r : Nat} (hr : r < 8) : RU r ≠ 0 ↔ r ∈ T := by
  rw [h r hr, ← List.count_pos_iff]
  omega
theorem vt_LI8 {LU RU : Nat → Nat} {RL : Nat → List Nat} (h : vt_LI LU RU RL) {x : Nat} (hx : x < 96) : LU x ≤ 8 := by rw [h x hx]; exact vt_cn_le _ _
theorem vt_LI1 {LU RU : Nat → Nat} {RL : Nat → List Nat} (h : vt_LI LU RU RL) {x r : Nat} (hx : x < 96) (hr : r < 8) (h1 : RU r ≠ 0) (h2 : x ∈ RL r) : 1 ≤ LU x := by
  rw [h x hx]; exact vt_cn_pos (vt_hs_t h1 h2) hr
theorem vt_LI0 {LU RU : Nat → Nat} {RL : Nat → List Nat} (h : vt_LI LU RU RL) {x r : Nat} (hx : x < 96) (h0 : LU x = 0) (hr : r < 8) (h1 : RU r ≠ 0) : x ∉ RL r := by
  rw [h x hx] at h0; exact vt_hs_f (vt_cn_z h0 hr) h1
theorem vt_LIo {LU RU : Nat → Nat} {RL : Nat → List Nat} (h : vt_LI LU RU RL) {x w r : Nat} (hx : x < 96) (h0 : LU x = 1) (hw : w < 8) (hw1 : RU w ≠ 0) (hin : x ∈ RL w) (hr : r < 8) (h1 : RU r ≠ 0) (hne : r ≠ w) : x ∉ RL r := by
  rw [h x hx] at h0; exact vt_hs_f (vt_cn_1 h0 hw (vt_hs_t hw1 hin) hr hne) h1
theorem vt_fresh {LU RU : Nat → Nat} {RL : Nat → List Nat} {T : List Nat} (hT : vt_TI RU T) (h5 : T.length ≤ 5) (h8 : ∀ r ∈ T, r < 8) (hL : vt_LI LU RU RL) (hl : ∀ r, r < 8 → (RL r).length ≤ 17) : ∃ x, x < 96 ∧ LU x = 0 := by
  refine Classical.byContradiction (fun hno => ?_)
  have hall : ∀ x ∈ List.range 96, x ∈ T.flatMap RL := by
    intro x hx
    have hx := List.mem_range.mp hx
    have hne : LU x ≠ 0 := fun q => hno ⟨x, hx, q⟩
    have : ∃ r, r < 8 ∧ vt_hs RU RL x r = true := by
      refine Classical.byContradiction (fun hno2 => hne ?_)
      rw [hL x hx, vt_cn_eq (Q := fun _ => false) (fun r hr => ?_)]
      · decide
      · cases hq : vt_hs RU RL x r with
        | false => rfl
        | true => exact absurd ⟨r, hr, hq⟩ hno2
    obtain ⟨r, hr, hq⟩ := this
    obtain ⟨q1, q2⟩ := of_decide_eq_true hq
    exact List.mem_flatMap.mpr ⟨r, (vt_TI_in hT hr).mp q1, q2⟩
  have h1 := vt_pig _ _ List.nodup_range hall
  have h2 := vt_fmlen T (fun r hr => hl r (h8 r hr))
  rw [List.length_range] at h1
  omega
theorem vt_freshR {RU : Nat → Nat} {T : List Nat} (hT : vt_TI RU T) (h5 : T.length ≤ 5) : ∃ x, x < 8 ∧ RU x = 0 := by
  refine Classical.byContradiction (fun hno => ?_)
  have hall : ∀ x ∈ List.range 8, x ∈ T := fun x hx => (vt_TI_in hT (List.mem_range.mp hx)).mp (fun q => hno ⟨x, List.mem_range.mp hx, q⟩)
  have h1 := vt_pig _ _ List.nodup_range hall
  rw [List.length_range] at h1
  omega
theorem vt_fmc {LE LE' : Nat → List (Nat × Int32)} : ∀ {L : List Nat}, (∀ y ∈ L, LE' y = LE y) → L.flatMap LE' = L.flatMap LE := by
  intro L
  induction L with
  | nil => intro _; rfl
  | cons a L ih => intro h; rw [List.flatMap_cons, List.flatMap_cons, h a (by simp), ih (fun y hy => h y (List.mem_cons_of_mem _ hy))]
theorem vt_OK_c {LE LE' : Nat → List (Nat × Int32)} {L : List Nat} {C : List (Nat × Int32)} (h : ∀ y ∈ L, LE' y = LE y) (o : vt_OK LE L C) : vt_OK LE' L C := by
  obtain ⟨o1, ⟨o2, o3⟩, o4⟩ := o
  exact ⟨o1, ⟨fun x hx => by rw [h x hx]; exact o2 x hx, fun h2 x hx => by rw [h x hx]; exact o3 h2 x hx⟩, by rw [vt_fmc h]; exact o4⟩
/-- the working root is its own; D: what the other tables hold -/
def vt_MI (D : Nat → List (Nat × Int32)) (T : List Nat) (LU : Nat → Nat) (LE : Nat → List (Nat × Int32)) (RU : Nat → Nat) (RL : Nat → List Nat) (w : Nat) : Prop :=
  vt_TI RU T ∧ T.length ≤ 5 ∧ (∀ r ∈ T, r < 8) ∧ vt_LI LU RU RL ∧ RU w = 1 ∧ w < 8 ∧ (RL w).Nodup ∧ (∀ r, r < 8 → RU r ≠ 0 → r ≠ w → vt_OK LE (RL r) (D r))
section
variable {D : Nat → List (Nat × Int32)} {T : List Nat} {LU : Nat → Nat} {LE : Nat → List (Nat × Int32)} {RU : Nat → Nat} {RL : Nat → List Nat} {w : Nat}
theorem vt_M1 {x : Nat} (M : vt_MI D T LU LE RU RL w) (hx : x < 96) (hin : x ∈ RL w) (h1 : LU x = 1) (L : List (Nat × Int32)) : vt_MI D T LU (vt_set LE x L) RU RL w := by
  obtain ⟨m1, m2, m3, m4, m5, m6, m7, m8⟩ := M
  refine ⟨m1, m2, m3, m4, m5, m6, m7, fun r hr h2 h3 => vt_OK_c (fun y hy => vt_sn (fun q => ?_)) (m8 r hr h2 h3)⟩
  exact vt_LIo m4 hx h1 m6 (by omega) hin hr h2 h3 (q ▸ hy)
theorem vt_M2 {x : Nat} {P Q : List Nat} (M : vt_MI D T LU LE RU RL w) (hx : x < 96) (h0 : LU x = 0) (hL : RL w = P ++ Q) (L : List (Nat × Int32)) :
    vt_MI D T (vt_set LU x 1) (vt_set LE x L) RU (vt_set RL w (P ++ x :: Q)) w := by
  obtain ⟨m1, m2, m3, m4, m5, m6, m7, m8⟩ := M
  have hnw : x ∉ RL w := vt_LI0 m4 hx h0 m6 (by omega)
  refine ⟨m1, m2, m3, fun y hy => ?_, m5, m6, ?_, fun r hr h2 h3 => ?_⟩
  · by_cases e : y = x
    · subst e
      rw [vt_ss]
      have hc := m4 y hy
      rw [h0] at hc
      rw [vt_cn_up (P := vt_hs RU RL y) (a := w) (vt_hs_n hnw) (vt_hs_t (by omega) (by rw [vt_ss]; simp)) m6 (fun r hr hne => vt_hs_e Iff.rfl (by rw [vt_sn hne]))]
      omega
    · rw [vt_sn e, m4 y hy]
      refine vt_cn_eq (fun r hr => vt_hs_e Iff.rfl ?_)
      by_cases e2 : r = w
      · subst e2
        rw [vt_ss, hL]
        simp [e]
      · rw [vt_sn e2]
  · rw [vt_ss]
    rw [hL] at m7 hnw
    obtain ⟨n1, n2, n3⟩ := List.nodup_append.mp m7
    refine List.nodup_append.mpr ⟨n1, List.nodup_cons.mpr ⟨fun q => hnw (List.mem_append_right _ q), n2⟩, fun a ha b hb => ?_⟩
    rcases List.mem_cons.mp hb with rfl | hb
    · exact fun q => hnw (List.mem_append_left _ (q ▸ ha))
    · exact n3 a ha b hb
  · rw [vt_sn h3]
    exact vt_OK_c (fun y hy => vt_sn (fun q => vt_LI0 m4 hx h0 hr h2 (q ▸ hy))) (m8 r hr h2 h3)
theorem vt_M4 {x : Nat} {P Q : List Nat} (M : vt_MI D T LU LE RU RL w) (hL : RL w = P ++ x :: Q) :
    vt_MI D T (vt_set LU x (LU x - 1)) LE RU (vt_set RL w (P ++ Q)) w := by
  obtain ⟨m1, m2, m3, m4, m5, m6, m7, m8⟩ := M
  have m7' := m7
  rw [hL] at m7'
  obtain ⟨n1, n2, n3⟩ := List.nodup_append.mp m7'
  obtain ⟨n4, n5⟩ := List.nodup_cons.mp n2
  refine ⟨m1, m2, m3, fun y hy => ?_, m5, m6, ?_, fun r hr h2 h3 => ?_⟩
  · by_cases e : y = x
    · subst e
      rw [vt_ss]
      have hc := m4 y hy
      have hno : y ∉ vt_set RL w (P ++ Q) w := by
        rw [vt_ss]
        intro q
        rcases List.mem_append.mp q with q | q
        · exact n3 y q y (by simp) rfl
        · exact n4 q
      have := vt_cn_up (P := vt_hs RU (vt_set RL w (P ++ Q)) y) (Q := vt_hs RU RL y) (a := w) (n := 8) (vt_hs_n hno) (vt_hs_t (by omega) (by rw [hL]; simp)) m6 (fun r hr hne => vt_hs_e Iff.rfl (by rw [vt_sn hne]))
      omega
    · rw [vt_sn e, m4 y hy]
      refine vt_cn_eq (fun r hr => vt_hs_e Iff.rfl ?_)
      by_cases e2 : r = w
      · subst e2
        rw [vt_ss, hL]
        simp [e]
      · rw [vt_sn e2]
  · rw [vt_ss]
    exact List.nodup_append.mpr ⟨n1, n5, fun a ha b hb => n3 a ha b (List.mem_cons_of_mem _ hb)⟩
  · rw [vt_sn h3]
    exact m8 r hr h2 h3
theorem vt_M3 {x o : Nat} {P Q : List Nat} (M : vt_MI D T LU LE RU RL w) (hx : x < 96) (h0 : LU x = 0) (hL : RL w = P ++ o :: Q) (ho : LU o ≠ 0) (L : List (Nat × Int32)) :
    vt_MI D T (vt_set (vt_set LU x 1) o (LU o - 1)) (vt_set LE x L) RU (vt_set RL w (P ++ x :: Q)) w := by
  have hox : o ≠ x := fun q => ho (q ▸ h0)
  have h := vt_M4 (x := o) (P := P ++ [x]) (Q := Q) (vt_M2 M hx h0 hL L) (by rw [vt_ss]; simp)
  rw [vt_sn hox, vt_s2] at h
  have e : P ++ [x] ++ Q = P ++ x :: Q := by simp
  rw [e] at h
  exact h
end
end
section
section
variable {D : Nat → List (Nat × Int32)} {T V : List Nat} {LU : Nat → Nat} {LE : Nat → List (Nat × Int32)} {RU : Nat → Nat} {RL : Nat → List Nat} {w : Nat} {vr : Nat → Nat} {f l : Nat} {fw ff fl : Int32} {aU aS aK aV bU bS bL aR : Nat → Int32}
theorem vt_ownLeafM {post : Int32 → SX → Prop} {o : Nat} {P Q : List Nat} {p0 : Int32} (R : vt_RC LU LE RU RL w vr f l fw ff fl aU aS aK aV bU bS bL aR) (M : vt_MI D T LU LE RU RL w) (hL : RL w = P ++ o :: Q) (e0 : p0 = nI P.length)
    (K : ∀ x LU' LE' RL', x < 96 → vt_MI D T LU' LE' RU RL' w → RL' w = P ++ x :: Q → LU' x = 1 → LE' x = LE o → (∀ y, y ∈ P ∨ y ∈ Q → LE' y = LE y ∧ LU' y = LU y) →
      ∀ fw' ff' fl' aU' aS' aK' aV' bU' bS' bL' aR', vt_RC LU' LE' RU RL' w vr f l fw' ff' fl' aU' aS' aK' aV' bU' bS' bL' aR' → post (nI x) (fw', ff', fl', aU', aS', aK', aV', bU', bS', bL', aR')) : wpX_ownLeaf post (fw, ff, fl, aU, aS, aK, aV, bU, bS, bL, aR) p0 := by
  have R0 := R
  have M0 := M
  obtain ⟨_, _, _, hw, hU, hE, hB, hT, hR⟩ := R
  obtain ⟨m1, m2, m3, m4, m5, m6, m7, m8⟩ := M
  have ho : o < 96 := ((hT w hw).2.2 P.length o (vt_at' hL)).2
  have h1 : 1 ≤ LU o := vt_LI1 m4 ho m6 (by omega) (by rw [hL]; simp)
  refine vt_ownLeaf R0 hL e0 h1 (fun _ => vt_fresh m1 m2 m3 m4 (fun r hr => (hT r hr).2.1)) (fun ho z => K o LU LE RL ho M0 hL z rfl (fun y _ => ⟨rfl, rfl⟩) _ _ _ _ _ _ _ _ _ _ _ R0) (fun ho z x hx hx0 => ?_)
  intro fw' ff' fl' aU' aS' aK' aV' bU' bS' bL' aR' R'
  have hxo : x ≠ o := fun q => by rw [q] at hx0; omega
  have hxw : x ∉ RL w := vt_LI0 m4 hx hx0 m6 (by omega)
  refine K x _ _ _ hx (vt_M3 M0 hx hx0 hL (by omega) (LE o)) vt_ss (by rw [vt_sn hxo, vt_ss]) vt_ss (fun y hy => ?_) _ _ _ _ _ _ _ _ _ _ _ R'
  rw [hL] at m7 hxw
  obtain ⟨n1, n2, n3⟩ := List.nodup_append.mp m7
  obtain ⟨n4, n5⟩ := List.nodup_cons.mp n2
  have hyx : y ≠ x := fun q => hxw (by rw [← q]; rcases hy with hy | hy <;> simp [hy])
  have hyo : y ≠ o := fun q => by
    rcases hy with hy | hy
    · exact n3 y hy o (by simp) q
    · exact n4 (q ▸ hy)
  exact ⟨vt_sn hyx, by rw [vt_sn hyo, vt_sn hyx]⟩
theorem vt_ownRootM {post : SX → Prop} {C : List (Nat × Int32)} (R : vt_RC LU LE RU RL w vr f l fw ff fl aU aS aK aV bU bS bL aR) (hTI : vt_TI RU (w :: V)) (h5 : (w :: V).length ≤ 5) (h8 : ∀ r ∈ w :: V, r < 8) (hLI : vt_LI LU RU RL)
    (hO : vt_OK LE (RL w) C) (hV : ∀ r ∈ V, vt_OK LE (RL r) (D r))
    (K : ∀ LU' RU' RL' w', vt_MI D (w' :: V) LU' LE RU' RL' w' → vt_OK LE (RL' w') C → ∀ fw' ff' fl' aU' aS' aK' aV' bU' bS' bL' aR', vt_RC LU' LE RU' RL' w' vr f l fw' ff' fl' aU' aS' aK' aV' bU' bS' bL' aR' → post (fw', ff', fl', aU', aS', aK', aV', bU', bS', bL', aR')) : wpX_ownRoot post (fw, ff, fl, aU, aS, aK, aV, bU, bS, bL, aR) := by
  have R0 := R
  obtain ⟨_, _, _, hw, hU, hE, hB, hT, hR⟩ := R
  have h1 : 1 ≤ RU w := by rw [hTI w hw, List.count_cons_self]; omega
  have hd := hO.1
  refine vt_ownRoot R0 h1 (fun _ => vt_freshR hTI h5) (fun _ x hx => ?_) (fun z => ?_) (fun z r hr hr0 => ?_)
  · have a := vt_LI8 hLI hx
    have b := List.nodup_iff_count.mp hd x
    omega
  · refine K LU RU RL w ⟨hTI, h5, h8, hLI, z, hw, hd, fun r hr h2 h3 => ?_⟩ hO _ _ _ _ _ _ _ _ _ _ _ R0
    rcases List.mem_cons.mp ((vt_TI_in hTI hr).mp h2) with q | q
    · exact absurd q h3
    · exact hV r q
  · intro fw' ff' fl' aU' aS' aK' aV' bU' bS' bL' aR' R'
    have hrw : w ≠ r := fun q => by rw [q] at h1; omega
    have hc0 : V.count r = 0 := by
      have := hTI r hr
      rw [hr0, List.count_cons] at this
      omega
    have hTI' : vt_TI (vt_set (vt_set RU r 1) w (RU w - 1)) (r :: V) := by
      intro q hq
      have h := hTI q hq
      rw [List.count_cons] at h ⊢
      by_cases e1 : q = w
      · subst e1
        rw [vt_ss, h]
        have e2 : (r == q) = false := by simp; exact fun e => hrw e.symm
        simp [e2]
      · rw [vt_sn e1]
        have e2 : (w == q) = false := by simp; exact fun e => e1 e.symm
        rw [e2] at h
        by_cases e3 : q = r
        · subst e3
          rw [vt_ss, hc0]; simp
        · rw [vt_sn e3]
          have e4 : (r == q) = false := by simp; exact fun e => e3 e.symm
          rw [e4, h]
    refine K _ _ _ r ⟨hTI', h5, fun q hq => ?_, fun x hx => ?_, ?_, hr, ?_, fun q hq h2 h3 => ?_⟩ (by rw [vt_ss]; exact hO) _ _ _ _ _ _ _ _ _ _ _ R'
    · rcases List.mem_cons.mp hq with rfl | hq
      · exact hr
      · exact h8 q (List.mem_cons_of_mem _ hq)
    · have hcong : ∀ q, q < 8 → q ≠ r → vt_hs RU RL x q = vt_hs (vt_set (vt_set RU r 1) w (RU w - 1)) (vt_set RL r (RL w)) x q := by
        intro q hq hqr
        refine vt_hs_e ?_ (by rw [vt_sn hqr])
        by_cases e1 : q = w
        · subst e1
          rw [vt_ss]
          omega
        · rw [vt_sn e1, vt_sn hqr]
      have hr1 : vt_set (vt_set RU r 1) w (RU w - 1) r ≠ 0 := by rw [vt_sn (fun e => hrw e.symm), vt_ss]; decide
      by_cases hin : x ∈ RL w
      · rw [vt_cn_up (P := vt_hs RU RL x) (a := r) (vt_hs_0 hr0) (vt_hs_t hr1 (by rw [vt_ss]; exact hin)) hr hcong, ← hLI x hx]
        have b := List.nodup_iff_count.mp hd x
        have c := List.count_pos_iff.mpr hin
        omega
      · rw [List.count_eq_zero.mpr hin, Nat.add_zero, hLI x hx]
        refine vt_cn_eq (fun q hq => ?_)
        by_cases e : q = r
        · subst e
          rw [vt_hs_0 hr0, vt_hs_n (by rw [vt_ss]; exact hin)]
        · exact hcong q hq e
    · rw [vt_sn (fun e => hrw e.symm), vt_ss]
    · rw [vt_ss]; exact hd
    · rw [vt_sn h3]
      rcases List.mem_cons.mp ((vt_TI_in hTI' hq).mp h2) with e | e
      · exact absurd e h3
      · exact hV q e
end
/-! a leaf's entries after a shift -/
theorem vt_lfIns {e1 e2 : List (Nat × Int32)} {k : Nat} {v : Int32} {x : Nat} {aS aK aV aS' aK' aV' : Nat → Int32} (h : vt_lf (e1 ++ e2) x aS aK aV) (h5 : e1.length + e2.length ≤ 4) (hk : k < 32)
    (hS : aS' x = nI (e1.length + e2.length + 1)) (h1 : ∀ c, c < x * 5 + e1.length → aK' c = aK c ∧ aV' c = aV c) (h2 : aK' (x * 5 + e1.length) = nI k ∧ aV' (x * 5 + e1.length) = v)
    (h3 : ∀ j, j < e2.length → aK' (x * 5 + e1.length + 1 + j) = aK (x * 5 + e1.length + j) ∧ aV' (x * 5 + e1.length + 1 + j) = aV (x * 5 + e1.length + j)) : vt_lf (e1 ++ (k, v) :: e2) x aS' aK' aV' := by
  obtain ⟨_, _, hG⟩ := h
  refine ⟨?_, ?_, fun j e he => ?_⟩
  · rw [hS]; congr 1; simp only [List.length_append, List.length_cons]; omega
  · simp only [List.length_append, List.length_cons]; omega
  · have hj := vt_len he
    simp only [List.length_append, List.length_cons] at hj
    by_cases q : j < e1.length
    · rw [List.getElem?_append_left q] at he
      rw [(h1 _ (by omega)).1, (h1 _ (by omega)).2]
      exact hG j e (by rw [List.getElem?_append_left q]; exact he)
    · by_cases q2 : j = e1.length
      · subst q2
        rw [vt_at] at he
        cases he
        exact ⟨h2.1, h2.2, hk⟩
      · obtain ⟨m, rfl⟩ : ∃ m, j = e1.length + 1 + m := ⟨j - e1.length - 1, by omega⟩
        have e2' : x * 5 + (e1.length + 1 + m) = x * 5 + e1.length + 1 + m := by omega
        rw [List.getElem?_append_right (by omega), show e1.length + 1 + m - e1.length = m + 1 from by omega, List.getElem?_cons_succ] at he
        rw [e2', (h3 m (by omega)).1, (h3 m (by omega)).2, show x * 5 + e1.length + m = x * 5 + (e1.length + m) from by omega]
        refine hG _ e ?_
        rw [List.getElem?_append_right (by omega), show e1.length + m - e1.length = m from by omega]
        exact he
theorem vt_lfDel {e1 e2 : List (Nat × Int32)} {a : Nat × Int32} {x : Nat} {aS aK aV aS' aK' aV' : Nat → Int32} (h : vt_lf (e1 ++ a :: e2) x aS aK aV)
    (hS : aS' x = nI (e1.length + e2.length)) (h1 : ∀ c, c < x * 5 + e1.length → aK' c = aK c ∧ aV' c = aV c)
    (h3 : ∀ j, e1.length ≤ j → j < e1.length + e2.length → aK' (x * 5 + j) = aK (x * 5 + j + 1) ∧ aV' (x * 5 + j) = aV (x * 5 + j + 1)) : vt_lf (e1 ++ e2) x aS' aK' aV' := by
  obtain ⟨_, h5, hG⟩ := h
  rw [List.length_append, List.length_cons] at h5
  refine ⟨by rw [hS, List.length_append], by rw [List.length_append]; omega, fun j e he => ?_⟩
  have hj := vt_len he
  rw [List.length_append] at hj
  by_cases q : j < e1.length
  · rw [List.getElem?_append_left q] at he
    rw [(h1 _ (by omega)).1, (h1 _ (by omega)).2]
    exact hG j e (by rw [List.getElem?_append_left q]; exact he)
  · rw [(h3 j (by omega) hj).1, (h3 j (by omega) hj).2, Nat.add_assoc]
    refine hG (j + 1) e ?_
    rw [List.getElem?_append_right (by omega)] at he ⊢
    rw [show j + 1 - e1.length = (j - e1.length) + 1 from by omega, List.getElem?_cons_succ]
    exact he
theorem vt_lfSet {e1 e2 : List (Nat × Int32)} {a : Nat × Int32} {v : Int32} {x : Nat} {aS aK aV : Nat → Int32} (h : vt_lf (e1 ++ a :: e2) x aS aK aV) :
    vt_lf (e1 ++ (a.1, v) :: e2) x aS aK (upd aV (x * 5 + e1.length) v) := by
  obtain ⟨hS, h5, hG⟩ := h
  have el : (e1 ++ (a.1, v) :: e2).length = (e1 ++ a :: e2).length := by simp only [List.length_append, List.length_cons]
  refine ⟨by rw [hS, el], by rw [el]; exact h5, fun j e he => ?_⟩
  by_cases q2 : j = e1.length
  · subst q2
    rw [vt_at] at he
    cases he
    have := hG e1.length a (vt_at _ _ _)
    exact ⟨this.1, pk_us, this.2.2⟩
  · rw [pk_un (by omega)]
    refine hG j e ?_
    by_cases q : j < e1.length
    · rw [List.getElem?_append_left q] at he ⊢
      exact he
    · obtain ⟨m, rfl⟩ : ∃ m, j = e1.length + (m + 1) := ⟨j - e1.length - 1, by omega⟩
      rw [List.getElem?_append_right (by omega), show e1.length + (m + 1) - e1.length = m + 1 from by omega, List.getElem?_cons_succ] at he ⊢
      exact he
end
section
theorem vt_five {α : Type} {L : List α} (h : L.length = 5) : ∃ a b c d e, L = [a, b, c, d, e] := by
  match L, h with
  | [a, b, c, d, e], _ => exact ⟨a, b, c, d, e, rfl⟩
theorem vt_two {α : Type} {a b e : α} {j : Nat} (h : [a, b][j]? = some e) : (j = 0 ∧ e = a) ∨ (j = 1 ∧ e = b) := by
  match j, h with
  | 0, h => cases h; exact Or.inl ⟨rfl, rfl⟩
  | 1, h => cases h; exact Or.inr ⟨rfl, rfl⟩
  | j + 2, h => simp at h
section
variable {D : Nat → List (Nat × Int32)} {T V : List Nat} {LU : Nat → Nat} {LE : Nat → List (Nat × Int32)} {RU : Nat → Nat} {RL : Nat → List Nat} {w : Nat} {vr : Nat → Nat} {f l : Nat} {fw ff fl : Int32} {aU aS aK aV bU bS bL aR : Nat → Int32}
theorem vt_split {post : SX → Prop} {x : Nat} {P Q : List Nat} {p0 p1 : Int32} {b0 b1 b2 b3 b4 : Nat × Int32} (R : vt_RC LU LE RU RL w vr f l fw ff fl aU aS aK aV bU bS bL aR) (hx : x < 96) (hL : RL w = P ++ x :: Q) (hlen : (RL w).length ≤ 16) (e0 : p0 = nI P.length) (e1 : p1 = nI x)
    (hE5 : LE x = [b0, b1, b2, b3, b4]) (h1 : LU x ≠ 0) (hf : ∃ y, y < 96 ∧ LU y = 0)
    (K : ∀ y, y < 96 → LU y = 0 → ∀ fw' ff' fl' aU' aS' aK' aV' bU' bS' bL' aR', vt_RC (vt_set LU y 1) (vt_set (vt_set LE y [b3, b4]) x [b0, b1, b2]) RU (vt_set RL w (P ++ x :: y :: Q)) w vr f l fw' ff' fl' aU' aS' aK' aV' bU' bS' bL' aR' → post (fw', ff', fl', aU', aS', aK', aV', bU', bS', bL', aR')) : wpX_split post (fw, ff, fl, aU, aS, aK, aV, bU, bS, bL, aR) p0 p1 := by
  subst e0 e1
  unfold wpX_split
  dsimp only
  refine vt_freshLeaf R hf (fun y hy hy0 => ?_)
  intro fw' ff' fl' aU' aS' aK' aV' bU' bS' bL' aR' R'
  obtain ⟨rfl, rfl, rfl, hw', hU', hE', hB', hT', hR'⟩ := R'
  have hxy : x ≠ y := fun q => h1 (q ▸ hy0)
  obtain ⟨lS, l5, lG⟩ := hE' x hx
  rw [vt_sn hxy, hE5] at lS l5 lG
  obtain ⟨g0, g0', g0''⟩ := lG 0 b0 rfl
  obtain ⟨g1, g1', g1''⟩ := lG 1 b1 rfl
  obtain ⟨g2, g2', g2''⟩ := lG 2 b2 rfl
  obtain ⟨g3, g3', g3''⟩ := lG 3 b3 rfl
  obtain ⟨g4, g4', g4''⟩ := lG 4 b4 rfl
  have cx : (nI x).toNatClampNeg = x := nI_clamp (by omega)
  have cy : (nI y).toNatClampNeg = y := nI_clamp (by omega)
  dsimp only
  refine vt_copy x 3 y 0 b3.1 hx (by omega) hy (by omega) rfl rfl rfl rfl g3 (by omega) ?_
  dsimp only
  refine vt_copy x 4 y 1 b4.1 hx (by omega) hy (by omega) rfl rfl rfl rfl (by rw [pk_un (by omega)]; exact g4) (by omega) ?_
  dsimp only
  rw [pk_un (show x * 5 + 4 ≠ y * 5 + 0 by omega), g3', g4', cx, cy]
  refine ⟨vt_i96 hy, nm_r (congrArg (upd aS' y) (vt_n (m := 2) (by decide))) ⟨vt_i96 hx, nm_r (congrArg (upd (upd aS' y (nI 2)) x) (vt_n (m := 3) (by decide))) ?_⟩⟩
  have hE1 : vt_cE (vt_set LE y [b3, b4]) (upd aS' y (nI 2)) (upd (upd aK' (y * 5 + 0) (nI b3.1)) (y * 5 + 1) (nI b4.1)) (upd (upd aV' (y * 5 + 0) b3.2) (y * 5 + 1) b4.2) := by
    rw [← vt_s2 LE y [] [b3, b4]]
    refine vt_cE_set hE' y [b3, b4] ⟨pk_us, by simp, fun j e he => ?_⟩ (fun i hi => pk_un hi) (fun c hc => by rw [pk_un (by omega), pk_un (by omega)]) (fun c hc => by rw [pk_un (by omega), pk_un (by omega)])
    rcases vt_two he with ⟨rfl, rfl⟩ | ⟨rfl, rfl⟩
    · rw [pk_un (by omega), pk_us, pk_un (by omega), pk_us]; exact ⟨rfl, rfl, g3''⟩
    · rw [pk_us, pk_us]; exact ⟨rfl, rfl, g4''⟩
  have hE2 : vt_cE (vt_set (vt_set LE y [b3, b4]) x [b0, b1, b2]) (upd (upd aS' y (nI 2)) x (nI 3)) (upd (upd aK' (y * 5 + 0) (nI b3.1)) (y * 5 + 1) (nI b4.1)) (upd (upd aV' (y * 5 + 0) b3.2) (y * 5 + 1) b4.2) := by
    refine vt_cE_set hE1 x [b0, b1, b2] ⟨pk_us, by simp, fun j e he => ?_⟩ (fun i hi => pk_un hi) (fun c hc => rfl) (fun c hc => rfl)
    have hj := vt_len he
    simp only [List.length_cons, List.length_nil] at hj
    have := lG j e (by
      match j, he with
      | 0, he => exact he
      | 1, he => exact he
      | 2, he => exact he
      | j + 3, he => simp at he)
    rw [pk_un (by omega), pk_un (by omega), pk_un (by omega), pk_un (by omega)]
    exact this
  refine vt_insertLeaf (P := P ++ [x]) (Q := Q) (x := y) ⟨rfl, rfl, rfl, hw', hU', hE2, hB', hT', hR'⟩ hy (by rw [hL]; simp) hlen (by rw [nI_1, vt_la]) rfl ?_
  intro fw'' ff'' fl'' aU'' aS'' aK'' aV'' bU'' bS'' bL'' aR'' R''
  dsimp only
  refine K y hy hy0 _ _ _ _ _ _ _ _ _ _ _ ?_
  rw [show P ++ x :: y :: Q = P ++ [x] ++ y :: Q by simp]
  exact R''
theorem vt_nin {x : Nat} {P Q : List Nat} (h : (P ++ x :: Q).Nodup) {y : Nat} (hy : y ∈ P ∨ y ∈ Q) : y ≠ x := by
  obtain ⟨n1, n2, n3⟩ := List.nodup_append.mp h
  obtain ⟨n4, n5⟩ := List.nodup_cons.mp n2
  intro q
  rcases hy with hy | hy
  · exact n3 y hy x (by simp) q
  · exact n4 (q ▸ hy)
theorem vt_p151 {post : Int32 → SX → Prop} {x i : Nat} {P Q : List Nat} {v pl : Int32} (hx : x < 96) (hi : i < 5) (e0 : pl = nI P.length) (R : vt_RC LU LE RU RL w vr f l fw ff fl aU aS aK (upd aV (x * 5 + i) v) bU bS bL aR) (M : vt_MI D T LU LE RU RL w)
    (hL : RL w = P ++ x :: Q) (hlen : (RL w).length ≤ 16) (h1 : LU x = 1) (hne : 1 ≤ (LE x).length)
    (K : ∀ LU' LE' RL' N, vt_MI D T LU' LE' RU RL' w → RL' w = P ++ N ++ Q → N.flatMap LE' = LE x → (∀ z ∈ N, 1 ≤ (LE' z).length ∧ (LE' z).length ≤ 4 ∧ (2 ≤ (LE' z).length ∨ (N.length = 1 ∧ (LE x).length ≤ (LE' z).length))) →
      (∀ y, y ∈ P ∨ y ∈ Q → LE' y = LE y) → ∀ fw' ff' fl' aU' aS' aK' aV' bU' bS' bL' aR', vt_RC LU' LE' RU RL' w vr f l fw' ff' fl' aU' aS' aK' aV' bU' bS' bL' aR' → post 1 (fw', ff', fl', aU', aS', aK', aV', bU', bS', bL', aR')) : wX_put_151 post v pl (nI x) (nI i) fw ff fl aU aS aK aV bU bS bL aR := by
  have R0 := R
  obtain ⟨rfl, rfl, rfl, hw', hU', hE', hB', hT', hR'⟩ := R
  obtain ⟨lS, l5, lG⟩ := hE' x hx
  have cx : (nI x).toNatClampNeg = x := nI_clamp (by omega)
  unfold wX_put_151
  rw [vt_c5 hx (by omega), cx, lS]
  refine ⟨vt_i5 hx hi, nm_e ⟨vt_i96 hx, ?_⟩⟩
  by_cases z : (LE x).length ≤ 4
  · refine br_t (nI_le (b := 4) z (by decide)) (K LU LE RL [x] M (by rw [hL]; simp) (by simp) (fun z' hz' => ?_) (fun y _ => rfl) _ _ _ _ _ _ _ _ _ _ _ R0)
    rw [List.mem_singleton.mp hz']
    exact ⟨hne, z, Or.inr ⟨rfl, Nat.le_refl _⟩⟩
  · refine br_f (nI_ge (a := 4) (by omega) (by omega)) ?_
    obtain ⟨b0, b1, b2, b3, b4, hb⟩ := vt_five (show (LE x).length = 5 by omega)
    have M0 := M
    obtain ⟨m1, m2, m3, m4, m5, m6, m7, m8⟩ := M
    have hin : x ∈ RL w := by rw [hL]; simp
    refine vt_split R0 hx hL hlen e0 rfl hb (by omega) (vt_fresh m1 m2 m3 m4 (fun r hr => (hT' r hr).2.1)) (fun y hy hy0 => ?_)
    intro fw' ff' fl' aU' aS' aK' aV' bU' bS' bL' aR' R'
    dsimp only
    have hyw : y ∉ RL w := vt_LI0 m4 hy hy0 m6 (by omega)
    have hxy : x ≠ y := fun q => by rw [q] at h1; omega
    have hM2 := vt_M2 (P := P ++ [x]) (Q := Q) M0 hy hy0 (by rw [hL]; simp) [b3, b4]
    have hM3 := vt_M1 (x := x) hM2 hx (by rw [vt_ss]; simp) (by rw [vt_sn hxy]; exact h1) [b0, b1, b2]
    rw [show P ++ [x] ++ y :: Q = P ++ x :: y :: Q by simp] at hM3
    have f1 : vt_set (vt_set LE y [b3, b4]) x [b0, b1, b2] x = [b0, b1, b2] := vt_ss
    have f2 : vt_set (vt_set LE y [b3, b4]) x [b0, b1, b2] y = [b3, b4] := by rw [vt_sn (fun q => hxy q.symm), vt_ss]
    refine K _ _ _ [x, y] hM3 (by rw [vt_ss]; simp) ?_ (fun z' hz' => ?_) (fun y' hy' => ?_) _ _ _ _ _ _ _ _ _ _ _ R'
    · rw [List.flatMap_cons, List.flatMap_cons, f1, f2, hb]; rfl
    · rcases List.mem_cons.mp hz' with rfl | hz'
      · rw [f1]; exact ⟨by simp, by simp, Or.inl (by simp)⟩
      · rw [List.mem_singleton.mp hz', f2]; exact ⟨by simp, by simp, Or.inl (by simp)⟩
    · rw [hL] at m7 hyw
      rw [vt_sn (vt_nin m7 hy'), vt_sn (fun q => hyw (by rw [← q]; rcases hy' with hy' | hy' <;> simp [hy']))]
theorem vt_pshL {post : Int32 → SX → Prop} {k v pl : Int32} {x i : Nat} (hx : x < 96) :
    ∀ (d n : Nat) (aK aV : Nat → Int32), i + d ≤ 4 → d < n → (∀ j, j < i + d → ∃ y, y < 32 ∧ aK (x * 5 + j) = nI y) →
    (∀ n aK' aV', (∀ c, c ≤ x * 5 + i → aK' c = aK c ∧ aV' c = aV c) → (∀ c, x * 5 + i + d < c → aK' c = aK c ∧ aV' c = aV c) →
      (∀ j, j < d → aK' (x * 5 + i + 1 + j) = aK (x * 5 + i + j) ∧ aV' (x * 5 + i + 1 + j) = aV (x * 5 + i + j)) → wX_put_98 post k v pl (nI x) (nI i) (n + 1) (nI i) fw ff fl aU aS aK' aV' bU bS bL aR) →
    wX_put_98 post k v pl (nI x) (nI i) n (nI (i + d)) fw ff fl aU aS aK aV bU bS bL aR := by
  intro d
  induction d with
  | zero =>
    intro n aK aV h hn hv K
    obtain ⟨n, rfl⟩ : ∃ m, n = m + 1 := ⟨n - 1, by omega⟩
    exact K n aK aV (fun _ _ => ⟨rfl, rfl⟩) (fun _ _ => ⟨rfl, rfl⟩) (fun j hj => by omega)
  | succ d ih =>
    intro n aK aV h hn hv K
    obtain ⟨n, rfl⟩ : ∃ m, n = m + 1 := ⟨n - 1, by omega⟩
    obtain ⟨y, hy, hq⟩ := hv (i + d) (by omega)
    simp only [wX_put_98]
    refine br_f (nI_ge (by omega) (by omega)) (vt_copy x (i + d) x (i + (d + 1)) y hx (by omega) hx (by omega) rfl (nI_pred (i + d)) rfl rfl hq (by omega) ?_)
    dsimp only
    refine nm_r (pk_m1 (i + d)) (ih n _ _ (by omega) (by omega) (fun j hj => ?_) (fun n' aK' aV' h1 h2 h3 => K n' aK' aV' (fun c hc => ?_) (fun c hc => ?_) (fun j hj => ?_)))
    · rw [pk_un (by omega)]; exact hv j (by omega)
    · rw [(h1 c hc).1, (h1 c hc).2, pk_un (by omega), pk_un (by omega)]; exact ⟨rfl, rfl⟩
    · rw [(h2 c (by omega)).1, (h2 c (by omega)).2, pk_un (by omega), pk_un (by omega)]; exact ⟨rfl, rfl⟩
    · by_cases q : j = d
      · subst q
        have e2 : x * 5 + i + 1 + j = x * 5 + (i + (j + 1)) := by omega
        have e3 : x * 5 + i + j = x * 5 + (i + j) := by omega
        rw [(h2 _ (by omega)).1, (h2 _ (by omega)).2, e2, pk_us, pk_us, e3, hq]
        exact ⟨rfl, rfl⟩
      · rw [(h3 j (by omega)).1, (h3 j (by omega)).2, pk_un (by omega), pk_un (by omega)]
        exact ⟨rfl, rfl⟩
theorem vt_p98x {post : Int32 → SX → Prop} {v pl : Int32} {x i k s n : Nat} (hx : x < 96) (hi : i < 5) (hk : k < 32) (hS : aS x = nI s) (hs : s ≤ 4)
    (K : wX_put_151 post v pl (nI x) (nI i) fw ff fl aU (upd aS x (nI (s + 1))) (upd aK (x * 5 + i) (nI k)) aV bU bS bL aR) : wX_put_98 post (nI k) v pl (nI x) (nI i) (n + 1) (nI i) fw ff fl aU aS aK aV bU bS bL aR := by
  have cx : (nI x).toNatClampNeg = x := nI_clamp (by omega)
  have c := vt_c5 hx (j := i) (by omega)
  have hst : vp_nar .byte ((nI s + 1).toInt8.toInt32) = nI (s + 1) := vt_n2 (nI_1 _) (by omega)
  have hsk : vp_nar .byte (nI k).toInt8.toInt32 = nI k := vt_n2 rfl (by omega)
  simp only [wX_put_98, cx, hS, hst, hsk, c, forall_eq]
  exact br_t (nI_le (Nat.le_refl _) (by omega)) ⟨vt_i96 hx, vt_i96 hx, vt_i5 hx hi, K⟩
theorem vt_put_app {k : Nat} {v : Int32} {P M Q : List (Nat × Int32)} (h1 : ∀ e ∈ P, (e.1 : Int) < (k : Int)) (h2 : ∀ e ∈ M, e.1 = k) (h3 : ∀ e ∈ Q, (k : Int) < (e.1 : Int)) : vt_put k v (P ++ (M ++ Q)) = P ++ (k, v) :: Q := by
  unfold vt_put
  rw [vt_lw_app, vt_lw_app, vt_up_app, vt_up_app, vt_lw_all h1, vt_lw_no (A := M) (fun e he => by rw [h2 e he]; omega), vt_lw_no (A := Q) (fun e he => by have := h3 e he; omega),
    vt_up_no (A := P) (fun e he => by have := h1 e he; omega), vt_up_no (A := M) (fun e he => by rw [h2 e he]; omega), vt_up_all h3]
  simp
theorem vt_insGo {post : Int32 → SX → Prop} {x k : Nat} {P Q : List Nat} {v pl : Int32} {e1 e2 : List (Nat × Int32)} (hx : x < 96) (hk : k < 32) (e0 : pl = nI P.length) (R : vt_RC LU LE RU RL w vr f l fw ff fl aU aS aK aV bU bS bL aR) (M : vt_MI D T LU LE RU RL w)
    (hL : RL w = P ++ x :: Q) (hlen : (RL w).length ≤ 16) (h1 : LU x = 1) (he : LE x = e1 ++ e2) (h4 : (LE x).length ≤ 4) (hlt : ∀ e ∈ e1, (e.1 : Int) < (k : Int)) (hgt : ∀ e ∈ e2, (k : Int) < (e.1 : Int))
    (K : ∀ LU' LE' RL' N, vt_MI D T LU' LE' RU RL' w → RL' w = P ++ N ++ Q → N.flatMap LE' = vt_put k v (LE x) → (∀ z ∈ N, 1 ≤ (LE' z).length ∧ (LE' z).length ≤ 4 ∧ (2 ≤ (LE' z).length ∨ (N.length = 1 ∧ (LE x).length ≤ (LE' z).length))) →
      (∀ y, y ∈ P ∨ y ∈ Q → LE' y = LE y) → ∀ fw' ff' fl' aU' aS' aK' aV' bU' bS' bL' aR', vt_RC LU' LE' RU RL' w vr f l fw' ff' fl' aU' aS' aK' aV' bU' bS' bL' aR' → post 1 (fw', ff', fl', aU', aS', aK', aV', bU', bS', bL', aR')) : ∃ n, wX_put_98 post (nI k) v pl (nI x) (nI e1.length) n (nI (LE x).length) fw ff fl aU aS aK aV bU bS bL aR := by
  obtain ⟨rfl, rfl, rfl, hw', hU', hE', hB', hT', hR'⟩ := R
  have hl := hE' x hx
  obtain ⟨lS, l5, lG⟩ := hE' x hx
  have hlen2 : (LE x).length = e1.length + e2.length := by rw [he, List.length_append]
  refine ⟨e2.length + 1, ?_⟩
  rw [hlen2]
  refine vt_pshL hx e2.length _ aK aV (by omega) (Nat.lt_succ_self _) (fun j hj => ?_) (fun n aK' aV' k1 k2 k3 => ?_)
  · have hj' : (LE x)[j]? = some ((LE x)[j]'(by omega)) := List.getElem?_eq_getElem (by omega)
    obtain ⟨q1, q2, q3⟩ := lG j _ hj'
    exact ⟨_, q3, q1⟩
  · refine vt_p98x (s := e1.length + e2.length) hx (by omega) hk (by rw [lS, hlen2]) (by omega) ?_
    have hput : vt_put k v (LE x) = e1 ++ (k, v) :: e2 := by
      rw [he]
      exact vt_put_app (M := []) hlt (fun e h => by cases h) hgt
    have hnl : (e1 ++ (k, v) :: e2).length = e1.length + e2.length + 1 := by simp only [List.length_append, List.length_cons]; omega
    have hin : x ∈ RL w := by rw [hL]; simp
    have m7 := M.2.2.2.2.2.2.1
    rw [hL] at m7
    refine vt_p151 (LE := vt_set LE x (e1 ++ (k, v) :: e2)) hx (by omega) e0 ⟨rfl, rfl, rfl, hw', hU', ?_, hB', hT', hR'⟩ (vt_M1 M hx hin h1 _) hL hlen h1 (by rw [vt_ss, hnl]; omega) ?_
    · refine vt_cE_set hE' x _ ?_ (fun i hi => pk_un hi) (fun c hc => ?_) (fun c hc => ?_)
      · rw [he] at hl
        refine vt_lfIns hl (by omega) hk pk_us (fun c hc => ?_) ⟨pk_us, pk_us⟩ (fun j hj => ?_)
        · rw [pk_un (by omega), pk_un (by omega)]; exact k1 c (by omega)
        · rw [pk_un (by omega), pk_un (by omega)]; exact k3 j hj
      · rw [pk_un (by omega)]
        by_cases q : c ≤ x * 5 + e1.length
        · exact (k1 c q).1
        · exact (k2 c (by omega)).1
      · rw [pk_un (by omega)]
        by_cases q : c ≤ x * 5 + e1.length
        · exact (k1 c q).2
        · exact (k2 c (by omega)).2
    · intro LU' LE' RL' N hM hN hF hZ hfr
      rw [vt_ss] at hF hZ
      refine K LU' LE' RL' N hM hN (by rw [hF, hput]) (fun z hz => ?_) (fun y hy => by rw [hfr y hy, vt_sn (vt_nin m7 hy)])
      obtain ⟨z1, z2, z3⟩ := hZ z hz
      rw [hnl] at z3
      exact ⟨z1, z2, by omega⟩
theorem vt_put45 {post : Int32 → SX → Prop} {o k : Nat} {P Q : List Nat} {v p0 : Int32} (hk : k < 32) (R : vt_RC LU LE RU RL w vr f l fw ff fl aU aS aK aV bU bS bL aR) (M : vt_MI D T LU LE RU RL w) (hL : RL w = P ++ o :: Q) (e0 : p0 = nI P.length)
    (hlen : (RL w).length ≤ 16) (hs : vt_so (LE o)) (h4 : (LE o).length ≤ 4)
    (K : ∀ LU' LE' RL' N, vt_MI D T LU' LE' RU RL' w → RL' w = P ++ N ++ Q → N.flatMap LE' = vt_put k v (LE o) → (∀ z ∈ N, 1 ≤ (LE' z).length ∧ (LE' z).length ≤ 4 ∧ (2 ≤ (LE' z).length ∨ (N.length = 1 ∧ (LE o).length ≤ (LE' z).length))) →
      (∀ y, y ∈ P ∨ y ∈ Q → LE' y = LE y) → ∀ fw' ff' fl' aU' aS' aK' aV' bU' bS' bL' aR', vt_RC LU' LE' RU RL' w vr f l fw' ff' fl' aU' aS' aK' aV' bU' bS' bL' aR' → post 1 (fw', ff', fl', aU', aS', aK', aV', bU', bS', bL', aR')) : wX_put_45 post (nI k) v p0 fw ff fl aU aS aK aV bU bS bL aR := by
  unfold wX_put_45
  refine vt_ownLeafM R M hL e0 (fun x LU1 LE1 RL1 hx M1 hL1 hU1 hE1 hfr => ?_)
  intro fw' ff' fl' aU' aS' aK' aV' bU' bS' bL' aR' R1
  dsimp only
  have R10 := R1
  obtain ⟨rfl, rfl, rfl, hw', hU', hE', hB', hT', hR'⟩ := R1
  have hl := hE' x hx
  obtain ⟨lS, l5, lG⟩ := hE' x hx
  have cx : (nI x).toNatClampNeg = x := nI_clamp (by omega)
  have kz : (nI k).toInt = (k : Int) := nI_toInt (by omega)
  have hlen1 : (RL1 w).length ≤ 16 := by rw [hL1]; rw [hL] at hlen; simpa using hlen
  have h41 : (LE1 x).length ≤ 4 := by rw [hE1]; exact h4
  have K' : ∀ LU' LE' RL' N, vt_MI D T LU' LE' RU RL' w → RL' w = P ++ N ++ Q → N.flatMap LE' = vt_put k v (LE1 x) → (∀ z ∈ N, 1 ≤ (LE' z).length ∧ (LE' z).length ≤ 4 ∧ (2 ≤ (LE' z).length ∨ (N.length = 1 ∧ (LE1 x).length ≤ (LE' z).length))) →
      (∀ y, y ∈ P ∨ y ∈ Q → LE' y = LE1 y) → ∀ fw' ff' fl' aU' aS' aK' aV' bU' bS' bL' aR', vt_RC LU' LE' RU RL' w vr f l fw' ff' fl' aU' aS' aK' aV' bU' bS' bL' aR' → post 1 (fw', ff', fl', aU', aS', aK', aV', bU', bS', bL', aR') := by
    intro LU' LE' RL' N a1 a2 a3 a4 a5
    rw [hE1] at a3 a4
    exact K LU' LE' RL' N a1 a2 a3 a4 (fun y hy => by rw [a5 y hy, (hfr y hy).1])
  refine vt_below hx hl (fun e1 e2 he h1 h2 => ?_)
  rw [kz] at h1 h2
  rw [cx, lS]
  have hl2 : (LE1 x).length = e1.length + e2.length := by rw [he, List.length_append]
  refine ⟨vt_i96 hx, ?_⟩
  cases e2 with
  | nil =>
    refine br_t (congrArg nI (by rw [hl2, List.length_nil, Nat.add_zero])) ⟨vt_i96 hx, nm_e ?_⟩
    exact vt_insGo hx hk e0 R10 M1 hL1 hlen1 hU1 he h41 h1 (fun e h => by cases h) K'
  | cons e e2 =>
    rw [List.length_cons] at hl2
    refine br_f (fun q => ?_) ⟨vt_i5 hx (by omega), ?_⟩
    · have := (nI_eq (by omega) (by omega)).mp q
      omega
    · obtain ⟨k1, k2, k3⟩ := lG e1.length e (vt_at' he)
      rw [vt_c5 hx (by omega), k1]
      have hs1 : vt_so (e1 ++ e :: e2) := by rw [← he, hE1]; exact hs
      obtain ⟨_, s2, _⟩ := vt_so_app hs1
      obtain ⟨s3, s4⟩ := List.pairwise_cons.mp s2
      have hge := h2 e e2 rfl
      by_cases z : e.1 = k
      · refine br_t (congrArg nI z) ?_
        have hgt : ∀ e' ∈ e2, (k : Int) < (e'.1 : Int) := fun e' h' => by have := s3 e' h'; omega
        have hput : vt_put k v (LE1 x) = e1 ++ (k, v) :: e2 := by
          rw [he, show e1 ++ e :: e2 = e1 ++ ([e] ++ e2) by simp]
          exact vt_put_app h1 (fun e' h' => by rw [List.mem_singleton.mp h']; exact z) hgt
        have hnl : (e1 ++ (k, v) :: e2).length = e1.length + e2.length + 1 := by simp only [List.length_append, List.length_cons]; omega
        have hin : x ∈ RL1 w := by rw [hL1]; simp
        have m7 := M1.2.2.2.2.2.2.1
        rw [hL1] at m7
        refine vt_p151 (LE := vt_set LE1 x (e1 ++ (k, v) :: e2)) hx (by omega) e0 ⟨rfl, rfl, rfl, hw', hU', ?_, hB', hT', hR'⟩ (vt_M1 M1 hx hin hU1 _) hL1 hlen1 hU1 (by rw [vt_ss, hnl]; omega) ?_
        · refine vt_cE_set hE' x _ ?_ (fun i hi => rfl) (fun c hc => rfl) (fun c hc => pk_un (by omega))
          rw [he] at hl
          have := vt_lfSet (v := v) hl
          rw [z] at this
          exact this
        · intro LU' LE' RL' N hM hN hF hZ hfr2
          rw [vt_ss] at hF hZ
          refine K' LU' LE' RL' N hM hN (by rw [hF, hput]) (fun z' hz' => ?_) (fun y hy => by rw [hfr2 y hy, vt_sn (vt_nin m7 hy)])
          obtain ⟨z1, z2, z3⟩ := hZ z' hz'
          rw [hnl] at z3
          exact ⟨z1, z2, by omega⟩
      · refine br_f (fun q => z ((nI_eq (by omega) (by omega)).mp q)) ⟨vt_i96 hx, nm_e ?_⟩
        refine vt_insGo hx hk e0 R10 M1 hL1 hlen1 hU1 he h41 h1 (fun e' h' => ?_) K'
        rcases List.mem_cons.mp h' with rfl | h'
        · omega
        · have := s3 e' h'; omega
end
end
section
def vt_V (vr : Nat → Nat) (f l : Nat) : List Nat := (List.range' f (l + 1 - f)).map (fun n => vr (n % 4))
theorem vt_V_in {vr : Nat → Nat} {f l r : Nat} : r ∈ vt_V vr f l ↔ ∃ n, f ≤ n ∧ n ≤ l ∧ vr (n % 4) = r := by
  unfold vt_V
  rw [List.mem_map]
  constructor
  · rintro ⟨n, h1, h2⟩
    rw [List.mem_range'_1] at h1
    exact ⟨n, by omega, by omega, h2⟩
  · rintro ⟨n, h1, h2, h3⟩
    exact ⟨n, by rw [List.mem_range'_1]; omega, h3⟩
theorem vt_V_len (vr : Nat → Nat) (f l : Nat) : (vt_V vr f l).length = l + 1 - f := by unfold vt_V; rw [List.length_map, List.length_range']
/-- the tables: C the working one, Cv the kept ones by number modulo 4 -/
def vt_RG (LU : Nat → Nat) (LE : Nat → List (Nat × Int32)) (RU : Nat → Nat) (RL : Nat → List Nat) (w : Nat) (vr : Nat → Nat) (f l : Nat) (C : List (Nat × Int32)) (Cv : Nat → List (Nat × Int32)) : Prop :=
  vt_TI RU (w :: vt_V vr f l) ∧ vt_LI LU RU RL ∧ (1 ≤ f ∧ f ≤ l + 1 ∧ l ≤ f + 3) ∧ vt_OK LE (RL w) C ∧ ∀ n, f ≤ n → n ≤ l → vt_OK LE (RL (vr (n % 4))) (Cv (n % 4))
section
variable {D : Nat → List (Nat × Int32)} {T V : List Nat} {LU : Nat → Nat} {LE : Nat → List (Nat × Int32)} {RU : Nat → Nat} {RL : Nat → List Nat} {w : Nat} {vr : Nat → Nat} {f l : Nat} {fw ff fl : Int32} {aU aS aK aV bU bS bL aR : Nat → Int32}
variable {C : List (Nat × Int32)} {Cv : Nat → List (Nat × Int32)} {ks vs : Nat → Int32}
theorem vt_and3 {n : Nat} (h : n < 2 ^ 31) : nI n &&& 3 = nI (n % 4) := pk_andN (n := n) (by omega) (m := 3) 2 (by decide)
theorem vt_rem4 {n : Nat} (h : n < 2 ^ 31) : nI n - nI n / 4 * 4 = nI (n % 4) := pk_rem (a := n) (d := 4) h (by decide) (by decide)
/-! rootOf and table -/
theorem vt_both (R : vt_RC LU LE RU RL w vr f l fw ff fl aU aS aK aV bU bS bL aR) (G : vt_RG LU LE RU RL w vr f l (vt_yt ks vs 0) (fun j => vt_yt ks vs (1 + j))) (hl : l < 1000) (p0 : Int32) :
    (∃ r t, r < 8 ∧ t < 5 ∧ vt_OK LE (RL r) (vt_yt ks vs t) ∧ (∀ po : Int32 → Prop, po (nI r) → wpX_rootOf po (fw, ff, fl, aU, aS, aK, aV, bU, bS, bL, aR) p0) ∧ (∀ po : Int32 → Prop, po (nI t) → wpY_table po (nI f, nI l, ks, vs) p0)) ∨
    ((∀ po : Int32 → Prop, po (-1) → wpX_rootOf po (fw, ff, fl, aU, aS, aK, aV, bU, bS, bL, aR) p0) ∧ (∀ po : Int32 → Prop, po (-1) → wpY_table po (nI f, nI l, ks, vs) p0)) := by
  obtain ⟨rfl, rfl, rfl, hw, hU, hE, hB, hT, hR⟩ := R
  obtain ⟨g1, g2, g3, g4, g5⟩ := G
  by_cases z : p0 = 0
  · left
    refine ⟨w, 0, hw, by omega, g4, fun po hp => ?_, fun po hp => ?_⟩
    · unfold wpX_rootOf; dsimp only; exact br_t z hp
    · unfold wpY_table; dsimp only; exact br_t z hp
  · by_cases z1 : p0 < nI f
    · right
      refine ⟨fun po hp => ?_, fun po hp => ?_⟩
      · unfold wpX_rootOf; dsimp only; refine br_f z ?_; unfold wpX_isKept; dsimp only; exact br_t z1 (br_t rfl hp)
      · unfold wpY_table; dsimp only; exact br_f z (br_t z1 hp)
    · by_cases z2 : nI l < p0
      · right
        refine ⟨fun po hp => ?_, fun po hp => ?_⟩
        · unfold wpX_rootOf; dsimp only; refine br_f z ?_; unfold wpX_isKept; dsimp only; exact br_f z1 (br_t z2 (br_t rfl hp))
        · unfold wpY_table; dsimp only; exact br_f z (br_f z1 (br_t z2 hp))
      · have hp0 : ¬ p0 < 0 := fun q => by
          rw [Int32.lt_iff_toInt_lt] at q z1
          rw [nI_toInt (by omega)] at z1
          rw [show (0 : Int32).toInt = 0 from by decide] at q
          omega
        obtain ⟨n, hn, rfl⟩ := nI_of hp0
        have h1 : f ≤ n := Nat.le_of_not_lt (fun q => z1 (nI_lt q (by omega)))
        have h2 : n ≤ l := Nat.le_of_not_lt (fun q => z2 (nI_lt q hn))
        obtain ⟨r1, r2⟩ := hR (n % 4) (by omega)
        have ca : (nI (n % 4)).toNatClampNeg = n % 4 := nI_clamp (by omega)
        left
        refine ⟨vr (n % 4), 1 + n % 4, r2, by omega, g5 n h1 h2, fun po hp => ?_, fun po hp => ?_⟩
        · unfold wpX_rootOf; dsimp only; refine br_f z ?_; unfold wpX_isKept; dsimp only; refine br_f z1 (br_f z2 (br_f (by decide) ?_))
          rw [vt_and3 hn, ca, r1]
          exact ⟨vp_in_nI (by omega) (by decide), hp⟩
        · unfold wpY_table; dsimp only; refine br_f z (br_f z1 (br_f z2 ⟨by decide, ?_⟩))
          rw [vt_rem4 hn]
          rw [show (1 : Int32) + nI (n % 4) = nI (1 + n % 4) from nI_add 1 (n % 4)]
          exact hp
theorem vt_len16A {LE : Nat → List (Nat × Int32)} : ∀ {L : List Nat}, (∀ x ∈ L, 2 ≤ (LE x).length) → 2 * L.length ≤ (L.flatMap LE).length := by
  intro L
  induction L with
  | nil => intro _; exact Nat.zero_le _
  | cons a L ih =>
    intro h
    have h1 := h a (by simp)
    have h2 := ih (fun x hx => h x (List.mem_cons_of_mem _ hx))
    rw [List.flatMap_cons, List.length_append, List.length_cons]
    omega
theorem vt_len16 {L : List Nat} (h : vt_OK LE L C) (hs : vt_so C) (h32 : ∀ e ∈ C, e.1 < 32) : L.length ≤ 16 := by
  by_cases z : 2 ≤ L.length
  · have h1 := vt_len16A (h.2.1.2 z)
    have h2 := vt_so_len hs h32
    rw [h.2.2] at h1
    omega
  · omega
/-- the end of a change: the working root is its own -/
theorem vt_RGend (M : vt_MI D (w :: vt_V vr f l) LU LE RU RL w) (hr : 1 ≤ f ∧ f ≤ l + 1 ∧ l ≤ f + 3) (hO : vt_OK LE (RL w) C) (h8 : ∀ j, j < 4 → vr j < 8) (hD : ∀ n, f ≤ n → n ≤ l → D (vr (n % 4)) = Cv (n % 4)) : vt_RG LU LE RU RL w vr f l C Cv := by
  obtain ⟨m1, m2, m3, m4, m5, m6, m7, m8⟩ := M
  refine ⟨m1, m4, hr, hO, fun n h1 h2 => ?_⟩
  have hin : vr (n % 4) ∈ vt_V vr f l := vt_V_in.mpr ⟨n, h1, h2, rfl⟩
  have hlt := h8 (n % 4) (by omega)
  have hc := m1 w m6
  rw [m5, List.count_cons_self] at hc
  have hnw : vr (n % 4) ≠ w := fun q => by
    rw [q] at hin
    have := List.count_pos_iff.mpr hin
    omega
  have := m8 (vr (n % 4)) hlt ((vt_TI_in m1 hlt).mpr (List.mem_cons_of_mem _ hin)) hnw
  rw [hD n h1 h2] at this
  exact this
/-! put -/
theorem vt_put_mid {k : Nat} {v : Int32} {P M Q : List (Nat × Int32)} (h1 : ∀ e ∈ P, (e.1 : Int) < (k : Int)) (h3 : ∀ e ∈ Q, (k : Int) < (e.1 : Int)) : vt_put k v (P ++ (M ++ Q)) = P ++ (vt_put k v M ++ Q) := by
  unfold vt_put
  rw [vt_lw_app, vt_lw_app, vt_up_app, vt_up_app, vt_lw_all h1, vt_lw_no (A := Q) (fun e he => by have := h3 e he; omega),
    vt_up_no (A := P) (fun e he => by have := h1 e he; omega), vt_up_all h3]
  simp
theorem vt_putOK {LE LE' : Nat → List (Nat × Int32)} {P Q N : List Nat} {o k : Nat} {v : Int32} (hO : vt_OK LE (P ++ o :: Q) C) (h1 : ∀ e ∈ P.flatMap LE, (e.1 : Int) < (k : Int)) (h3 : ∀ e ∈ Q.flatMap LE, (k : Int) < (e.1 : Int))
    (hd : (P ++ N ++ Q).Nodup) (hN : N.flatMap LE' = vt_put k v (LE o))
    (hZ : ∀ z ∈ N, 1 ≤ (LE' z).length ∧ (LE' z).length ≤ 4 ∧ (2 ≤ (LE' z).length ∨ (N.length = 1 ∧ (LE o).length ≤ (LE' z).length))) (hfr : ∀ y, y ∈ P ∨ y ∈ Q → LE' y = LE y) : vt_OK LE' (P ++ N ++ Q) (vt_put k v C) := by
  obtain ⟨o1, ⟨o2, o3⟩, o4⟩ := hO
  refine ⟨hd, ⟨fun x hx => ?_, fun h2 x hx => ?_⟩, ?_⟩
  · rcases List.mem_append.mp hx with hx | hx
    · rcases List.mem_append.mp hx with hx | hx
      · rw [hfr x (Or.inl hx)]; exact o2 x (by simp [hx])
      · exact ⟨(hZ x hx).1, (hZ x hx).2.1⟩
    · rw [hfr x (Or.inr hx)]; exact o2 x (by simp [hx])
  · simp only [List.length_append] at h2
    have hPQ : ∀ y, y ∈ P ∨ y ∈ Q → 2 ≤ (P ++ o :: Q).length := fun y hy => by
      simp only [List.length_append, List.length_cons]
      rcases hy with hy | hy
      · have := List.length_pos_of_mem hy; omega
      · have := List.length_pos_of_mem hy; omega
    rcases List.mem_append.mp hx with hx | hx
    · rcases List.mem_append.mp hx with hx | hx
      · rw [hfr x (Or.inl hx)]; exact o3 (hPQ x (Or.inl hx)) x (by simp [hx])
      · rcases (hZ x hx).2.2 with q | ⟨q1, q2⟩
        · exact q
        · have := o3 (by simp only [List.length_append, List.length_cons]; omega) o (by simp)
          omega
    · rw [hfr x (Or.inr hx)]; exact o3 (hPQ x (Or.inr hx)) x (by simp [hx])
  · rw [← o4, vt_fm, vt_put_mid h1 h3, List.flatMap_append, List.flatMap_append, hN, vt_fmc (fun y hy => hfr y (Or.inl hy)), vt_fmc (fun y hy => hfr y (Or.inr hy)), List.append_assoc]
theorem vt_Xput {post : Int32 → SX → Prop} {k : Nat} {v : Int32} (hk : k < 32) (R : vt_RC LU LE RU RL w vr f l fw ff fl aU aS aK aV bU bS bL aR) (G : vt_RG LU LE RU RL w vr f l C Cv) (hs : vt_so C) (h32 : ∀ e ∈ C, e.1 < 32)
    (K : ∀ LU' LE' RU' RL' w', vt_RG LU' LE' RU' RL' w' vr f l (vt_put k v C) Cv → ∀ fw' ff' fl' aU' aS' aK' aV' bU' bS' bL' aR', vt_RC LU' LE' RU' RL' w' vr f l fw' ff' fl' aU' aS' aK' aV' bU' bS' bL' aR' → post 1 (fw', ff', fl', aU', aS', aK', aV', bU', bS', bL', aR')) : wpX_put post (fw, ff, fl, aU, aS, aK, aV, bU, bS, bL, aR) (nI k) v := by
  have R0 := R
  obtain ⟨_, _, _, hw, hU, hE, hB, hT, hR⟩ := R
  obtain ⟨g1, g2, g3, g4, g5⟩ := G
  have hV8 : ∀ r ∈ w :: vt_V vr f l, r < 8 := fun r hr => by
    rcases List.mem_cons.mp hr with rfl | hr
    · exact hw
    · obtain ⟨n, _, _, rfl⟩ := vt_V_in.mp hr
      exact (hR (n % 4) (by omega)).2
  have h5 : (w :: vt_V vr f l).length ≤ 5 := by rw [List.length_cons, vt_V_len]; omega
  have kz : (nI k).toInt = (k : Int) := nI_toInt (by omega)
  unfold wpX_put
  dsimp only
  refine br_f (nI_pos (by omega)) (br_t (nI_lt (b := 32) hk (by decide)) ?_)
  refine vt_ownRootM (D := fun r => (RL r).flatMap LE) R0 g1 h5 hV8 g2 g4 (fun r hr => ?_) (fun LU1 RU1 RL1 w1 M1 O1 => ?_)
  · obtain ⟨n, h1, h2, rfl⟩ := vt_V_in.mp hr
    obtain ⟨a, b, c⟩ := g5 n h1 h2
    exact ⟨a, b, rfl⟩
  · intro fw' ff' fl' aU' aS' aK' aV' bU' bS' bL' aR' R1
    have e1 := R1.1
    subst e1
    dsimp only
    have hD : ∀ n, f ≤ n → n ≤ l → (fun r => (RL r).flatMap LE) (vr (n % 4)) = Cv (n % 4) := fun n h1 h2 => (g5 n h1 h2).2.2
    have h8 : ∀ j, j < 4 → vr j < 8 := fun j hj => (hR j hj).2
    refine vt_place R1 M1.2.2.2.2.2.1 O1 hs (fun h0 => ?_) (fun A x B h hA hB => ?_)
    · refine br_f vt_neg1 ?_
      obtain ⟨m1, m2, m3, m4, m5, m6, m7, m8⟩ := M1
      have hT1 := R1.2.2.2.2.2.2.2.1
      refine vt_freshLeaf R1 (vt_fresh m1 m2 m3 m4 (fun r hr => (hT1 r hr).2.1)) (fun x hx hx0 => ?_)
      intro fw'' ff'' fl'' aU'' aS'' aK'' aV'' bU'' bS'' bL'' aR'' R2
      have e2 := R2.1
      subst e2
      dsimp only
      have hL0 : RL1 w1 = [] ++ [] := h0
      refine vt_insertLeaf (P := []) (Q := []) R2 hx hL0 (by rw [h0]; simp) rfl rfl ?_
      intro fw''' ff''' fl''' aU''' aS''' aK''' aV''' bU''' bS''' bL''' aR''' R3
      dsimp only
      have hM := vt_M2 (P := []) (Q := []) ⟨m1, m2, m3, m4, m5, m6, m7, m8⟩ hx hx0 hL0 []
      refine vt_put45 (P := []) (Q := []) (o := x) hk R3 hM vt_ss rfl (by rw [vt_ss]; simp) (by rw [vt_ss]; exact List.Pairwise.nil) (by rw [vt_ss]; simp) (fun LU' LE' RL' N hM' hN hF hZ hfr => ?_)
      intro fw'''' ff'''' fl'''' aU'''' aS'''' aK'''' aV'''' bU'''' bS'''' bL'''' aR'''' R4
      refine K LU' LE' RU1 RL' w1 (vt_RGend hM' g3 ?_ h8 hD) _ _ _ _ _ _ _ _ _ _ _ R4
      have hC : C = [] := by rw [← O1.2.2, h0]; rfl
      rw [vt_ss] at hF hZ
      rw [List.nil_append, List.append_nil] at hN
      rw [hN, hC]
      have hd := hM'.2.2.2.2.2.2.1
      rw [hN] at hd
      refine ⟨hd, ⟨fun z hz => ⟨(hZ z hz).1, (hZ z hz).2.1⟩, fun h2 z hz => ?_⟩, hF⟩
      rcases (hZ z hz).2.2 with q | ⟨q, _⟩
      · exact q
      · omega
    · refine br_t (nI_pos' ?_) ?_
      · have h1 := vt_len16 O1 hs h32
        have h2 := vt_lt h
        omega
      · have hs1 := hs
        rw [← O1.2.2, h, vt_fm] at hs1
        obtain ⟨_, s2, _⟩ := vt_so_app hs1
        obtain ⟨s3, _, _⟩ := vt_so_app s2
        rw [kz] at hA hB
        refine vt_put45 (P := A) (Q := B) (o := x) hk R1 M1 h rfl (vt_len16 O1 hs h32) s3 (O1.2.1.1 x (by rw [h]; simp)).2 (fun LU' LE' RL' N hM' hN hF hZ hfr => ?_)
        intro fw'''' ff'''' fl'''' aU'''' aS'''' aK'''' aV'''' bU'''' bS'''' bL'''' aR'''' R4
        refine K LU' LE' RU1 RL' w1 (vt_RGend hM' g3 ?_ h8 hD) _ _ _ _ _ _ _ _ _ _ _ R4
        have hd := hM'.2.2.2.2.2.2.1
        rw [hN] at hd ⊢
        rw [h] at O1
        exact vt_putOK O1 hA hB hd hF hZ hfr
end
end
section
section
variable {fw ff fl : Int32} {aU aS aK aV bU bS bL aR : Nat → Int32}
theorem vt_rshL {post : Int32 → SX → Prop} {x s : Nat} {pl : Int32} (hx : x < 96) (hS : aS x = nI s) (hs : s ≤ 4) :
    ∀ (d i n : Nat) (aK aV : Nat → Int32), i + d = s → d < n → (∀ j, j ≤ s → ∃ y, y < 32 ∧ aK (x * 5 + j) = nI y) →
    (∀ n aK' aV', (∀ c, c < x * 5 + i → aK' c = aK c ∧ aV' c = aV c) → (∀ c, x * 5 + s ≤ c → aK' c = aK c ∧ aV' c = aV c) →
      (∀ j, i ≤ j → j < s → aK' (x * 5 + j) = aK (x * 5 + j + 1) ∧ aV' (x * 5 + j) = aV (x * 5 + j + 1)) → wX_remove_57 post pl (nI x) (n + 1) (nI s) fw ff fl aU aS aK' aV' bU bS bL aR) →
    wX_remove_57 post pl (nI x) n (nI i) fw ff fl aU aS aK aV bU bS bL aR := by
  have cx : (nI x).toNatClampNeg = x := nI_clamp (by omega)
  intro d
  induction d with
  | zero =>
    intro i n aK aV h hn hv K
    obtain ⟨n, rfl⟩ : ∃ m, n = m + 1 := ⟨n - 1, by omega⟩
    have e : i = s := by omega
    rw [e]
    exact K n aK aV (fun _ _ => ⟨rfl, rfl⟩) (fun _ _ => ⟨rfl, rfl⟩) (fun j h1 h2 => by omega)
  | succ d ih =>
    intro i n aK aV h hn hv K
    obtain ⟨n, rfl⟩ : ∃ m, n = m + 1 := ⟨n - 1, by omega⟩
    obtain ⟨y, hy, hq⟩ := hv (i + 1) (by omega)
    simp only [wX_remove_57, cx, hS]
    refine ⟨vt_i96 hx, br_f (nI_ge (by omega) (by omega)) (vt_copy x (i + 1) x i y hx (by omega) hx (by omega) rfl (nI_1 i) rfl rfl hq (by omega) ?_)⟩
    dsimp only
    refine nm_r (nI_1 i) (ih (i + 1) n _ _ (by omega) (by omega) (fun j hj => ?_) (fun n' aK' aV' h1 h2 h3 => K n' aK' aV' (fun c hc => ?_) (fun c hc => ?_) (fun j hj hj2 => ?_)))
    · by_cases q : j = i
      · exact ⟨y, hy, by rw [q, pk_us]⟩
      · rw [pk_un (by omega)]; exact hv j hj
    · rw [(h1 c (by omega)).1, (h1 c (by omega)).2, pk_un (by omega), pk_un (by omega)]; exact ⟨rfl, rfl⟩
    · rw [(h2 c hc).1, (h2 c hc).2, pk_un (by omega), pk_un (by omega)]; exact ⟨rfl, rfl⟩
    · by_cases q : j = i
      · subst q
        rw [(h1 _ (by omega)).1, (h1 _ (by omega)).2, pk_us, pk_us, Nat.add_assoc, hq]
        exact ⟨rfl, rfl⟩
      · rw [(h3 j (by omega) hj2).1, (h3 j (by omega) hj2).2, pk_un (by omega), pk_un (by omega)]
        exact ⟨rfl, rfl⟩
theorem vt_fshL {post : SX → Prop} {x s : Nat} (hx : x < 96) (hS : aS x = nI s) (hs : s ≤ 4) :
    ∀ (d i n : Nat) (aK aV : Nat → Int32), i + d = s → d < n → (∀ j, j ≤ s → ∃ y, y < 32 ∧ aK (x * 5 + j) = nI y) →
    (∀ n aK' aV', (∀ c, c < x * 5 + i → aK' c = aK c ∧ aV' c = aV c) → (∀ c, x * 5 + s ≤ c → aK' c = aK c ∧ aV' c = aV c) →
      (∀ j, i ≤ j → j < s → aK' (x * 5 + j) = aK (x * 5 + j + 1) ∧ aV' (x * 5 + j) = aV (x * 5 + j + 1)) → wX_fill_139 post (nI x) (n + 1) (nI s) fw ff fl aU aS aK' aV' bU bS bL aR) →
    wX_fill_139 post (nI x) n (nI i) fw ff fl aU aS aK aV bU bS bL aR := by
  have cx : (nI x).toNatClampNeg = x := nI_clamp (by omega)
  intro d
  induction d with
  | zero =>
    intro i n aK aV h hn hv K
    obtain ⟨n, rfl⟩ : ∃ m, n = m + 1 := ⟨n - 1, by omega⟩
    have e : i = s := by omega
    rw [e]
    exact K n aK aV (fun _ _ => ⟨rfl, rfl⟩) (fun _ _ => ⟨rfl, rfl⟩) (fun j h1 h2 => by omega)
  | succ d ih =>
    intro i n aK aV h hn hv K
    obtain ⟨n, rfl⟩ : ∃ m, n = m + 1 := ⟨n - 1, by omega⟩
    obtain ⟨y, hy, hq⟩ := hv (i + 1) (by omega)
    simp only [wX_fill_139, cx, hS]
    refine ⟨vt_i96 hx, br_f (nI_ge (by omega) (by omega)) (vt_copy x (i + 1) x i y hx (by omega) hx (by omega) rfl (nI_1 i) rfl rfl hq (by omega) ?_)⟩
    dsimp only
    refine nm_r (nI_1 i) (ih (i + 1) n _ _ (by omega) (by omega) (fun j hj => ?_) (fun n' aK' aV' h1 h2 h3 => K n' aK' aV' (fun c hc => ?_) (fun c hc => ?_) (fun j hj hj2 => ?_)))
    · by_cases q : j = i
      · exact ⟨y, hy, by rw [q, pk_us]⟩
      · rw [pk_un (by omega)]; exact hv j hj
    · rw [(h1 c (by omega)).1, (h1 c (by omega)).2, pk_un (by omega), pk_un (by omega)]; exact ⟨rfl, rfl⟩
    · rw [(h2 c hc).1, (h2 c hc).2, pk_un (by omega), pk_un (by omega)]; exact ⟨rfl, rfl⟩
    · by_cases q : j = i
      · subst q
        rw [(h1 _ (by omega)).1, (h1 _ (by omega)).2, pk_us, pk_us, Nat.add_assoc, hq]
        exact ⟨rfl, rfl⟩
      · rw [(h3 j (by omega) hj2).1, (h3 j (by omega) hj2).2, pk_un (by omega), pk_un (by omega)]
        exact ⟨rfl, rfl⟩
theorem vt_fupL {post : SX → Prop} {x : Nat} {x2 : Int32} (hx : x < 96) :
    ∀ (d n : Nat) (aK aV : Nat → Int32), d ≤ 4 → d < n → (∀ j, j < d → ∃ y, y < 32 ∧ aK (x * 5 + j) = nI y) →
    (∀ n aK' aV', (∀ c, c < x * 5 → aK' c = aK c ∧ aV' c = aV c) → (∀ c, x * 5 + d < c → aK' c = aK c ∧ aV' c = aV c) →
      (∀ j, j < d → aK' (x * 5 + 1 + j) = aK (x * 5 + j) ∧ aV' (x * 5 + 1 + j) = aV (x * 5 + j)) → wX_fill_179 post x2 (nI x) (n + 1) (nI 0) fw ff fl aU aS aK' aV' bU bS bL aR) →
    wX_fill_179 post x2 (nI x) n (nI d) fw ff fl aU aS aK aV bU bS bL aR := by
  intro d
  induction d with
  | zero =>
    intro n aK aV h hn hv K
    obtain ⟨n, rfl⟩ : ∃ m, n = m + 1 := ⟨n - 1, by omega⟩
    exact K n aK aV (fun _ _ => ⟨rfl, rfl⟩) (fun _ _ => ⟨rfl, rfl⟩) (fun j hj => by omega)
  | succ d ih =>
    intro n aK aV h hn hv K
    obtain ⟨n, rfl⟩ : ∃ m, n = m + 1 := ⟨n - 1, by omega⟩
    obtain ⟨y, hy, hq⟩ := hv d (by omega)
    simp only [wX_fill_179]
    refine br_f (nI_nle (by omega) (by omega)) (vt_copy x d x (d + 1) y hx (by omega) hx (by omega) rfl (nI_pred d) rfl rfl hq (by omega) ?_)
    dsimp only
    refine nm_r (pk_m1 d) (ih n _ _ (by omega) (by omega) (fun j hj => ?_) (fun n' aK' aV' h1 h2 h3 => K n' aK' aV' (fun c hc => ?_) (fun c hc => ?_) (fun j hj => ?_)))
    · rw [pk_un (by omega)]; exact hv j (by omega)
    · rw [(h1 c hc).1, (h1 c hc).2, pk_un (by omega), pk_un (by omega)]; exact ⟨rfl, rfl⟩
    · rw [(h2 c (by omega)).1, (h2 c (by omega)).2, pk_un (by omega), pk_un (by omega)]; exact ⟨rfl, rfl⟩
    · by_cases q : j = d
      · subst q
        have e2 : x * 5 + 1 + j = x * 5 + (j + 1) := by omega
        rw [(h2 _ (by omega)).1, (h2 _ (by omega)).2, e2, pk_us, pk_us, hq]
        exact ⟨rfl, rfl⟩
      · rw [(h3 j (by omega)).1, (h3 j (by omega)).2, pk_un (by omega), pk_un (by omega)]
        exact ⟨rfl, rfl⟩
end
end
section
theorem vt_lfCat {A B : List (Nat × Int32)} {x : Nat} {aS aK aV aS' aK' aV' : Nat → Int32} (h : vt_lf A x aS aK aV) (h5 : A.length + B.length ≤ 5) (hS : aS' x = nI (A.length + B.length))
    (h1 : ∀ c, c < x * 5 + A.length → aK' c = aK c ∧ aV' c = aV c) (h2 : ∀ j e, B[j]? = some e → aK' (x * 5 + A.length + j) = nI e.1 ∧ aV' (x * 5 + A.length + j) = e.2 ∧ e.1 < 32) : vt_lf (A ++ B) x aS' aK' aV' := by
  obtain ⟨_, _, hG⟩ := h
  refine ⟨by rw [hS, List.length_append], by rw [List.length_append]; exact h5, fun j e he => ?_⟩
  have hj := vt_len he
  rw [List.length_append] at hj
  by_cases q : j < A.length
  · rw [List.getElem?_append_left q] at he
    rw [(h1 _ (by omega)).1, (h1 _ (by omega)).2]
    exact hG j e he
  · rw [List.getElem?_append_right (by omega)] at he
    have := h2 (j - A.length) e he
    rw [show x * 5 + A.length + (j - A.length) = x * 5 + j by omega] at this
    exact this
section
variable {D : Nat → List (Nat × Int32)} {T V : List Nat} {LU : Nat → Nat} {LE : Nat → List (Nat × Int32)} {RU : Nat → Nat} {RL : Nat → List Nat} {w : Nat} {vr : Nat → Nat} {f l : Nat} {fw ff fl : Int32} {aU aS aK aV bU bS bL aR : Nat → Int32}
theorem vt_f38L {post : SX → Prop} {a b sa : Nat} {x1 x4 : Int32} {es : List (Nat × Int32)} (ha : a < 96) (hb : b < 96) (hab : a ≠ b) (hSa : aS a = nI sa) (hSb : aS b = nI es.length) (h5 : sa + es.length ≤ 5) :
    ∀ (e2 e1 : List (Nat × Int32)) (i n : Nat) (aK aV : Nat → Int32), es = e1 ++ e2 → e1.length = i → e2.length < n →
    (∀ j e, es[j]? = some e → aK (b * 5 + j) = nI e.1 ∧ aV (b * 5 + j) = e.2 ∧ e.1 < 32) → (∀ j e, e1[j]? = some e → aK (a * 5 + sa + j) = nI e.1 ∧ aV (a * 5 + sa + j) = e.2) →
    (∀ n aK' aV', (∀ c, (c < a * 5 + sa ∨ a * 5 + 5 ≤ c) → aK' c = aK c ∧ aV' c = aV c) → (∀ j e, es[j]? = some e → aK' (a * 5 + sa + j) = nI e.1 ∧ aV' (a * 5 + sa + j) = e.2) →
      wX_fill_38 post x1 (nI a) (nI b) x4 (n + 1) (nI es.length) fw ff fl aU aS aK' aV' bU bS bL aR) →
    wX_fill_38 post x1 (nI a) (nI b) x4 n (nI i) fw ff fl aU aS aK aV bU bS bL aR := by
  have ca : (nI a).toNatClampNeg = a := nI_clamp (by omega)
  have cb : (nI b).toNatClampNeg = b := nI_clamp (by omega)
  intro e2
  induction e2 with
  | nil =>
    intro e1 i n aK aV h hi hn hG h1 K
    obtain ⟨n, rfl⟩ : ∃ m, n = m + 1 := ⟨n - 1, by omega⟩
    have hl := vt_le0 h
    rw [List.append_nil] at h
    have e : i = es.length := by omega
    rw [e]
    exact K n aK aV (fun _ _ => ⟨rfl, rfl⟩) (by rw [h]; exact h1)
  | cons e e2 ih =>
    intro e1 i n aK aV h hi hn hG h1 K
    obtain ⟨n, rfl⟩ : ∃ m, n = m + 1 := ⟨n - 1, by omega⟩
    have hl := vt_lt h
    have g : ¬ nI es.length ≤ nI i := nI_ge (by omega) (by omega)
    obtain ⟨q1, q2, q3⟩ := hG i e (hi ▸ vt_at' h)
    simp only [wX_fill_38, ca, cb, hSa, hSb]
    refine ⟨vt_i96 hb, br_f g ⟨vt_i96 ha, ?_⟩⟩
    refine vt_copy b i a (sa + i) e.1 hb (by omega) ha (by omega) rfl rfl rfl (nI_add sa i) q1 (by omega) ?_
    dsimp only
    refine nm_r (nI_1 i) ?_
    refine ih (e1 ++ [e]) (i + 1) n _ _ (vt_ap h) (by rw [vt_la, hi]) (by simp only [List.length_cons] at hn; omega) (fun j e' hy => ?_) (fun j e' hy => ?_) (fun n' aK' aV' k1 k2 => K n' aK' aV' (fun c hc => ?_) k2)
    · have hj := vt_len hy
      rw [pk_un (by omega), pk_un (by omega)]
      exact hG j e' hy
    · have hj := vt_len hy
      rw [vt_la] at hj
      by_cases q : j = i
      · subst q
        rw [Nat.add_assoc, pk_us, pk_us, q2]
        rw [← hi, vt_at] at hy
        cases hy
        exact ⟨rfl, rfl⟩
      · rw [pk_un (by omega), pk_un (by omega)]
        rw [List.getElem?_append_left (by omega)] at hy
        exact h1 j e' hy
    · rw [(k1 c hc).1, (k1 c hc).2, pk_un (by omega), pk_un (by omega)]
      exact ⟨rfl, rfl⟩
/-- two leaves become one -/
theorem vt_fJoin {post : SX → Prop} {a b : Nat} {P Q : List Nat} {x1 x4 : Int32} (R : vt_RC LU LE RU RL w vr f l fw ff fl aU aS aK aV bU bS bL aR) (M : vt_MI D T LU LE RU RL w) (hL : RL w = P ++ a :: b :: Q) (ha : a < 96) (hb : b < 96) (hab : a ≠ b)
    (hUa : LU a = 1) (hUb : LU b = 1) (e0 : x1 = nI P.length) (e4 : x4 = nI ((LE a).length + (LE b).length)) (h4 : (LE a).length + (LE b).length ≤ 4)
    (K : ∀ LU' LE' RL', vt_MI D T LU' LE' RU RL' w → RL' w = P ++ [a] ++ Q → LE' a = LE a ++ LE b → (∀ y, y ∈ P ∨ y ∈ Q → LE' y = LE y) → ∀ fw' ff' fl' aU' aS' aK' aV' bU' bS' bL' aR', vt_RC LU' LE' RU RL' w vr f l fw' ff' fl' aU' aS' aK' aV' bU' bS' bL' aR' → post (fw', ff', fl', aU', aS', aK', aV', bU', bS', bL', aR')) :
    ∃ n, wX_fill_38 post x1 (nI a) (nI b) x4 n 0 fw ff fl aU aS aK aV bU bS bL aR := by
  obtain ⟨rfl, rfl, rfl, hw', hU', hE', hB', hT', hR'⟩ := R
  subst e0 e4
  have hla := hE' a ha
  obtain ⟨aS1, a5, aG⟩ := hE' a ha
  obtain ⟨bS1, b5, bG⟩ := hE' b hb
  have ca : (nI a).toNatClampNeg = a := nI_clamp (by omega)
  have cb : (nI b).toNatClampNeg = b := nI_clamp (by omega)
  refine ⟨(LE b).length + 1, vt_f38L ha hb hab aS1 bS1 (by omega) (LE b) [] 0 _ aK aV rfl rfl (Nat.lt_succ_self _) bG (fun j e h => by cases h) (fun n aK' aV' k1 k2 => ?_)⟩
  have hst : vp_nar .byte (nI ((LE a).length + (LE b).length)).toInt8.toInt32 = nI ((LE a).length + (LE b).length) := vt_n2 rfl (by omega)
  simp only [wX_fill_38, ca, cb, bS1, hst, forall_eq]
  refine ⟨vt_i96 hb, br_t (nI_le (Nat.le_refl _) (by omega)) ⟨vt_i96 ha, ?_⟩⟩
  have hin : a ∈ RL w := by rw [hL]; simp
  have m7 := M.2.2.2.2.2.2.1
  rw [hL] at m7
  have hE2 : vt_cE (vt_set LE a (LE a ++ LE b)) (upd aS a (nI ((LE a).length + (LE b).length))) aK' aV' :=
    vt_cE_set hE' a _ (vt_lfCat hla (by omega) pk_us (fun c hc => k1 c (by omega)) (fun j e he => ⟨(k2 j e he).1, (k2 j e he).2, (bG j e he).2.2⟩)) (fun i hi => pk_un hi) (fun c hc => (k1 c (by omega)).1) (fun c hc => (k1 c (by omega)).2)
  refine vt_dropLeaf (P := P ++ [a]) (x := b) (Q := Q) (LU := LU) (LE := vt_set LE a (LE a ++ LE b)) ⟨rfl, rfl, rfl, hw', hU', hE2, hB', hT', hR'⟩ (by rw [hL]; simp) (by omega) (by rw [nI_1, vt_la]) ?_
  intro fw' ff' fl' aU' aS' aK' aV' bU' bS' bL' aR' R'
  dsimp only
  refine K _ _ _ (vt_M4 (P := P ++ [a]) (vt_M1 M ha hin hUa (LE a ++ LE b)) (by rw [hL]; simp)) vt_ss vt_ss (fun y hy => vt_sn ?_) _ _ _ _ _ _ _ _ _ _ _ R'
  exact vt_nin m7 (hy.imp id (fun h => List.mem_cons_of_mem _ h))
/-- the first of the right leaf goes to the left one -/
theorem vt_fLeft {post : SX → Prop} {a b : Nat} {P Q : List Nat} {z : Nat × Int32} {es : List (Nat × Int32)} (R : vt_RC LU LE RU RL w vr f l fw ff fl aU aS aK aV bU bS bL aR) (M : vt_MI D T LU LE RU RL w) (hL : RL w = P ++ a :: b :: Q) (ha : a < 96) (hb : b < 96) (hab : a ≠ b)
    (hUa : LU a = 1) (hUb : LU b = 1) (hz : LE b = z :: es) (h4 : (LE a).length ≤ 4)
    (K : ∀ LU' LE' RL', vt_MI D T LU' LE' RU RL' w → RL' w = P ++ a :: b :: Q → LE' a = LE a ++ [z] → LE' b = es → (∀ y, y ∈ P ∨ y ∈ Q → LE' y = LE y) → ∀ fw' ff' fl' aU' aS' aK' aV' bU' bS' bL' aR', vt_RC LU' LE' RU RL' w vr f l fw' ff' fl' aU' aS' aK' aV' bU' bS' bL' aR' → post (fw', ff', fl', aU', aS', aK', aV', bU', bS', bL', aR')) :
    ∃ n, wX_fill_139 post (nI b) n 0 fw ff fl aU (upd (upd aS a (nI ((LE a).length + 1))) b (nI es.length)) (upd aK (a * 5 + (LE a).length) (nI z.1)) (upd aV (a * 5 + (LE a).length) z.2) bU bS bL aR := by
  obtain ⟨rfl, rfl, rfl, hw', hU', hE', hB', hT', hR'⟩ := R
  have hla := hE' a ha
  have hlb := hE' b hb
  obtain ⟨aS1, a5, aG⟩ := hE' a ha
  obtain ⟨bS1, b5, bG⟩ := hE' b hb
  rw [hz] at hlb bS1 b5 bG
  rw [List.length_cons] at b5
  have cb : (nI b).toNatClampNeg = b := nI_clamp (by omega)
  have hz3 := (bG 0 z rfl).2.2
  refine ⟨es.length + 1, vt_fshL (s := es.length) hb pk_us (by omega) es.length 0 _ _ _ (Nat.zero_add _) (Nat.lt_succ_self _) (fun j hj => ?_) (fun n aK' aV' k1 k2 k3 => ?_)⟩
  · have hj' : (z :: es)[j]? = some ((z :: es)[j]'(by rw [List.length_cons]; omega)) := List.getElem?_eq_getElem _
    obtain ⟨q1, q2, q3⟩ := bG j _ hj'
    rw [pk_un (by omega)]
    exact ⟨_, q3, q1⟩
  · simp only [wX_fill_139, cb]
    refine ⟨vt_i96 hb, br_t (by rw [pk_us]; exact nI_le (Nat.le_refl _) (by omega)) ?_⟩
    have hina : a ∈ RL w := by rw [hL]; simp
    have hinb : b ∈ RL w := by rw [hL]; simp
    have m7 := M.2.2.2.2.2.2.1
    rw [hL] at m7
    have hE1 : vt_cE (vt_set LE a (LE a ++ [z])) (upd aS a (nI ((LE a).length + 1))) (upd aK (a * 5 + (LE a).length) (nI z.1)) (upd aV (a * 5 + (LE a).length) z.2) := by
      refine vt_cE_set hE' a _ (vt_lfCat hla (by rw [List.length_cons, List.length_nil]; omega) pk_us (fun c hc => ⟨pk_un (by omega), pk_un (by omega)⟩) (fun j e he => ?_)) (fun i hi => pk_un hi) (fun c hc => pk_un (by omega)) (fun c hc => pk_un (by omega))
      have hj := vt_len he
      rw [List.length_cons, List.length_nil] at hj
      have hj0 : j = 0 := by omega
      subst hj0
      cases he
      rw [Nat.add_zero]
      exact ⟨pk_us, pk_us, hz3⟩
    have hlb1 := hE1 b hb
    rw [vt_sn (fun q => hab q.symm), hz] at hlb1
    have hE2 : vt_cE (vt_set (vt_set LE a (LE a ++ [z])) b es) (upd (upd aS a (nI ((LE a).length + 1))) b (nI es.length)) aK' aV' := by
      refine vt_cE_set hE1 b _ (vt_lfDel (e1 := []) hlb1 (by rw [pk_us, List.length_nil, Nat.zero_add]) (fun c hc => k1 c (by rw [List.length_nil] at hc; omega)) (fun j h1 h2 => k3 j (Nat.zero_le _) (by rw [List.length_nil] at h2; omega))) (fun i hi => pk_un hi) (fun c hc => ?_) (fun c hc => ?_)
      · rcases hc with hc | hc
        · exact (k1 c (by omega)).1
        · exact (k2 c (by omega)).1
      · rcases hc with hc | hc
        · exact (k1 c (by omega)).2
        · exact (k2 c (by omega)).2
    refine K LU _ RL (vt_M1 (vt_M1 M ha hina hUa (LE a ++ [z])) hb hinb hUb es) hL (by rw [vt_sn hab, vt_ss]) vt_ss (fun y hy => ?_) _ _ _ _ _ _ _ _ _ _ _ ⟨rfl, rfl, rfl, hw', hU', hE2, hB', hT', hR'⟩
    have y1 := vt_nin m7 (hy.imp id (fun h => List.mem_cons_of_mem _ h))
    have y2 : y ≠ b := vt_nin (P := P ++ [a]) (Q := Q) (x := b) (by simpa using m7) (hy.imp (fun h => by simp [h]) id)
    rw [vt_sn y2, vt_sn y1]
/-- the last of the left leaf goes to the right one -/
theorem vt_fRight {post : SX → Prop} {a b : Nat} {P Q : List Nat} {z : Nat × Int32} {es : List (Nat × Int32)} (R : vt_RC LU LE RU RL w vr f l fw ff fl aU aS aK aV bU bS bL aR) (M : vt_MI D T LU LE RU RL w) (hL : RL w = P ++ a :: b :: Q) (ha : a < 96) (hb : b < 96) (hab : a ≠ b)
    (hUa : LU a = 1) (hUb : LU b = 1) (hz : LE a = es ++ [z]) (h4 : (LE b).length ≤ 4)
    (K : ∀ LU' LE' RL', vt_MI D T LU' LE' RU RL' w → RL' w = P ++ a :: b :: Q → LE' a = es → LE' b = z :: LE b → (∀ y, y ∈ P ∨ y ∈ Q → LE' y = LE y) → ∀ fw' ff' fl' aU' aS' aK' aV' bU' bS' bL' aR', vt_RC LU' LE' RU RL' w vr f l fw' ff' fl' aU' aS' aK' aV' bU' bS' bL' aR' → post (fw', ff', fl', aU', aS', aK', aV', bU', bS', bL', aR')) :
    ∃ n, wX_fill_179 post (nI a) (nI b) n (nI (LE b).length) fw ff fl aU aS aK aV bU bS bL aR := by
  obtain ⟨rfl, rfl, rfl, hw', hU', hE', hB', hT', hR'⟩ := R
  have hlb := hE' b hb
  obtain ⟨aS1, a5, aG⟩ := hE' a ha
  obtain ⟨bS1, b5, bG⟩ := hE' b hb
  rw [hz] at aS1 a5 aG
  rw [vt_la] at a5 aS1
  have ca : (nI a).toNatClampNeg = a := nI_clamp (by omega)
  have cb : (nI b).toNatClampNeg = b := nI_clamp (by omega)
  obtain ⟨z1, z2, z3⟩ := aG es.length z (vt_at _ _ _)
  refine ⟨(LE b).length + 1, vt_fupL hb (LE b).length _ aK aV h4 (Nat.lt_succ_self _) (fun j hj => ?_) (fun n aK' aV' k1 k2 k3 => ?_)⟩
  · have hj' : (LE b)[j]? = some ((LE b)[j]'hj) := List.getElem?_eq_getElem _
    obtain ⟨q1, q2, q3⟩ := bG j _ hj'
    exact ⟨_, q3, q1⟩
  · have hst : vp_nar .byte ((nI (es.length + 1) - 1).toInt8.toInt32) = nI es.length := vt_n2 (nI_pred _) (by omega)
    have hst2 : vp_nar .byte ((nI (LE b).length + 1).toInt8.toInt32) = nI ((LE b).length + 1) := vt_n2 (nI_1 _) (by omega)
    have hcell : ∀ c, a * 5 ≤ c → c < a * 5 + 5 → aK' c = aK c ∧ aV' c = aV c := fun c h1 h2 => by
      by_cases q : c < b * 5
      · exact k1 c q
      · exact k2 c (by omega)
    simp only [wX_fill_179, ca, aS1, hst, forall_eq]
    refine br_t (nI_le (a := 0) (Nat.le_refl _) (by decide)) ⟨vt_i96 ha, vt_i96 ha, vt_i96 ha, ?_⟩
    rw [pk_us]
    refine vt_copy a es.length b 0 z.1 ha (by omega) hb (by omega) rfl rfl rfl rfl (by rw [(hcell _ (by omega) (by omega)).1]; exact z1) (by omega) ?_
    dsimp only
    rw [cb, pk_un (fun q => hab q.symm), bS1, hst2, (hcell _ (by omega) (by omega)).2, z2]
    refine ⟨vt_i96 hb, vt_i96 hb, ?_⟩
    have hina : a ∈ RL w := by rw [hL]; simp
    have hinb : b ∈ RL w := by rw [hL]; simp
    have m7 := M.2.2.2.2.2.2.1
    rw [hL] at m7
    have hE1 : vt_cE (vt_set LE a es) (upd aS a (nI es.length)) aK aV := by
      refine vt_cE_set hE' a es ⟨pk_us, by omega, fun j e he => aG j e ?_⟩ (fun i hi => pk_un hi) (fun c hc => rfl) (fun c hc => rfl)
      rw [List.getElem?_append_left (vt_len he)]
      exact he
    have hlb1 := hE1 b hb
    rw [vt_sn (fun q => hab q.symm)] at hlb1
    have hE2 : vt_cE (vt_set (vt_set LE a es) b (z :: LE b)) (upd (upd aS a (nI es.length)) b (nI ((LE b).length + 1))) (upd aK' (b * 5 + 0) (nI z.1)) (upd aV' (b * 5 + 0) z.2) := by
      refine vt_cE_set hE1 b (z :: LE b) (vt_lfIns (e1 := []) (e2 := LE b) (k := z.1) (v := z.2) hlb1 (by rw [List.length_nil]; omega) z3 (by rw [pk_us, List.length_nil, Nat.zero_add]) (fun c hc => ?_) ⟨pk_us, pk_us⟩ (fun j hj => ?_)) (fun i hi => pk_un hi) (fun c hc => ?_) (fun c hc => ?_)
      · rw [List.length_nil] at hc
        rw [pk_un (by omega), pk_un (by omega)]
        exact k1 c (by omega)
      · rw [List.length_nil, Nat.add_zero]
        rw [pk_un (by omega), pk_un (by omega)]
        exact k3 j hj
      · rw [pk_un (by omega)]
        rcases hc with hc | hc
        · exact (k1 c (by omega)).1
        · exact (k2 c (by omega)).1
      · rw [pk_un (by omega)]
        rcases hc with hc | hc
        · exact (k1 c (by omega)).2
        · exact (k2 c (by omega)).2
    refine K LU _ RL (vt_M1 (vt_M1 M ha hina hUa es) hb hinb hUb (z :: LE b)) hL (by rw [vt_sn hab, vt_ss]) vt_ss (fun y hy => ?_) _ _ _ _ _ _ _ _ _ _ _ ⟨rfl, rfl, rfl, hw', hU', hE2, hB', hT', hR'⟩
    have y1 := vt_nin m7 (hy.imp id (fun h => List.mem_cons_of_mem _ h))
    have y2 : y ≠ b := vt_nin (P := P ++ [a]) (Q := Q) (x := b) (by simpa using m7) (hy.imp (fun h => by simp [h]) id)
    rw [vt_sn y2, vt_sn y1]
end
end
section
theorem vt_snoc {α : Type} {L : List α} (h : L ≠ []) : ∃ A z, L = A ++ [z] := ⟨L.dropLast, L.getLast h, (List.dropLast_concat_getLast h).symm⟩
theorem vt_hd {α : Type} {L : List α} (h : L ≠ []) : ∃ z A, L = z :: A := by
  cases L with
  | nil => exact absurd rfl h
  | cons z A => exact ⟨z, A, rfl⟩
section
variable {D : Nat → List (Nat × Int32)} {T V : List Nat} {LU : Nat → Nat} {LE : Nat → List (Nat × Int32)} {RU : Nat → Nat} {RL : Nat → List Nat} {w : Nat} {vr : Nat → Nat} {f l : Nat} {fw ff fl : Int32} {aU aS aK aV bU bS bL aR : Nat → Int32}
variable {C : List (Nat × Int32)} {Cv : Nat → List (Nat × Int32)}
theorem vt_fill {post : SX → Prop} {a b : Nat} {P Q : List Nat} {p0 : Int32} (R : vt_RC LU LE RU RL w vr f l fw ff fl aU aS aK aV bU bS bL aR) (M : vt_MI D T LU LE RU RL w) (hL : RL w = P ++ a :: b :: Q) (e0 : p0 = nI P.length)
    (h1 : ((LE a).length = 1 ∧ 2 ≤ (LE b).length ∧ (LE b).length ≤ 4) ∨ ((LE b).length = 1 ∧ 2 ≤ (LE a).length ∧ (LE a).length ≤ 4))
    (K : ∀ LU' LE' RL' N, vt_MI D T LU' LE' RU RL' w → RL' w = P ++ N ++ Q → N.flatMap LE' = LE a ++ LE b → (∀ z ∈ N, 2 ≤ (LE' z).length ∧ (LE' z).length ≤ 4) → (∀ y, y ∈ P ∨ y ∈ Q → LE' y = LE y) →
      ∀ fw' ff' fl' aU' aS' aK' aV' bU' bS' bL' aR', vt_RC LU' LE' RU RL' w vr f l fw' ff' fl' aU' aS' aK' aV' bU' bS' bL' aR' → post (fw', ff', fl', aU', aS', aK', aV', bU', bS', bL', aR')) : wpX_fill post (fw, ff, fl, aU, aS, aK, aV, bU, bS, bL, aR) p0 := by
  unfold wpX_fill
  dsimp only
  refine vt_ownLeafM R M hL e0 (fun a' LU1 LE1 RL1 ha M1 hL1 hU1 hE1 hfr1 => ?_)
  intro fw' ff' fl' aU' aS' aK' aV' bU' bS' bL' aR' R1
  dsimp only
  refine vt_ownLeafM (P := P ++ [a']) (o := b) (Q := Q) R1 M1 (by rw [hL1]; simp) (by rw [e0, nI_1, vt_la]) (fun b' LU2 LE2 RL2 hb M2 hL2 hU2 hE2 hfr2 => ?_)
  intro fw'' ff'' fl'' aU'' aS'' aK'' aV'' bU'' bS'' bL'' aR'' R2
  dsimp only
  have hL2' : RL2 w = P ++ a' :: b' :: Q := by rw [hL2]; simp
  obtain ⟨fa1, fa2⟩ := hfr2 a' (Or.inl (by simp))
  have hea : LE2 a' = LE a := by rw [fa1, hE1]
  have heb : LE2 b' = LE b := by rw [hE2, (hfr1 b (Or.inr (by simp))).1]
  have hua : LU2 a' = 1 := by rw [fa2, hU1]
  have m7 := M2.2.2.2.2.2.2.1
  have hab : a' ≠ b' := by
    rw [hL2] at m7
    exact vt_nin m7 (Or.inl (by simp))
  have hfr : ∀ y, y ∈ P ∨ y ∈ Q → LE2 y = LE y := fun y hy => by
    rw [(hfr2 y (hy.imp (fun h => by simp [h]) id)).1, (hfr1 y (hy.imp id (fun h => List.mem_cons_of_mem _ h))).1]
  have R20 := R2
  obtain ⟨r1, r2, r3, hw', hU', hE', hB', hT', hR'⟩ := R2
  have sa := (hE' a' ha).1
  have sb := (hE' b' hb).1
  rw [hea] at sa
  rw [heb] at sb
  have ca : (nI a').toNatClampNeg = a' := nI_clamp (by omega)
  have cb : (nI b').toNatClampNeg = b' := nI_clamp (by omega)
  rw [ca, cb, sa, sb]
  refine ⟨vt_i96 ha, vt_i96 hb, nm_r (nI_add _ _) ?_⟩
  by_cases z : 4 < (LE a).length + (LE b).length
  · refine br_t (nI_lt (a := 4) z (by omega)) ⟨vt_i96 ha, ?_⟩
    by_cases z2 : 2 ≤ (LE a).length
    · refine br_t (nI_le (a := 2) z2 (by omega)) ⟨vt_i96 hb, nm_e ?_⟩
      have hne : LE a ≠ [] := fun q => by rw [q] at z2; simp at z2
      obtain ⟨es, zz, hz⟩ := vt_snoc hne
      have hzl : (LE a).length = es.length + 1 := by rw [hz, vt_la]
      have := vt_fRight (post := post) (P := P) (Q := Q) (z := zz) (es := es) R20 M2 hL2' ha hb hab hua hU2 (by rw [hea]; exact hz) (by rw [heb]; omega) (fun LU' LE' RL' M' hL' g1 g2 g3 => ?_)
      · rw [heb] at this; exact this
      · refine K LU' LE' RL' [a', b'] M' (by rw [hL']; simp) ?_ (fun y hy => ?_) (fun y hy => by rw [g3 y hy, hfr y hy])
        · rw [List.flatMap_cons, List.flatMap_cons, g1, g2, heb, hz]; simp
        · rcases List.mem_cons.mp hy with rfl | hy
          · rw [g1]; omega
          · rw [List.mem_singleton.mp hy, g2, heb, List.length_cons]; omega
    · refine br_f (nI_ge (b := 2) (by omega) (by decide)) ⟨vt_i96 ha, ?_⟩
      have hne : LE b ≠ [] := fun q => by rw [q] at z; simp at z; omega
      obtain ⟨zz, es, hz⟩ := vt_hd hne
      have hzl : (LE b).length = es.length + 1 := by rw [hz, List.length_cons]
      have g0 := (hE' b' hb).2.2 0 zz (by rw [heb, hz]; rfl)
      refine vt_copy b' 0 a' (LE a).length zz.1 hb (by omega) ha (by omega) rfl rfl rfl rfl g0.1 (by omega) ?_
      dsimp only
      have hst : vp_nar .byte ((nI (LE a).length + 1).toInt8.toInt32) = nI ((LE a).length + 1) := vt_n2 (nI_1 _) (by omega)
      have hst2 : vp_nar .byte ((nI (LE b).length - 1).toInt8.toInt32) = nI es.length := vt_n2 (by rw [hzl]; exact nI_pred _) (by omega)
      rw [sa, hst]
      refine ⟨vt_i96 ha, vt_i96 ha, nm_e ⟨vt_i96 hb, vt_i96 hb, ?_⟩⟩
      rw [pk_un (fun q => hab q.symm), sb, hst2, g0.2.1]
      refine nm_e ?_
      have := vt_fLeft (post := post) (P := P) (Q := Q) (z := zz) (es := es) R20 M2 hL2' ha hb hab hua hU2 (by rw [heb]; exact hz) (by rw [hea]; omega) (fun LU' LE' RL' M' hL' g1 g2 g3 => ?_)
      · rw [hea] at this; exact this
      · refine K LU' LE' RL' [a', b'] M' (by rw [hL']; simp) ?_ (fun y hy => ?_) (fun y hy => by rw [g3 y hy, hfr y hy])
        · rw [List.flatMap_cons, List.flatMap_cons, g1, g2, hea, hz]; simp
        · rcases List.mem_cons.mp hy with rfl | hy
          · rw [g1, hea, vt_la]; omega
          · rw [List.mem_singleton.mp hy, g2]; omega
  · refine br_f (nI_nlt (b := (LE a).length + (LE b).length) (a := 4) (by omega) (by decide)) ?_
    refine vt_fJoin (P := P) (Q := Q) R20 M2 hL2' ha hb hab hua hU2 e0 (by rw [hea, heb]) (by rw [hea, heb]; omega) (fun LU' LE' RL' M' hL' g1 g2 => ?_)
    refine K LU' LE' RL' [a'] M' hL' ?_ (fun y hy => ?_) (fun y hy => by rw [g2 y hy, hfr y hy])
    · rw [List.flatMap_cons, List.flatMap_nil, List.append_nil, g1, hea, heb]
    · rw [List.mem_singleton.mp hy, g1, hea, heb, List.length_append]; omega
/-! what remove does behind its shift -/
theorem vt_rmEnd {post : Int32 → SX → Prop} {x n : Nat} {P Q : List Nat} {pl : Int32} (R : vt_RC LU LE RU RL w vr f l fw ff fl aU aS aK aV bU bS bL aR) (M : vt_MI D T LU LE RU RL w) (hL : RL w = P ++ x :: Q) (hx : x < 96) (hU1 : LU x = 1) (e0 : pl = nI P.length)
    (hPQ : ∀ y, y ∈ P ∨ y ∈ Q → 2 ≤ (LE y).length ∧ (LE y).length ≤ 4) (h3 : (LE x).length ≤ 3) (h1 : P ≠ [] ∨ Q ≠ [] → 1 ≤ (LE x).length)
    (K : ∀ LU' LE' RL', vt_MI D T LU' LE' RU RL' w → vt_OK LE' (RL' w) ((P ++ x :: Q).flatMap LE) → ∀ fw' ff' fl' aU' aS' aK' aV' bU' bS' bL' aR', vt_RC LU' LE' RU RL' w vr f l fw' ff' fl' aU' aS' aK' aV' bU' bS' bL' aR' → post 1 (fw', ff', fl', aU', aS', aK', aV', bU', bS', bL', aR')) :
    wX_remove_57 post pl (nI x) (n + 1) (nI (LE x).length) fw ff fl aU aS aK aV bU bS bL aR := by
  have R0 := R
  obtain ⟨rfl, rfl, rfl, hw, hU, hE, hB, hT, hR⟩ := R
  subst e0
  have m7 := M.2.2.2.2.2.2.1
  have cx : (nI x).toNatClampNeg = x := nI_clamp (by omega)
  have cw : (nI w).toNatClampNeg = w := nI_clamp (by omega)
  obtain ⟨lS, l5, lG⟩ := hE x hx
  obtain ⟨tS, t17, tG⟩ := hT w hw
  have hlen : (RL w).length = P.length + Q.length + 1 := by rw [hL, List.length_append, List.length_cons]; omega
  have hNd : (P ++ x :: Q).Nodup := by rw [← hL]; exact m7
  simp only [wX_remove_57, cx, cw, lS, tS]
  refine ⟨vt_i96 hx, br_t (nI_le (Nat.le_refl _) (by omega)) ⟨vt_i96 hx, ?_⟩⟩
  by_cases z : 2 ≤ (LE x).length
  · refine br_t (nI_le (a := 2) z (by omega)) ?_
    unfold wX_remove_127
    rw [cx, lS]
    refine ⟨vt_i96 hx, br_f (nI_ne0 (by omega) (by omega)) (K LU LE RL M ?_ _ _ _ _ _ _ _ _ _ _ _ R0)⟩
    rw [hL]
    have hall : ∀ y ∈ P ++ x :: Q, 2 ≤ (LE y).length ∧ (LE y).length ≤ 4 := fun y hy => by
      rcases List.mem_append.mp hy with hy | hy
      · exact hPQ y (Or.inl hy)
      · rcases List.mem_cons.mp hy with rfl | hy
        · omega
        · exact hPQ y (Or.inr hy)
    exact ⟨hNd, ⟨fun y hy => ⟨by have := hall y hy; omega, (hall y hy).2⟩, fun _ y hy => (hall y hy).1⟩, rfl⟩
  · refine br_f (nI_ge (b := 2) (by omega) (by decide)) ⟨vt_i8 hw, ?_⟩
    by_cases z1 : (RL w).length ≤ 1
    · refine br_t (nI_le (b := 1) z1 (by decide)) ?_
      have hP : P = [] := List.length_eq_zero_iff.mp (by omega)
      have hQ : Q = [] := List.length_eq_zero_iff.mp (by omega)
      subst hP hQ
      unfold wX_remove_127
      rw [cx, lS]
      refine ⟨vt_i96 hx, ?_⟩
      by_cases z0 : (LE x).length = 0
      · refine br_t (by rw [z0]; exact nI_0) ?_
        refine vt_dropLeaf (P := []) (Q := []) R0 hL (by omega) rfl ?_
        intro fw' ff' fl' aU' aS' aK' aV' bU' bS' bL' aR' R'
        dsimp only
        refine K _ _ _ (vt_M4 M hL) ?_ _ _ _ _ _ _ _ _ _ _ _ R'
        rw [vt_ss]
        have : LE x = [] := List.length_eq_zero_iff.mp z0
        refine ⟨List.nodup_nil, ⟨fun y hy => (by cases hy), fun _ y hy => (by cases hy)⟩, ?_⟩
        simp [this]
      · refine br_f (nI_ne0 (by omega) (by omega)) (K LU LE RL M ?_ _ _ _ _ _ _ _ _ _ _ _ R0)
        rw [hL]
        refine ⟨hNd, ⟨fun y hy => ?_, fun q y hy => ?_⟩, rfl⟩
        · rw [List.nil_append, List.mem_singleton] at hy
          rw [hy]; omega
        · rw [List.nil_append, List.length_cons, List.length_nil] at q
          omega
    · refine br_f (nI_ge (a := 1) (by omega) (by omega)) ?_
      have hx1 : (LE x).length = 1 := by
        have : 1 ≤ (LE x).length := h1 (by
          rcases Nat.lt_or_ge 0 P.length with q | q
          · left; intro q'; rw [q'] at q; simp at q
          · right; intro q'; rw [q'] at hlen; simp at hlen; omega)
        omega
      have fin : ∀ (P' Q' N : List Nat) (LU' LE' RL'), vt_MI D T LU' LE' RU RL' w → RL' w = P' ++ N ++ Q' → (∀ z ∈ N, 2 ≤ (LE' z).length ∧ (LE' z).length ≤ 4) → (∀ y, y ∈ P' ∨ y ∈ Q' → LE' y = LE y ∧ 2 ≤ (LE y).length ∧ (LE y).length ≤ 4) →
          P'.flatMap LE ++ (N.flatMap LE' ++ Q'.flatMap LE) = (P ++ x :: Q).flatMap LE → vt_OK LE' (RL' w) ((P ++ x :: Q).flatMap LE) := by
        intro P' Q' N LU' LE' RL' M' hL' hN hfr hF
        have m7' := M'.2.2.2.2.2.2.1
        have hall : ∀ y ∈ RL' w, 2 ≤ (LE' y).length ∧ (LE' y).length ≤ 4 := fun y hy => by
          rw [hL'] at hy
          rcases List.mem_append.mp hy with hy | hy
          · rcases List.mem_append.mp hy with hy | hy
            · rw [(hfr y (Or.inl hy)).1]; exact (hfr y (Or.inl hy)).2
            · exact hN y hy
          · rw [(hfr y (Or.inr hy)).1]; exact (hfr y (Or.inr hy)).2
        refine ⟨m7', ⟨fun y hy => ⟨by have := hall y hy; omega, (hall y hy).2⟩, fun _ y hy => (hall y hy).1⟩, ?_⟩
        rw [hL', List.flatMap_append, List.flatMap_append, vt_fmc (fun y hy => (hfr y (Or.inl hy)).1), vt_fmc (fun y hy => (hfr y (Or.inr hy)).1), List.append_assoc]
        exact hF
      by_cases zp : P = []
      · subst zp
        refine br_t (nI_le (a := 0) (b := 0) (Nat.le_refl _) (by decide)) ?_
        have hQ : Q ≠ [] := fun q => by rw [q] at hlen; simp at hlen; omega
        obtain ⟨b, Q', rfl⟩ := vt_hd hQ
        have hb := hPQ b (Or.inr (by simp))
        unfold wX_remove_121
        refine vt_fill (P := []) (a := x) (b := b) (Q := Q') R0 M hL rfl (Or.inl ⟨hx1, hb⟩) (fun LU' LE' RL' N M' hL' hF hN hfr => ?_)
        intro fw' ff' fl' aU' aS' aK' aV' bU' bS' bL' aR' R'
        dsimp only
        refine K LU' LE' RL' M' (fin [] Q' N LU' LE' RL' M' hL' hN (fun y hy => ⟨hfr y hy, hPQ y (Or.inr ?_)⟩) ?_) _ _ _ _ _ _ _ _ _ _ _ R'
        · rcases hy with hy | hy
          · cases hy
          · exact List.mem_cons_of_mem _ hy
        · rw [hF]; simp
      · have hPl : 0 < P.length := List.length_pos_iff.mpr zp
        refine br_f (nI_nle hPl (by omega)) ?_
        obtain ⟨P', a, rfl⟩ := vt_snoc zp
        have ha := hPQ a (Or.inl (by simp))
        unfold wX_remove_121
        refine vt_fill (P := P') (a := a) (b := x) (Q := Q) R0 M (by rw [hL]; simp) (by rw [vt_la]; exact nI_pred _) (Or.inr ⟨hx1, ha⟩) (fun LU' LE' RL' N M' hL' hF hN hfr => ?_)
        intro fw' ff' fl' aU' aS' aK' aV' bU' bS' bL' aR' R'
        dsimp only
        refine K LU' LE' RL' M' (fin P' Q N LU' LE' RL' M' hL' hN (fun y hy => ⟨hfr y hy, hPQ y (hy.imp (fun h => by simp [h]) id)⟩) ?_) _ _ _ _ _ _ _ _ _ _ _ R'
        rw [hF]; simp
theorem vt_rm_mid {k : Nat} {A B : List (Nat × Int32)} {e : Nat × Int32} (hA : ∀ a ∈ A, a.1 ≠ k) (he : e.1 = k) (hB : ∀ a ∈ B, a.1 ≠ k) : vt_rm k (A ++ e :: B) = A ++ B := by
  unfold vt_rm
  rw [List.filter_append, List.filter_cons_of_neg (by simp [he]), List.filter_eq_self.mpr (fun a ha => decide_eq_true (hA a ha)), List.filter_eq_self.mpr (fun a ha => decide_eq_true (hB a ha))]
theorem vt_Xremove {post : Int32 → SX → Prop} {p0 : Int32} (R : vt_RC LU LE RU RL w vr f l fw ff fl aU aS aK aV bU bS bL aR) (G : vt_RG LU LE RU RL w vr f l C Cv) (hs : vt_so C) (h32 : ∀ e ∈ C, e.1 < 32)
    (K0 : (∀ e ∈ C, (e.1 : Int) ≠ p0.toInt) → post 0 (fw, ff, fl, aU, aS, aK, aV, bU, bS, bL, aR))
    (K : ∀ e, e ∈ C → p0 = nI e.1 → ∀ LU' LE' RU' RL' w', vt_RG LU' LE' RU' RL' w' vr f l (vt_rm e.1 C) Cv → ∀ fw' ff' fl' aU' aS' aK' aV' bU' bS' bL' aR', vt_RC LU' LE' RU' RL' w' vr f l fw' ff' fl' aU' aS' aK' aV' bU' bS' bL' aR' → post 1 (fw', ff', fl', aU', aS', aK', aV', bU', bS', bL', aR')) : wpX_remove post (fw, ff, fl, aU, aS, aK, aV, bU, bS, bL, aR) p0 := by
  have R0 := R
  obtain ⟨rfl, rfl, rfl, hw, hU, hE, hB, hT, hR⟩ := R
  obtain ⟨g1, g2, g3, g4, g5⟩ := G
  have hV8 : ∀ r ∈ w :: vt_V vr f l, r < 8 := fun r hr => by
    rcases List.mem_cons.mp hr with rfl | hr
    · exact hw
    · obtain ⟨n, _, _, rfl⟩ := vt_V_in.mp hr
      exact (hR (n % 4) (by omega)).2
  have h5 : (w :: vt_V vr f l).length ≤ 5 := by rw [List.length_cons, vt_V_len]; omega
  unfold wpX_remove
  dsimp only
  refine vt_cell R0 hw g4 hs (fun hno => br_f vt_neg1 (K0 hno)) (fun _ xx _ ee1 e _ _ hxx _ _ hez heC => br_t (nI_pos' (by omega)) ?_)
  have he32 := h32 e heC
  have ep : p0 = nI e.1 := ((vt_eqL (by omega)).mpr hez).symm
  have kz : p0.toInt = (e.1 : Int) := hez.symm
  refine vt_ownRootM (D := fun r => (RL r).flatMap LE) R0 g1 h5 hV8 g2 g4 (fun r hr => ?_) (fun LU1 RU1 RL1 w1 M1 O1 => ?_)
  · obtain ⟨n, h1, h2, rfl⟩ := vt_V_in.mp hr
    obtain ⟨a, b, c⟩ := g5 n h1 h2
    exact ⟨a, b, rfl⟩
  · intro fw' ff' fl' aU' aS' aK' aV' bU' bS' bL' aR' R1
    have e1 := R1.1
    subst e1
    dsimp only
    have hD : ∀ n, f ≤ n → n ≤ l → (fun r => (RL r).flatMap LE) (vr (n % 4)) = Cv (n % 4) := fun n h1 h2 => (g5 n h1 h2).2.2
    have h8 : ∀ j, j < 4 → vr j < 8 := fun j hj => (hR j hj).2
    refine vt_place R1 M1.2.2.2.2.2.1 O1 hs (fun h0 => ?_) (fun A x B h hA hB => ?_)
    · exfalso
      rw [← O1.2.2, h0] at heC
      cases heC
    · rw [kz] at hA hB
      have hC : C = A.flatMap LE ++ (LE x ++ B.flatMap LE) := by rw [← O1.2.2, h, vt_fm]
      have hex : e ∈ LE x := by
        rw [hC] at heC
        rcases List.mem_append.mp heC with q | q
        · have := hA e q; omega
        · rcases List.mem_append.mp q with q | q
          · exact q
          · have := hB e q; omega
      have hs1 := hs
      rw [hC] at hs1
      obtain ⟨_, s2, _⟩ := vt_so_app hs1
      obtain ⟨s3, _, _⟩ := vt_so_app s2
      refine vt_ownLeafM R1 M1 h rfl (fun x' LU2 LE2 RL2 hx M2 hL2 hU2 hE2 hfr => ?_)
      intro fw'' ff'' fl'' aU'' aS'' aK'' aV'' bU'' bS'' bL'' aR'' R2
      dsimp only
      have R20 := R2
      obtain ⟨rfl, rfl, rfl, hw', hU', hE', hB', hT', hR'⟩ := R2
      have hl := hE' x' hx
      refine vt_below hx hl (fun e1 e2 he h1 h2 => ?_)
      rw [kz] at h1 h2
      obtain ⟨lS, l5, lG⟩ := hl
      have cx : (nI x').toNatClampNeg = x' := nI_clamp (by omega)
      have hee : e ∈ e1 ++ e2 := by rw [← he, hE2]; exact hex
      have hs2 : vt_so (e1 ++ e2) := by rw [← he, hE2]; exact s3
      obtain ⟨_, s4, _⟩ := vt_so_app hs2
      obtain ⟨e2', he2⟩ : ∃ e2', e2 = e :: e2' := by
        rcases List.mem_append.mp hee with q | q
        · have := h1 e q; omega
        · cases e2 with
          | nil => cases q
          | cons a e2 =>
            obtain ⟨s5, _⟩ := List.pairwise_cons.mp s4
            rcases List.mem_cons.mp q with rfl | q
            · exact ⟨e2, rfl⟩
            · have := s5 e q
              have := h2 a e2 rfl
              omega
      subst he2
      have hlen : (LE2 x').length = e1.length + e2'.length + 1 := by rw [he, List.length_append, List.length_cons]; omega
      have hst : vp_nar .byte ((nI (LE2 x').length - 1).toInt8.toInt32) = nI (e1.length + e2'.length) := vt_n2 (by rw [hlen]; exact nI_pred _) (by omega)
      rw [cx, lS, hst]
      have hold : (LE x).length ≤ 4 := (O1.2.1.1 x (by rw [h]; simp)).2
      have hlx : (LE x).length = e1.length + e2'.length + 1 := by rw [← hE2]; exact hlen
      refine ⟨vt_i96 hx, vt_i96 hx, nm_e ⟨e2'.length + 1, ?_⟩⟩
      refine vt_rshL (s := e1.length + e2'.length) hx pk_us (by omega) e2'.length e1.length _ _ _ rfl (Nat.lt_succ_self _) (fun j hj => ?_) (fun n aK2 aV2 k1 k2 k3 => ?_)
      · have hj' : (LE2 x')[j]? = some ((LE2 x')[j]'(by omega)) := List.getElem?_eq_getElem _
        obtain ⟨q1, q2, q3⟩ := lG j _ hj'
        exact ⟨_, q3, q1⟩
      · have hin : x' ∈ RL2 w1 := by rw [hL2]; simp
        have m7 := M2.2.2.2.2.2.2.1
        rw [hL2] at m7
        have hM3 := vt_M1 M2 hx hin hU2 (e1 ++ e2')
        have hl' := hE' x' hx
        rw [he] at hl'
        have hE3 : vt_cE (vt_set LE2 x' (e1 ++ e2')) (upd aS'' x' (nI (e1.length + e2'.length))) aK2 aV2 := by
          refine vt_cE_set hE' x' _ (vt_lfDel hl' pk_us (fun c hc => k1 c hc) k3) (fun i hi => pk_un hi) (fun c hc => ?_) (fun c hc => ?_)
          · rcases hc with hc | hc
            · exact (k1 c (by omega)).1
            · exact (k2 c (by omega)).1
          · rcases hc with hc | hc
            · exact (k1 c (by omega)).2
            · exact (k2 c (by omega)).2
        have hnx : vt_set LE2 x' (e1 ++ e2') x' = e1 ++ e2' := vt_ss
        have hfr' : ∀ y, y ∈ A ∨ y ∈ B → vt_set LE2 x' (e1 ++ e2') y = LE y := fun y hy => by rw [vt_sn (vt_nin m7 hy), (hfr y hy).1]
        have hge2 : ∀ y, y ∈ A ∨ y ∈ B → ∀ z ∈ RL1 w1, 2 ≤ (LE z).length := fun y hy z hz => by
          refine O1.2.1.2 ?_ z hz
          rw [h]
          simp only [List.length_append, List.length_cons]
          rcases hy with hy | hy
          · have := List.length_pos_of_mem hy; omega
          · have := List.length_pos_of_mem hy; omega
        have hend := vt_rmEnd (f := f) (l := l) (vr := vr) (n := n) (post := post) (x := x') (P := A) (Q := B) (LE := vt_set LE2 x' (e1 ++ e2')) ⟨rfl, rfl, rfl, hw', hU', hE3, hB', hT', hR'⟩ hM3 hL2 hx hU2 rfl (fun y hy => ?_) (by rw [hnx, List.length_append]; omega) (fun hne => ?_) (fun LU' LE' RL' M' hO' => ?_)
        · rw [hnx, List.length_append] at hend
          exact hend
        · rw [hfr' y hy]
          refine ⟨hge2 y hy y ?_, (O1.2.1.1 y ?_).2⟩
          · rw [h]; rcases hy with hy | hy <;> simp [hy]
          · rw [h]; rcases hy with hy | hy <;> simp [hy]
        · have h2x : 2 ≤ (LE x).length := by
            rcases hne with q | q
            · obtain ⟨y, A', rfl⟩ := vt_hd q
              exact hge2 y (Or.inl (by simp)) x (by rw [h]; simp)
            · obtain ⟨y, B', rfl⟩ := vt_hd q
              exact hge2 y (Or.inr (by simp)) x (by rw [h]; simp)
          rw [hnx, List.length_append]
          omega
        · intro fw''' ff''' fl''' aU''' aS''' aK''' aV''' bU''' bS''' bL''' aR''' R'''
          refine K e heC ep LU' LE' RU1 RL' w1 (vt_RGend M' g3 ?_ h8 hD) _ _ _ _ _ _ _ _ _ _ _ R'''
          have hrm : vt_rm e.1 C = (A ++ x' :: B).flatMap (vt_set LE2 x' (e1 ++ e2')) := by
            rw [vt_fm, hnx, vt_fmc (fun y hy => hfr' y (Or.inl hy)), vt_fmc (fun y hy => hfr' y (Or.inr hy)), hC, ← hE2, he]
            have e3 : A.flatMap LE ++ ((e1 ++ e :: e2') ++ B.flatMap LE) = (A.flatMap LE ++ e1) ++ e :: (e2' ++ B.flatMap LE) := by simp
            rw [e3, vt_rm_mid (fun a ha => ?_) rfl (fun a ha => ?_)]
            · simp
            · rcases List.mem_append.mp ha with q | q
              · have := hA a q; omega
              · have := h1 a q; omega
            · rcases List.mem_append.mp ha with q | q
              · obtain ⟨s5, _⟩ := List.pairwise_cons.mp s4
                have := s5 a q; omega
              · have := hB a q; omega
          rw [hrm]
          exact hO'
end
end
section
theorem vt_V_cons {vr : Nat → Nat} {f l : Nat} (h : f ≤ l) : vt_V vr f l = vr (f % 4) :: vt_V vr (f + 1) l := by
  unfold vt_V
  rw [show l + 1 - f = (l + 1 - (f + 1)) + 1 by omega, List.range'_succ, List.map_cons]
theorem vt_V_nil {vr : Nat → Nat} {f l : Nat} (h : l < f) : vt_V vr f l = [] := by
  unfold vt_V
  rw [show l + 1 - f = 0 by omega]
  rfl
theorem vt_V_snoc {vr : Nat → Nat} : ∀ (d f l : Nat), f + d = l + 1 → vt_V vr f (l + 1) = vt_V vr f l ++ [vr ((l + 1) % 4)] := by
  intro d
  induction d with
  | zero =>
    intro f l h
    have e : f = l + 1 := by omega
    subst e
    rw [vt_V_nil (f := l + 1) (l := l) (by omega), vt_V_cons (f := l + 1) (l := l + 1) (by omega), vt_V_nil (f := l + 1 + 1) (l := l + 1) (by omega)]
    rfl
  | succ d ih =>
    intro f l h
    rw [vt_V_cons (f := f) (l := l + 1) (by omega), ih (f + 1) l (by omega), vt_V_cons (f := f) (l := l) (by omega)]
    rfl
theorem vt_V_cong {vr vr' : Nat → Nat} {f l : Nat} (h : ∀ n, f ≤ n → n ≤ l → vr' (n % 4) = vr (n % 4)) : vt_V vr' f l = vt_V vr f l := by
  unfold vt_V
  refine List.map_congr_left (fun n hn => ?_)
  rw [List.mem_range'_1] at hn
  exact h n (by omega) (by omega)
theorem vt_relP {LU RU : Nat → Nat} {RL : Nat → List Nat} {T T' : List Nat} {q : Nat} (hq : q < 8) (hT : vt_TI RU T) (hL : vt_LI LU RU RL) (hc : ∀ r, r < 8 → T.count r = T'.count r + (if r = q then 1 else 0)) (hd : (RL q).Nodup) :
    vt_TI (vt_set RU q (RU q - 1)) T' ∧ vt_LI (vt_rel LU RU RL q) (vt_set RU q (RU q - 1)) RL := by
  have h1 : 1 ≤ RU q := by rw [hT q hq, hc q hq, if_pos rfl]; omega
  refine ⟨fun r hr => ?_, fun x hx => ?_⟩
  · by_cases e : r = q
    · subst e
      rw [vt_ss, hT r hr, hc r hr, if_pos rfl]; omega
    · rw [vt_sn e, hT r hr, hc r hr, if_neg e]; omega
  · unfold vt_rel
    by_cases z : RU q = 1
    · rw [if_pos z]
      have hcong : ∀ r, r < 8 → r ≠ q → vt_hs (vt_set RU q (RU q - 1)) RL x r = vt_hs RU RL x r := fun r hr hne => vt_hs_e (by rw [vt_sn hne]) Iff.rfl
      have h0 : vt_hs (vt_set RU q (RU q - 1)) RL x q = false := vt_hs_0 (by rw [vt_ss]; omega)
      have hx0 := hL x hx
      by_cases hin : x ∈ RL q
      · have := vt_cn_up (P := vt_hs (vt_set RU q (RU q - 1)) RL x) (Q := vt_hs RU RL x) (a := q) (n := 8) h0 (vt_hs_t (by omega) hin) hq hcong
        have b := List.nodup_iff_count.mp hd x
        have c := List.count_pos_iff.mpr hin
        omega
      · have hz : (RL q).count x = 0 := List.count_eq_zero.mpr hin
        rw [hz, Nat.sub_zero, hx0]
        refine vt_cn_eq (fun r hr => ?_)
        by_cases e : r = q
        · subst e
          rw [h0, vt_hs_n hin]
        · exact (hcong r hr e).symm
    · rw [if_neg z, hL x hx]
      refine vt_cn_eq (fun r hr => vt_hs_e ?_ Iff.rfl)
      by_cases e : r = q
      · subst e; rw [vt_ss]; omega
      · rw [vt_sn e]
theorem vt_incP {LU RU : Nat → Nat} {RL : Nat → List Nat} {T T' : List Nat} {q : Nat} (hT : vt_TI RU T) (hL : vt_LI LU RU RL) (hc : ∀ r, r < 8 → T'.count r = T.count r + (if r = q then 1 else 0)) (h1 : RU q ≠ 0) :
    vt_TI (vt_set RU q (RU q + 1)) T' ∧ vt_LI LU (vt_set RU q (RU q + 1)) RL := by
  refine ⟨fun r hr => ?_, fun x hx => ?_⟩
  · by_cases e : r = q
    · subst e
      rw [vt_ss, hT r hr, hc r hr, if_pos rfl]
    · rw [vt_sn e, hT r hr, hc r hr, if_neg e]; omega
  · rw [hL x hx]
    refine vt_cn_eq (fun r hr => vt_hs_e ?_ Iff.rfl)
    by_cases e : r = q
    · subst e; rw [vt_ss]; omega
    · rw [vt_sn e]
theorem vt_cnt1 (q r : Nat) (T : List Nat) : (q :: T).count r = T.count r + (if r = q then 1 else 0) := by
  rw [List.count_cons]
  by_cases e : r = q
  · subst e; simp
  · rw [if_neg e]
    have : (q == r) = false := by simp; exact fun q' => e q'.symm
    rw [this]; simp
section
variable {D : Nat → List (Nat × Int32)} {T V : List Nat} {LU : Nat → Nat} {LE : Nat → List (Nat × Int32)} {RU : Nat → Nat} {RL : Nat → List Nat} {w : Nat} {vr : Nat → Nat} {f l : Nat} {fw ff fl : Int32} {aU aS aK aV bU bS bL aR : Nat → Int32}
variable {C : List (Nat × Int32)} {Cv : Nat → List (Nat × Int32)}
theorem vt_TI5 {RU : Nat → Nat} {T : List Nat} (h : vt_TI RU T) {r : Nat} (hr : r < 8) : RU r ≤ T.length := by rw [h r hr]; exact List.count_le_length
theorem vt_save48 {post : Int32 → SX → Prop} (R : vt_RC LU LE RU RL w vr f l fw ff fl aU aS aK aV bU bS bL aR) (hl : l < 2000) (hu : RU w < 99) (K : ∀ fw' ff' fl' aU' aS' aK' aV' bU' bS' bL' aR', vt_RC LU LE (vt_set RU w (RU w + 1)) RL w (vt_set vr (l % 4) w) f l fw' ff' fl' aU' aS' aK' aV' bU' bS' bL' aR' → post (nI l) (fw', ff', fl', aU', aS', aK', aV', bU', bS', bL', aR')) : wX_save_48 post fw ff fl aU aS aK aV bU bS bL aR := by
  obtain ⟨rfl, rfl, rfl, hw, hU, hE, hB, hT, hR⟩ := R
  have cw : (nI w).toNatClampNeg = w := nI_clamp (by omega)
  have ca : (nI (l % 4)).toNatClampNeg = l % 4 := nI_clamp (by omega)
  obtain ⟨hb, hb2⟩ := hB w hw
  have hst : vp_nar .byte ((nI (RU w) + 1).toInt8.toInt32) = nI (RU w + 1) := vt_n2 (nI_1 _) (by omega)
  have hsw : vp_nar .byte (nI w).toInt8.toInt32 = nI w := vt_n2 rfl (by omega)
  unfold wX_save_48
  rw [vt_and3 (by omega), ca, cw, hb, hst, hsw]
  refine ⟨vp_in_nI (by omega) (by decide), nm_e ⟨vt_i8 hw, vt_i8 hw, nm_e (K _ _ _ _ _ _ _ _ _ _ _ ⟨rfl, rfl, rfl, hw, hU, hE, vt_cU_set hB w (by omega), hT, fun j hj => ?_⟩)⟩⟩
  by_cases e : j = l % 4
  · rw [e, vt_ss, pk_us]; exact ⟨rfl, hw⟩
  · rw [vt_sn e, pk_un e]; exact hR j hj
theorem vt_saveRG (hTI : vt_TI RU (w :: vt_V vr f l)) (hLI : vt_LI LU RU RL) (hr : 1 ≤ f ∧ f ≤ l + 1 ∧ l + 1 ≤ f + 3) (hw : w < 8) (hO : vt_OK LE (RL w) C) (hV : ∀ n, f ≤ n → n ≤ l → vt_OK LE (RL (vr (n % 4))) (Cv (n % 4))) :
    vt_RG LU LE (vt_set RU w (RU w + 1)) RL w (vt_set vr ((l + 1) % 4) w) f (l + 1) C (vt_set Cv ((l + 1) % 4) C) := by
  have hne : ∀ n, f ≤ n → n ≤ l → n % 4 ≠ (l + 1) % 4 := fun n h1 h2 => by omega
  have hVe : vt_V (vt_set vr ((l + 1) % 4) w) f (l + 1) = vt_V vr f l ++ [w] := by
    rw [vt_V_snoc (l + 1 - f) f l (by omega), vt_ss, vt_V_cong (fun n h1 h2 => vt_sn (hne n h1 h2))]
  have h1 : RU w ≠ 0 := (vt_TI_in hTI hw).mpr (by simp)
  obtain ⟨p1, p2⟩ := vt_incP (T' := w :: vt_V (vt_set vr ((l + 1) % 4) w) f (l + 1)) (q := w) hTI hLI (fun r hr => by
    rw [hVe, vt_cnt1, vt_cnt1, List.count_append, vt_cnt1, List.count_nil]; omega) h1
  refine ⟨p1, p2, by omega, hO, fun n a b => ?_⟩
  by_cases e : n = l + 1
  · subst e
    rw [vt_ss, vt_ss]; exact hO
  · rw [vt_sn (hne n a (by omega)), vt_sn (hne n a (by omega))]
    exact hV n a (by omega)
theorem vt_Xsave {post : Int32 → SX → Prop} (R : vt_RC LU LE RU RL w vr f l fw ff fl aU aS aK aV bU bS bL aR) (G : vt_RG LU LE RU RL w vr f l C Cv) (hl : l < 1000)
    (K : ∀ LU' RU' f', f' = (if f + 3 = l then f + 1 else f) → vt_RG LU' LE RU' RL w (vt_set vr ((l + 1) % 4) w) f' (l + 1) C (vt_set Cv ((l + 1) % 4) C) →
      ∀ fw' ff' fl' aU' aS' aK' aV' bU' bS' bL' aR', vt_RC LU' LE RU' RL w (vt_set vr ((l + 1) % 4) w) f' (l + 1) fw' ff' fl' aU' aS' aK' aV' bU' bS' bL' aR' → post (nI (l + 1)) (fw', ff', fl', aU', aS', aK', aV', bU', bS', bL', aR')) : wpX_save post (fw, ff, fl, aU, aS, aK, aV, bU, bS, bL, aR) := by
  obtain ⟨rfl, rfl, rfl, hw, hU, hE, hB, hT, hR⟩ := R
  obtain ⟨g1, g2, g3, g4, g5⟩ := G
  have hV8 : (w :: vt_V vr f l).length ≤ 5 := by rw [List.length_cons, vt_V_len]; omega
  have hu := vt_TI5 g1 hw
  unfold wpX_save
  dsimp only
  refine nm_r (nI_1 l) ?_
  rw [pk_sub (show f ≤ l + 1 by omega)]
  by_cases z : l + 1 - f < 4
  · refine br_t (nI_lt (b := 4) z (by decide)) ?_
    refine vt_save48 (l := l + 1) ⟨rfl, rfl, rfl, hw, hU, hE, hB, hT, hR⟩ (by omega) (by omega) ?_
    intro fw' ff' fl' aU' aS' aK' aV' bU' bS' bL' aR' R'
    exact K _ _ f (by rw [if_neg (by omega)]) (vt_saveRG g1 g2 (by omega) hw g4 g5) _ _ _ _ _ _ _ _ _ _ _ R'
  · have hlf : l = f + 3 := by omega
    obtain ⟨r1, r2⟩ := hR (f % 4) (by omega)
    have ca : (nI (f % 4)).toNatClampNeg = f % 4 := nI_clamp (by omega)
    refine br_f (nI_nlt (b := 4) (by omega) (by omega)) ?_
    rw [vt_and3 (by omega), ca, r1]
    refine ⟨vp_in_nI (by omega) (by decide), ?_⟩
    have hof := g5 f (Nat.le_refl _) (by omega)
    have hin : vr (f % 4) ∈ w :: vt_V vr f l := List.mem_cons_of_mem _ (vt_V_in.mpr ⟨f, Nat.le_refl _, by omega, rfl⟩)
    have hne0 : RU (vr (f % 4)) ≠ 0 := (vt_TI_in g1 r2).mpr hin
    obtain ⟨p1, p2⟩ := vt_relP (T' := w :: vt_V vr (f + 1) l) r2 g1 g2 (fun r hr => by rw [vt_V_cons (by omega), vt_cnt1, vt_cnt1, vt_cnt1]; omega) hof.1
    refine vt_release (l := l + 1) ⟨rfl, rfl, rfl, hw, hU, hE, hB, hT, hR⟩ r2 (by omega) (fun q => ⟨hof.1, fun x hx => ?_⟩) ?_
    · obtain ⟨j, hj, hjx⟩ := List.getElem_of_mem hx
      have := ((hT _ r2).2.2 j x (by rw [List.getElem?_eq_getElem hj, hjx])).2
      exact vt_LI1 g2 this r2 hne0 hx
    · intro fw' ff' fl' aU' aS' aK' aV' bU' bS' bL' aR' R'
      dsimp only
      obtain ⟨rfl, rfl, rfl, hw', hU', hE', hB', hT', hR'⟩ := R'
      refine nm_r (nI_1 f) ?_
      have hu' := vt_TI5 p1 hw
      have hl' : (w :: vt_V vr (f + 1) l).length ≤ 5 := by rw [List.length_cons, vt_V_len]; omega
      refine vt_save48 (f := f + 1) (l := l + 1) ⟨rfl, rfl, rfl, hw', hU', hE', hB', hT', hR'⟩ (by omega) (by omega) ?_
      intro fw'' ff'' fl'' aU'' aS'' aK'' aV'' bU'' bS'' bL'' aR'' R''
      exact K _ _ (f + 1) (by rw [if_pos hlf.symm]) (vt_saveRG p1 p2 (by omega) hw g4 (fun n h1 h2 => g5 n (by omega) h2)) _ _ _ _ _ _ _ _ _ _ _ R''
/-! goBack -/
theorem vt_gbL {post : Int32 → SX → Prop} {n : Nat} (hfn : f ≤ n) (hnl : n ≤ l) (hl : l < 1000) (hw : w < 8) (hd : ∀ m, f ≤ m → m ≤ l → (RL (vr (m % 4))).Nodup)
    (K : ∀ LU' RU', vt_TI RU' (w :: vt_V vr f n) → vt_LI LU' RU' RL → ∀ fw' ff' fl' aU' aS' aK' aV' bU' bS' bL' aR', vt_RC LU' LE RU' RL w vr f n fw' ff' fl' aU' aS' aK' aV' bU' bS' bL' aR' → post 1 (fw', ff', fl', aU', aS', aK', aV', bU', bS', bL', aR')) :
    ∀ (d m nn : Nat) (LU RU : Nat → Nat) (fw ff fl : Int32) (aU aS aK aV bU bS bL aR : Nat → Int32), n + d = m → m ≤ l → d < nn → vt_RC LU LE RU RL w vr f l fw ff fl aU aS aK aV bU bS bL aR → vt_TI RU (w :: vt_V vr f m) → vt_LI LU RU RL →
    wX_goBack_49 post (nI n) nn (nI m) fw ff fl aU aS aK aV bU bS bL aR := by
  intro d
  induction d with
  | zero =>
    intro m nn LU RU fw ff fl aU aS aK aV bU bS bL aR h hm hnn R hT hL
    obtain ⟨nn, rfl⟩ : ∃ k, nn = k + 1 := ⟨nn - 1, by omega⟩
    have e : m = n := by omega
    subst e
    obtain ⟨rfl, rfl, rfl, h1, h2, h3, h4, h5, h6⟩ := R
    simp only [wX_goBack_49]
    exact br_t (nI_le (Nat.le_refl _) (by omega)) (K LU RU hT hL _ _ _ _ _ _ _ _ _ _ _ ⟨rfl, rfl, rfl, h1, h2, h3, h4, h5, h6⟩)
  | succ d ih =>
    intro m nn LU RU fw ff fl aU aS aK aV bU bS bL aR h hm hnn R hT hL
    obtain ⟨nn, rfl⟩ : ∃ k, nn = k + 1 := ⟨nn - 1, by omega⟩
    obtain ⟨m, rfl⟩ : ∃ k, m = k + 1 := ⟨m - 1, by omega⟩
    have R0 := R
    obtain ⟨_, _, _, h1, h2, h3, h4, h5, h6⟩ := R
    obtain ⟨r1, r2⟩ := h6 ((m + 1) % 4) (by omega)
    have ca : (nI ((m + 1) % 4)).toNatClampNeg = (m + 1) % 4 := nI_clamp (by omega)
    have hm1 : nI (m + 1) + (-1) = nI m := pk_m1 m
    have h3' : nI (m + 1) &&& 3 = nI ((m + 1) % 4) := vt_and3 (by omega)
    have hin : vr ((m + 1) % 4) ∈ w :: vt_V vr f (m + 1) := List.mem_cons_of_mem _ (vt_V_in.mpr ⟨m + 1, by omega, Nat.le_refl _, rfl⟩)
    have hne0 : RU (vr ((m + 1) % 4)) ≠ 0 := (vt_TI_in hT r2).mpr hin
    obtain ⟨p1, p2⟩ := vt_relP (T' := w :: vt_V vr f m) r2 hT hL (fun r hr => by rw [vt_V_snoc (m + 1 - f) f m (by omega), vt_cnt1, vt_cnt1, List.count_append, vt_cnt1, List.count_nil]; omega) (hd (m + 1) (by omega) hm)
    simp only [wX_goBack_49, h3', ca, r1, hm1, forall_eq]
    refine br_f (nI_ge (by omega) (by omega)) ⟨vp_in_nI (by omega) (by decide), ?_⟩
    refine vt_release R0 r2 (by omega) (fun q => ⟨hd (m + 1) (by omega) hm, fun x hx => ?_⟩) ?_
    · obtain ⟨j, hj, hjx⟩ := List.getElem_of_mem hx
      have := ((h5 _ r2).2.2 j x (by rw [List.getElem?_eq_getElem hj, hjx])).2
      exact vt_LI1 hL this r2 hne0 hx
    · intro fw' ff' fl' aU' aS' aK' aV' bU' bS' bL' aR' R'
      dsimp only
      exact ih m nn _ _ _ _ _ _ _ _ _ _ _ _ _ (by omega) (by omega) (by omega) R' p1 p2
theorem vt_XgoBack {post : Int32 → SX → Prop} {p0 : Int32} (R : vt_RC LU LE RU RL w vr f l fw ff fl aU aS aK aV bU bS bL aR) (G : vt_RG LU LE RU RL w vr f l C Cv) (hl : l < 1000)
    (K0 : (p0 < nI f ∨ nI l < p0) → post 0 (fw, ff, fl, aU, aS, aK, aV, bU, bS, bL, aR))
    (K : ∀ n, p0 = nI n → f ≤ n → n ≤ l → ∀ LU' RU', vt_RG LU' LE RU' RL (vr (n % 4)) vr f n (Cv (n % 4)) Cv → ∀ fw' ff' fl' aU' aS' aK' aV' bU' bS' bL' aR', vt_RC LU' LE RU' RL (vr (n % 4)) vr f n fw' ff' fl' aU' aS' aK' aV' bU' bS' bL' aR' → post 1 (fw', ff', fl', aU', aS', aK', aV', bU', bS', bL', aR')) : wpX_goBack post (fw, ff, fl, aU, aS, aK, aV, bU, bS, bL, aR) p0 := by
  have R0 := R
  obtain ⟨rfl, rfl, rfl, hw, hU, hE, hB, hT, hR⟩ := R
  obtain ⟨g1, g2, g3, g4, g5⟩ := G
  unfold wpX_goBack
  dsimp only
  unfold wpX_isKept
  dsimp only
  by_cases z1 : p0 < nI f
  · exact br_t z1 (br_t rfl (K0 (Or.inl z1)))
  · refine br_f z1 ?_
    by_cases z2 : nI l < p0
    · exact br_t z2 (br_t rfl (K0 (Or.inr z2)))
    · refine br_f z2 (br_f (by decide) ?_)
      have hp0 : ¬ p0 < 0 := fun q => by
        rw [Int32.lt_iff_toInt_lt] at q z1
        rw [nI_toInt (by omega)] at z1
        rw [show (0 : Int32).toInt = 0 from by decide] at q
        omega
      obtain ⟨n, hn, rfl⟩ := nI_of hp0
      have h1 : f ≤ n := Nat.le_of_not_lt (fun q => z1 (nI_lt q (by omega)))
      have h2 : n ≤ l := Nat.le_of_not_lt (fun q => z2 (nI_lt q hn))
      have hw0 : RU w ≠ 0 := (vt_TI_in g1 hw).mpr (by simp)
      obtain ⟨p1, p2⟩ := vt_relP (T' := vt_V vr f l) hw g1 g2 (fun r hr => vt_cnt1 _ _ _) g4.1
      refine vt_release R0 hw (by omega) (fun q => ⟨g4.1, fun x hx => ?_⟩) ?_
      · obtain ⟨j, hj, hjx⟩ := List.getElem_of_mem hx
        have := ((hT _ hw).2.2 j x (by rw [List.getElem?_eq_getElem hj, hjx])).2
        exact vt_LI1 g2 this hw hw0 hx
      · intro fw' ff' fl' aU' aS' aK' aV' bU' bS' bL' aR' R'
        dsimp only
        obtain ⟨rfl, rfl, rfl, hw', hU', hE', hB', hT', hR'⟩ := R'
        obtain ⟨r1, r2⟩ := hR' (n % 4) (by omega)
        have ca : (nI (n % 4)).toNatClampNeg = n % 4 := nI_clamp (by omega)
        rw [vt_and3 hn, ca, r1]
        refine ⟨vp_in_nI (by omega) (by decide), nm_e ?_⟩
        have cv : (nI (vr (n % 4))).toNatClampNeg = vr (n % 4) := nI_clamp (by omega)
        obtain ⟨b1, b2⟩ := hB' (vr (n % 4)) r2
        have hin : vr (n % 4) ∈ vt_V vr f l := vt_V_in.mpr ⟨n, h1, h2, rfl⟩
        have hq0 : vt_set RU w (RU w - 1) (vr (n % 4)) ≠ 0 := (vt_TI_in p1 r2).mpr hin
        have hle := vt_TI5 p1 r2
        rw [vt_V_len] at hle
        have hst : vp_nar .byte ((nI (vt_set RU w (RU w - 1) (vr (n % 4))) + 1).toInt8.toInt32) = nI (vt_set RU w (RU w - 1) (vr (n % 4)) + 1) := vt_n2 (nI_1 _) (by omega)
        rw [cv, b1, hst]
        obtain ⟨i1, i2⟩ := vt_incP (T' := vr (n % 4) :: vt_V vr f l) (q := vr (n % 4)) p1 p2 (fun r hr => vt_cnt1 _ _ _) hq0
        refine ⟨vt_i8 r2, vt_i8 r2, nm_e ⟨l - n + 1, ?_⟩⟩
        refine vt_gbL (l := l) h1 h2 hl r2 (fun m a b => (g5 m a b).1) (fun LU' RU' t1 t2 => ?_) (l - n) l _ _ _ _ _ _ _ _ _ _ _ _ _ _ (by omega) (Nat.le_refl _) (Nat.lt_succ_self _) ⟨rfl, rfl, rfl, r2, hU', hE', vt_cU_set hB' _ (by omega), hT', hR'⟩ i1 i2
        intro fw'' ff'' fl'' aU'' aS'' aK'' aV'' bU'' bS'' bL'' aR'' R''
        exact K n rfl h1 h2 LU' RU' ⟨t1, t2, by omega, g5 n h1 h2, fun m a b => g5 m a (by omega)⟩ _ _ _ _ _ _ _ _ _ _ _ R''
end
end
section
/-- the relation at the head of a turn whose first cell is k -/
def i_Rel (k : Nat) (u : SX) (v : SY) : Prop :=
  match u, v with
  | (fw, ff, fl, aU, aS, aK, aV, bU, bS, bL, aR), (ye, yg, ks, vs) => ∃ (LU : Nat → Nat) (LE : Nat → List (Nat × Int32)) (RU : Nat → Nat) (RL : Nat → List Nat) (w : Nat) (vr : Nat → Nat) (f l : Nat),
    ye = nI f ∧ yg = nI l ∧ vt_RC LU LE RU RL w vr f l fw ff fl aU aS aK aV bU bS bL aR ∧ vt_RG LU LE RU RL w vr f l (vt_yt ks vs 0) (fun j => vt_yt ks vs (1 + j)) ∧ 4 * l ≤ k
theorem vt_mk {k : Nat} {LU : Nat → Nat} {LE : Nat → List (Nat × Int32)} {RU : Nat → Nat} {RL : Nat → List Nat} {w : Nat} {vr : Nat → Nat} {f l : Nat} {fw ff fl : Int32} {aU aS aK aV bU bS bL aR : Nat → Int32} {ks vs : Nat → Int32}
    (R : vt_RC LU LE RU RL w vr f l fw ff fl aU aS aK aV bU bS bL aR) (G : vt_RG LU LE RU RL w vr f l (vt_yt ks vs 0) (fun j => vt_yt ks vs (1 + j))) (h : 4 * l ≤ k) : i_Rel k (fw, ff, fl, aU, aS, aK, aV, bU, bS, bL, aR) (nI f, nI l, ks, vs) :=
  ⟨LU, LE, RU, RL, w, vr, f, l, rfl, rfl, R, G, h⟩
theorem i_up {k : Nat} {u : SX} {v : SY} (h : i_Rel k u v) : i_Rel (k + 4) u v := by
  obtain ⟨fw, ff, fl, aU, aS, aK, aV, bU, bS, bL, aR⟩ := u
  obtain ⟨ye, yg, ks, vs⟩ := v
  obtain ⟨LU, LE, RU, RL, w, vr, f, l, rfl, rfl, R, G, h4⟩ := h
  exact vt_mk R G (by omega)
theorem i_vc0 : wpX_init (fun u => wpY_init (fun v => i_Rel 0 u v)) := by
  unfold wpX_init wpY_init
  refine nm_r (congrArg (upd (fun _ => 0) 0) (vt_n (m := 1) (by decide))) ?_
  have h0 : vt_yt (fun _ => 0) (fun _ => 0) 0 = [] := by
    refine List.eq_nil_iff_forall_not_mem.mpr (fun e he => ?_)
    have := ((vt_yt_mem e).mp he).2.1
    rw [b_0] at this
    cases this
  have hc : ∀ n, vt_cU (fun _ => 0) n (fun _ => 0) := fun n i hi => ⟨rfl, Nat.zero_lt_succ _⟩
  refine vt_mk (LU := fun _ => 0) (LE := fun _ => []) (RU := vt_set (fun _ => 0) 0 1) (RL := fun _ => []) (w := 0) (vr := fun _ => 0) (f := 1) (l := 0)
    ⟨rfl, rfl, rfl, by decide, hc 96, fun i hi => ⟨rfl, by simp, fun j e he => by simp at he⟩, vt_cU_set (hc 8) 0 (by decide), fun r hr => ⟨rfl, by simp, fun j e he => by simp at he⟩, fun j hj => ⟨rfl, Nat.zero_lt_succ _⟩⟩
    ⟨fun r hr => ?_, fun x hx => ?_, by omega, ?_, fun n h1 h2 => by omega⟩ (by omega)
  · rw [vt_V_nil (by omega), vt_cnt1, List.count_nil]
    by_cases e : r = 0
    · subst e; rw [vt_ss]; rfl
    · rw [vt_sn e, if_neg e]
  · rw [vt_cn_eq (Q := fun _ => false) (fun r hr => vt_hs_n (by simp))]
    rfl
  · rw [h0]
    exact ⟨List.nodup_nil, ⟨fun y hy => (by cases hy), fun _ y hy => (by cases hy)⟩, rfl⟩
theorem i_vc_kept {k : Nat} {u : SX} {v : SY} (I : i_Rel k u v) (hk : k + 4 ≤ 2048) : wpX_kept (fun r => wpY_kept (fun r' => r' = r ∧ i_Rel (k + 4) u v) v) u := by
  have I' := i_up I
  obtain ⟨fw, ff, fl, aU, aS, aK, aV, bU, bS, bL, aR⟩ := u
  obtain ⟨ye, yg, ks, vs⟩ := v
  obtain ⟨LU, LE, RU, RL, w, vr, f, l, rfl, rfl, R, G, h4⟩ := I
  obtain ⟨rfl, rfl, rfl, _⟩ := R
  unfold wpX_kept wpY_kept
  dsimp only
  exact br_c (fun q => br_t q ⟨rfl, I'⟩) (fun q => br_f q ⟨rfl, I'⟩)
theorem i_vc_has {k : Nat} {u : SX} {v : SY} (I : i_Rel k u v) (hk : k + 4 ≤ 2048) (v1 : Int32) (v2 : Int32) : wpX_has (fun r => wpY_has (fun r' => r' = r ∧ i_Rel (k + 4) u v) v v1 v2) u v1 v2 := by
  have I' := i_up I
  obtain ⟨fw, ff, fl, aU, aS, aK, aV, bU, bS, bL, aR⟩ := u
  obtain ⟨ye, yg, ks, vs⟩ := v
  obtain ⟨LU, LE, RU, RL, w, vr, f, l, rfl, rfl, R, G, h4⟩ := I
  unfold wpX_has wpY_has
  dsimp only
  rcases vt_both R G (by omega) v1 with ⟨r, t, hr, ht, hO, hX, hY⟩ | ⟨hX, hY⟩
  · refine hX _ (br_f (nI_pos (by omega)) (vt_cell R hr hO (vt_yt_so _ _ _) (fun hno => br_t vt_neg2 (hY _ ?_)) (fun A x B e1 e e2 _ hx _ _ hz heC => br_f (nI_pos (by omega)) (hY _ ?_))))
    · refine vt_yinG ht (fun kk hkk e hb => ?_) (fun _ => ⟨rfl, rfl, I'⟩)
      have := hno (kk, vs (32 * t + kk)) ((vt_yt_mem _).mpr ⟨hkk, hb, rfl⟩)
      rw [e, nI_toInt (by omega)] at this
      exact absurd rfl this
    · have h := (vt_yt_mem e).mp heC
      have ev : v2 = nI e.1 := ((vt_eqL (by omega)).mpr hz).symm
      refine vt_yinG ht (fun kk hkk ek hb => ⟨rfl, rfl, I'⟩) (fun hn => ?_)
      have := hn e.1 h.1 ev
      rw [h.2.1] at this
      cases this
  · exact hX _ (br_t vt_neg2 (hY _ (vt_yinN ⟨rfl, rfl, I'⟩)))
theorem i_vc_get {k : Nat} {u : SX} {v : SY} (I : i_Rel k u v) (hk : k + 4 ≤ 2048) (v1 : Int32) (v2 : Int32) : wpX_get (fun r => wpY_get (fun r' => r' = r ∧ i_Rel (k + 4) u v) v v1 v2) u v1 v2 := by
  have I' := i_up I
  obtain ⟨fw, ff, fl, aU, aS, aK, aV, bU, bS, bL, aR⟩ := u
  obtain ⟨ye, yg, ks, vs⟩ := v
  obtain ⟨LU, LE, RU, RL, w, vr, f, l, rfl, rfl, R, G, h4⟩ := I
  unfold wpX_get wpY_get
  dsimp only
  rcases vt_both R G (by omega) v1 with ⟨r, t, hr, ht, hO, hX, hY⟩ | ⟨hX, hY⟩
  · refine hX _ (br_t (nI_pos' (by omega)) (vt_cell R hr hO (vt_yt_so _ _ _) (fun hno => ?_) (fun A x B e1 e e2 _ hx hex hl5 hz heC => ?_)))
    · unfold wX_get_20
      refine br_f vt_neg1 (hY _ (vt_yinG ht (fun kk hkk e hb => ?_) (fun _ => br_t rfl ⟨rfl, I'⟩)))
      have := hno (kk, vs (32 * t + kk)) ((vt_yt_mem _).mpr ⟨hkk, hb, rfl⟩)
      rw [e, nI_toInt (by omega)] at this
      exact absurd rfl this
    · have h := (vt_yt_mem e).mp heC
      have ev : v2 = nI e.1 := ((vt_eqL (by omega)).mpr hz).symm
      obtain ⟨_, _, _, hw, hU, hE, hB, hT, hR⟩ := R
      have hv := ((hE x hx).2.2 e1.length e (vt_at' hex)).2.1
      unfold wX_get_20
      rw [nI_clamp (by omega), hv]
      refine br_t (nI_pos' (by omega)) ⟨vp_in_nI (by omega) (by decide), hY _ (vt_yinG ht (fun kk hkk ek hb => br_f (by decide) ?_) (fun hn => ?_))⟩
      · rw [ev, vt_c32 ht h.1]
        exact ⟨vt_i32 ht h.1, h.2.2.symm, I'⟩
      · have := hn e.1 h.1 ev
        rw [h.2.1] at this
        cases this
  · refine hX _ (br_f vt_neg1 ?_)
    unfold wX_get_20
    exact br_f vt_neg1 (hY _ (vt_yinN (br_t rfl ⟨rfl, I'⟩)))
theorem i_vc_rank {k : Nat} {u : SX} {v : SY} (I : i_Rel k u v) (hk : k + 4 ≤ 2048) (v1 : Int32) (v2 : Int32) : wpX_rank (fun r => wpY_rank (fun r' => r' = r ∧ i_Rel (k + 4) u v) v v1 v2) u v1 v2 := by
  have I' := i_up I
  obtain ⟨fw, ff, fl, aU, aS, aK, aV, bU, bS, bL, aR⟩ := u
  obtain ⟨ye, yg, ks, vs⟩ := v
  obtain ⟨LU, LE, RU, RL, w, vr, f, l, rfl, rfl, R, G, h4⟩ := I
  rcases vt_both R G (by omega) v1 with ⟨r, t, hr, ht, hO, hX, hY⟩ | ⟨hX, hY⟩
  · exact vt_rank R hr hO (vt_yt_so _ _ _) hX (vt_yrank ht hY ⟨rfl, I'⟩)
  · exact vt_rank0 hX (vt_yrank0 hY ⟨rfl, I'⟩)
theorem i_vc_count {k : Nat} {u : SX} {v : SY} (I : i_Rel k u v) (hk : k + 4 ≤ 2048) (v1 : Int32) : wpX_count (fun r => wpY_count (fun r' => r' = r ∧ i_Rel (k + 4) u v) v v1) u v1 := by
  have I' := i_up I
  obtain ⟨fw, ff, fl, aU, aS, aK, aV, bU, bS, bL, aR⟩ := u
  obtain ⟨ye, yg, ks, vs⟩ := v
  obtain ⟨LU, LE, RU, RL, w, vr, f, l, rfl, rfl, R, G, h4⟩ := I
  unfold wpY_count
  dsimp only
  rcases vt_both R G (by omega) v1 with ⟨r, t, hr, ht, hO, hX, hY⟩ | ⟨hX, hY⟩
  · refine vt_count R hr hO hX (vt_yrank ht hY ?_)
    rw [vt_lw_all (fun e he => ?_)]
    · exact ⟨rfl, I'⟩
    · have h := ((vt_yt_mem e).mp he).1
      rw [show (32 : Int32).toInt = 32 from by decide]
      omega
  · exact vt_count0 hX (vt_yrank0 hY ⟨rfl, I'⟩)
theorem i_vc_keyAt {k : Nat} {u : SX} {v : SY} (I : i_Rel k u v) (hk : k + 4 ≤ 2048) (v1 : Int32) (v2 : Int32) : wpX_keyAt (fun r => wpY_keyAt (fun r' => r' = r ∧ i_Rel (k + 4) u v) v v1 v2) u v1 v2 := by
  have I' := i_up I
  obtain ⟨fw, ff, fl, aU, aS, aK, aV, bU, bS, bL, aR⟩ := u
  obtain ⟨ye, yg, ks, vs⟩ := v
  obtain ⟨LU, LE, RU, RL, w, vr, f, l, rfl, rfl, R, G, h4⟩ := I
  rcases vt_both R G (by omega) v1 with ⟨r, t, hr, ht, hO, hX, hY⟩ | ⟨hX, hY⟩
  · have hlen := vt_yt_len ks vs t
    by_cases z : v2 < 0
    · exact vt_keyAtN hr hX z (vt_ykeyAt ht hY ⟨vt_kbN z _ _ (by omega), I'⟩)
    · obtain ⟨i, hi, rfl⟩ := nI_of z
      refine vt_keyAt R hr hO hX hi (vt_ykeyAt ht hY ⟨?_, I'⟩)
      rw [vt_kbP hi _ _ (by omega) (Nat.zero_le _), Nat.sub_zero]
  · exact vt_keyAt0 hX (vt_ykeyAt0 hY ⟨rfl, I'⟩)
theorem i_vc_from {k : Nat} {u : SX} {v : SY} (I : i_Rel k u v) (hk : k + 4 ≤ 2048) (v1 : Int32) (v2 : Int32) : wpX_from (fun r => wpY_from (fun r' => r' = r ∧ i_Rel (k + 4) u v) v v1 v2) u v1 v2 := by
  have I' := i_up I
  obtain ⟨fw, ff, fl, aU, aS, aK, aV, bU, bS, bL, aR⟩ := u
  obtain ⟨ye, yg, ks, vs⟩ := v
  obtain ⟨LU, LE, RU, RL, w, vr, f, l, rfl, rfl, R, G, h4⟩ := I
  unfold wpX_from
  dsimp only
  rcases vt_both R G (by omega) v1 with ⟨r, t, hr, ht, hO, hX, hY⟩ | ⟨hX, hY⟩
  · have hlen := vt_yt_len ks vs t
    have hlw := vt_lw_len v2.toInt (vt_yt ks vs t)
    refine vt_rank R hr hO (vt_yt_so _ _ _) hX (br_t (nI_pos' (by omega)) (vt_keyAt R hr hO hX (by omega) (vt_yfrom ht hY ⟨?_, I'⟩)))
    rw [vt_fromEq (vt_yt_so _ _ _)]
  · exact vt_rank0 hX (br_f vt_neg1 (vt_yfrom0 hY ⟨rfl, I'⟩))
theorem i_vc_upTo {k : Nat} {u : SX} {v : SY} (I : i_Rel k u v) (hk : k + 4 ≤ 2048) (v1 : Int32) (v2 : Int32) : wpX_upTo (fun r => wpY_upTo (fun r' => r' = r ∧ i_Rel (k + 4) u v) v v1 v2) u v1 v2 := by
  have I' := i_up I
  obtain ⟨fw, ff, fl, aU, aS, aK, aV, bU, bS, bL, aR⟩ := u
  obtain ⟨ye, yg, ks, vs⟩ := v
  obtain ⟨LU, LE, RU, RL, w, vr, f, l, rfl, rfl, R, G, h4⟩ := I
  unfold wpX_upTo
  dsimp only
  rcases vt_both R G (by omega) v1 with ⟨r, t, hr, ht, hO, hX, hY⟩ | ⟨hX, hY⟩
  · have hlen := vt_yt_len ks vs t
    have hlw := vt_lw_len v2.toInt (vt_yt ks vs t)
    have hso := vt_yt_so ks vs t
    refine hX _ (br_t (nI_pos' (by omega)) (vt_rank R hr hO hso hX (vt_cell R hr hO hso (fun hno => ?_) (fun A x B e1 e e2 _ hx hex hl5 hz heC => ?_))))
    · refine br_t vt_neg2 ?_
      by_cases z : (vt_lw v2.toInt (vt_yt ks vs t)).length = 0
      · rw [z]
        refine vt_keyAtN hr hX (by decide) (vt_yupTo ht hY ⟨?_, I'⟩)
        rw [vt_upB hno, vt_upD z]
        rfl
      · obtain ⟨m, hm⟩ : ∃ m, (vt_lw v2.toInt (vt_yt ks vs t)).length = m + 1 := ⟨_, (Nat.succ_pred_eq_of_pos (Nat.pos_of_ne_zero z)).symm⟩
        rw [hm, nI_pred]
        refine vt_keyAt R hr hO hX (by omega) (vt_yupTo ht hY ⟨?_, I'⟩)
        rw [vt_upB hno, vt_upC hso hm]
    · refine br_f (nI_pos (by omega)) (vt_yupTo ht hY ⟨?_, I'⟩)
      rw [vt_upA hso heC hz]
      have h := ((vt_yt_mem e).mp heC).1
      exact (vt_eqL (by omega)).mpr hz
  · exact hX _ (br_f vt_neg1 (vt_yupTo0 hY ⟨rfl, I'⟩))
theorem i_vc_sum {k : Nat} {u : SX} {v : SY} (I : i_Rel k u v) (hk : k + 4 ≤ 2048) (v1 : Int32) (v2 : Int32) (v3 : Int32) : wpX_sum (fun r => wpY_sum (fun r' => r' = r ∧ i_Rel (k + 4) u v) v v1 v2 v3) u v1 v2 v3 := by
  have I' := i_up I
  obtain ⟨fw, ff, fl, aU, aS, aK, aV, bU, bS, bL, aR⟩ := u
  obtain ⟨ye, yg, ks, vs⟩ := v
  obtain ⟨LU, LE, RU, RL, w, vr, f, l, rfl, rfl, R, G, h4⟩ := I
  rcases vt_both R G (by omega) v1 with ⟨r, t, hr, ht, hO, hX, hY⟩ | ⟨hX, hY⟩
  · exact vt_sum R hr hO hX (vt_ysum ht hY ⟨rfl, I'⟩)
  · exact vt_sum0 hX (vt_ysum0 hY ⟨rfl, I'⟩)
theorem i_vc_keys {k : Nat} {u : SX} {v : SY} (I : i_Rel k u v) (hk : k + 4 ≤ 2048) (v1 : Int32) : wpX_keys (fun r => wpY_keys (fun r' => r' = r ∧ i_Rel (k + 4) u v) v v1) u v1 := by
  have I' := i_up I
  obtain ⟨fw, ff, fl, aU, aS, aK, aV, bU, bS, bL, aR⟩ := u
  obtain ⟨ye, yg, ks, vs⟩ := v
  obtain ⟨LU, LE, RU, RL, w, vr, f, l, rfl, rfl, R, G, h4⟩ := I
  unfold wpY_keys
  dsimp only
  rcases vt_both R G (by omega) v1 with ⟨r, t, hr, ht, hO, hX, hY⟩ | ⟨hX, hY⟩
  · refine vt_keys R hr hO hX (hY _ (br_t (nI_pos' (by omega)) ⟨vp_in_nI ht (by decide), ?_, I'⟩))
    rw [vt_yt_keys, nI_clamp (by omega)]
  · exact vt_keys0 hX (hY _ (br_f vt_neg1 ⟨rfl, I'⟩))
theorem i_vc_difference {k : Nat} {u : SX} {v : SY} (I : i_Rel k u v) (hk : k + 4 ≤ 2048) (v1 : Int32) (v2 : Int32) : wpX_difference (fun r => wpY_difference (fun r' => r' = r ∧ i_Rel (k + 4) u v) v v1 v2) u v1 v2 := by
  have I' := i_up I
  obtain ⟨fw, ff, fl, aU, aS, aK, aV, bU, bS, bL, aR⟩ := u
  obtain ⟨ye, yg, ks, vs⟩ := v
  obtain ⟨LU, LE, RU, RL, w, vr, f, l, rfl, rfl, R, G, h4⟩ := I
  unfold wpX_difference
  dsimp only
  rcases vt_both R G (by omega) v1 with ⟨r, t, hr, ht, hO, hX, hY⟩ | ⟨hX, hY⟩
  · rcases vt_both R G (by omega) v2 with ⟨r2, t2, hr2, ht2, hO2, hX2, hY2⟩ | ⟨hX2, hY2⟩
    · refine hX _ (hX2 _ (br_f (nI_pos (by omega)) (br_t (nI_pos' (by omega)) ?_)))
      refine vt_mi R hr hr2 hO hO2 (vt_yt_so _ _ _) (fun s1 hs1 => vt_mi R hr2 hr hO2 hO (vt_yt_so _ _ _) (fun s2 hs2 => ?_))
      refine vt_ydiff ht ht2 hY hY2 (fun s' hs' => ⟨b_ext (fun kk hkk => vt_iff ?_), I'⟩)
      rw [hs' kk hkk, vt_dfB hkk (hs1 kk hkk) (hs2 kk hkk)]
    · exact hX _ (hX2 _ (br_f (nI_pos (by omega)) (br_f vt_neg1 (vt_ydiff1 ht hY hY2 ⟨rfl, I'⟩))))
  · rcases vt_both R G (by omega) v2 with ⟨r2, t2, hr2, ht2, hO2, hX2, hY2⟩ | ⟨hX2, hY2⟩
    · exact hX _ (hX2 _ (br_t vt_neg2 (vt_ydiff0 hY hY2 ⟨rfl, I'⟩)))
    · exact hX _ (hX2 _ (br_t vt_neg2 (vt_ydiff0 hY hY2 ⟨rfl, I'⟩)))
end
section
theorem i_vc_put {k : Nat} {u : SX} {v : SY} (I : i_Rel k u v) (hk : k + 4 ≤ 2048) (v1 : Int32) (v2 : Int32) : wpX_put (fun r u' => wpY_put (fun r' v' => r' = r ∧ i_Rel (k + 4) u' v') v v1 v2) u v1 v2 := by
  have I' := i_up I
  obtain ⟨fw, ff, fl, aU, aS, aK, aV, bU, bS, bL, aR⟩ := u
  obtain ⟨ye, yg, ks, vs⟩ := v
  obtain ⟨LU, LE, RU, RL, w, vr, f, l, rfl, rfl, R, G, h4⟩ := I
  by_cases z : v1 < 0
  · unfold wpX_put wpY_put
    dsimp only
    exact br_t z (br_t z ⟨rfl, I'⟩)
  · obtain ⟨j, hj, rfl⟩ := nI_of z
    by_cases z2 : j < 32
    · refine vt_Xput z2 R G (vt_yt_so _ _ _) (fun e he => ((vt_yt_mem e).mp he).1) (fun LU' LE' RU' RL' w' G' => ?_)
      intro fw' ff' fl' aU' aS' aK' aV' bU' bS' bL' aR' R'
      unfold wpY_put
      dsimp only
      refine br_f z (br_t (nI_le (b := 31) (by omega) (by decide)) (nm_e ⟨vp_in_nI (by omega) (by decide), ?_⟩))
      rw [nI_clamp hj]
      refine nm_e ⟨rfl, vt_mk R' ?_ (by omega)⟩
      rw [vt_yt_put z2]
      have e : (fun j' => vt_yt (upd ks 0 (ks 0 ||| ((1 : Int32) <<< (nI j &&& 31)))) (upd vs j v2) (1 + j')) = fun j' => vt_yt ks vs (1 + j') := by
        funext j'
        exact vt_yt_keep z2 (by omega)
      rw [e]
      exact G'
    · have z3 : ¬ nI j < 32 := nI_nlt (b := 32) (by omega) hj
      have z4 : ¬ nI j ≤ 31 := nI_ge (a := 31) (by omega) hj
      unfold wpX_put wpY_put
      dsimp only
      exact br_f z (br_f z3 (br_f z (br_f z4 ⟨rfl, I'⟩)))
theorem i_vc_remove {k : Nat} {u : SX} {v : SY} (I : i_Rel k u v) (hk : k + 4 ≤ 2048) (v1 : Int32) : wpX_remove (fun r u' => wpY_remove (fun r' v' => r' = r ∧ i_Rel (k + 4) u' v') v v1) u v1 := by
  have I' := i_up I
  obtain ⟨fw, ff, fl, aU, aS, aK, aV, bU, bS, bL, aR⟩ := u
  obtain ⟨ye, yg, ks, vs⟩ := v
  obtain ⟨LU, LE, RU, RL, w, vr, f, l, rfl, rfl, R, G, h4⟩ := I
  refine vt_Xremove R G (vt_yt_so _ _ _) (fun e he => ((vt_yt_mem e).mp he).1) (fun hno => ?_) (fun e heC ep LU' LE' RU' RL' w' G' => ?_)
  · unfold wpY_remove
    dsimp only
    refine vt_yinG (t := 0) (by omega) (fun kk hkk e hb => ?_) (fun _ => br_t rfl ⟨rfl, I'⟩)
    have := hno (kk, vs (32 * 0 + kk)) ((vt_yt_mem _).mpr ⟨hkk, hb, rfl⟩)
    rw [e, nI_toInt (by omega)] at this
    exact absurd rfl this
  · intro fw' ff' fl' aU' aS' aK' aV' bU' bS' bL' aR' R'
    have h := (vt_yt_mem e).mp heC
    subst ep
    unfold wpY_remove
    dsimp only
    refine vt_yin (t := 0) (by omega) h.1 (fun _ => br_f (by decide) (nm_e ⟨rfl, vt_mk R' ?_ (by omega)⟩)) (fun hb => ?_)
    · rw [vt_yt_rm h.1]
      have e2 : (fun j' => vt_yt (upd ks 0 (ks 0 &&& (((1 : Int32) <<< (nI e.1 &&& 31)) ^^^ (-1)))) vs (1 + j')) = fun j' => vt_yt ks vs (1 + j') := by
        funext j'
        exact vt_yt_keep' (by omega)
      rw [e2]
      exact G'
    · rw [h.2.1] at hb
      cases hb
theorem i_vc_save {k : Nat} {u : SX} {v : SY} (I : i_Rel k u v) (hk : k + 4 ≤ 2048) : wpX_save (fun r u' => wpY_save (fun r' v' => r' = r ∧ i_Rel (k + 4) u' v') v) u := by
  obtain ⟨fw, ff, fl, aU, aS, aK, aV, bU, bS, bL, aR⟩ := u
  obtain ⟨ye, yg, ks, vs⟩ := v
  obtain ⟨LU, LE, RU, RL, w, vr, f, l, rfl, rfl, R, G, h4⟩ := I
  refine vt_Xsave R G (by omega) (fun LU' RU' f' hf' G' => ?_)
  intro fw' ff' fl' aU' aS' aK' aV' bU' bS' bL' aR' R'
  have g3 := G.2.2.1
  unfold wpY_save
  dsimp only
  refine nm_r (nI_1 l) ⟨by decide, ?_⟩
  rw [vt_rem4 (by omega), show (1 : Int32) + nI ((l + 1) % 4) = nI (1 + (l + 1) % 4) from nI_add 1 ((l + 1) % 4)]
  refine vt_ycopy (a := 0) (b := 1 + (l + 1) % 4) (by omega) (by omega) (by omega) (fun vs' c1 c2 => ?_)
  dsimp only
  have e0 : vt_yt (upd ks (1 + (l + 1) % 4) (ks 0)) vs' 0 = vt_yt ks vs 0 := vt_yt_cp' (by omega) c1
  have e1 : (fun j => vt_yt (upd ks (1 + (l + 1) % 4) (ks 0)) vs' (1 + j)) = vt_set (fun j => vt_yt ks vs (1 + j)) ((l + 1) % 4) (vt_yt ks vs 0) := by
    funext j
    by_cases e : j = (l + 1) % 4
    · rw [e, vt_ss]
      exact vt_yt_cp c2
    · rw [vt_sn e]
      exact vt_yt_cp' (by omega) c1
  have G2 : vt_RG LU' LE RU' RL w (vt_set vr ((l + 1) % 4) w) f' (l + 1) (vt_yt (upd ks (1 + (l + 1) % 4) (ks 0)) vs' 0) (fun j => vt_yt (upd ks (1 + (l + 1) % 4) (ks 0)) vs' (1 + j)) := by
    rw [e0, e1]
    exact G'
  rw [pk_sub (show f ≤ l + 1 by omega)]
  by_cases z : l + 1 - f < 4
  · refine br_t (nI_lt (b := 4) z (by decide)) ⟨rfl, ?_⟩
    rw [if_neg (by omega)] at hf'
    subst hf'
    exact vt_mk R' G2 (by omega)
  · refine br_f (nI_nlt (b := 4) (by omega) (by omega)) (nm_r (e' := nI (f + 1)) ?_ ⟨rfl, ?_⟩)
    · have e3 : nI (l + 1) - 3 = nI (l + 1 - 3) := pk_sub (a := l + 1) (b := 3) (by omega)
      rw [e3]
      congr 1
      omega
    · rw [if_pos (by omega)] at hf'
      subst hf'
      exact vt_mk R' G2 (by omega)
theorem i_vc_goBack {k : Nat} {u : SX} {v : SY} (I : i_Rel k u v) (hk : k + 4 ≤ 2048) (v1 : Int32) : wpX_goBack (fun r u' => wpY_goBack (fun r' v' => r' = r ∧ i_Rel (k + 4) u' v') v v1) u v1 := by
  have I' := i_up I
  obtain ⟨fw, ff, fl, aU, aS, aK, aV, bU, bS, bL, aR⟩ := u
  obtain ⟨ye, yg, ks, vs⟩ := v
  obtain ⟨LU, LE, RU, RL, w, vr, f, l, rfl, rfl, R, G, h4⟩ := I
  have g3 := G.2.2.1
  refine vt_XgoBack R G (by omega) (fun hno => ?_) (fun n en h1 h2 LU' RU' G' => ?_)
  · unfold wpY_goBack
    dsimp only
    unfold wpY_table
    dsimp only
    by_cases z : v1 = 0
    · exact br_t z (br_f (by decide) ⟨rfl, I'⟩)
    · refine br_f z ?_
      by_cases z1 : v1 < nI f
      · exact br_t z1 (br_f (by decide) ⟨rfl, I'⟩)
      · refine br_f z1 (br_t ?_ (br_f (by decide) ⟨rfl, I'⟩))
        rcases hno with q | q
        · exact absurd q z1
        · exact q
  · intro fw' ff' fl' aU' aS' aK' aV' bU' bS' bL' aR' R'
    subst en
    unfold wpY_goBack
    dsimp only
    unfold wpY_table
    dsimp only
    refine br_f (nI_ne0 (by omega) (by omega)) (br_f (nI_nlt h1 (by omega)) (br_f (nI_nlt h2 (by omega)) ⟨by decide, ?_⟩))
    rw [vt_rem4 (by omega), show (1 : Int32) + nI (n % 4) = nI (1 + n % 4) from nI_add 1 (n % 4)]
    refine br_t (nI_le (a := 1) (by omega) (by omega)) (vt_ycopy (a := 1 + n % 4) (b := 0) (by omega) (by omega) (by omega) (fun vs' c1 c2 => ?_))
    dsimp only
    refine ⟨rfl, vt_mk R' ?_ (by omega)⟩
    have e0 : vt_yt (upd ks 0 (ks (1 + n % 4))) vs' 0 = vt_yt ks vs (1 + n % 4) := vt_yt_cp c2
    have e1 : (fun j => vt_yt (upd ks 0 (ks (1 + n % 4))) vs' (1 + j)) = fun j => vt_yt ks vs (1 + j) := by
      funext j
      exact vt_yt_cp' (by omega) c1
    rw [e0, e1]
    exact G'
end
