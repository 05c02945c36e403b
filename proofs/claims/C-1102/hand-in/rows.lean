section
/-! rows of kit/rows (starting texts) -/
theorem pk_us {f : Nat → Int32} {k : Nat} {x : Int32} : upd f k x k = x := if_pos rfl
theorem pk_un {f : Nat → Int32} {k j : Nat} {x : Int32} (h : j ≠ k) : upd f k x j = f j := if_neg h
theorem pk_uLs {f : Nat → Int64} {k : Nat} {x : Int64} : vp_updL f k x k = x := if_pos rfl
theorem pk_uLn {f : Nat → Int64} {k j : Nat} {x : Int64} (h : j ≠ k) : vp_updL f k x j = f j := if_neg h
theorem pk_sub {a b : Nat} (h : b ≤ a) : nI a - nI b = nI (a - b) := by
  obtain ⟨c, rfl⟩ : ∃ c, a = c + b := ⟨a - b, by omega⟩
  rw [← nI_add, Int32.add_sub_cancel, Nat.add_sub_cancel]
theorem pk_m1 (n : Nat) : nI (n + 1) + (-1) = nI n := by
  rw [← nI_1, Int32.add_assoc, show (1 : Int32) + (-1) = 0 from rfl, Int32.add_zero]
theorem pk_mul (a b : Nat) : nI a * nI b = nI (a * b) := (Int32.ofNat_mul a b).symm
theorem pk_div {a d : Nat} (ha : a < 2 ^ 31) (h0 : 0 < d) (hd : d < 2 ^ 31) : nI a / nI d = nI (a / d) := by
  apply Int32.toInt_inj.mp
  rw [lg_idiv_nonneg (by rw [nI_toInt ha]; omega) (by rw [nI_toInt hd]; omega), nI_toInt ha, nI_toInt hd, nI_toInt (Nat.lt_of_le_of_lt (Nat.div_le_self a d) ha)]
  first | rfl | exact (Int.natCast_ediv _ _).symm
theorem pk_rem {a d : Nat} (ha : a < 2 ^ 31) (h0 : 0 < d) (hd : d < 2 ^ 31) : nI a - nI a / nI d * nI d = nI (a % d) := by
  rw [pk_div ha h0 hd, pk_mul, pk_sub (Nat.div_mul_le_self a d)]
  exact congrArg nI (by have := Nat.div_add_mod' a d; omega)
theorem pk_ix (x : Int32) {n : Nat} (hn : n < 2 ^ 31) : x < 0 ∨ nI n ≤ x ∨ ∃ j : Nat, j < n ∧ x = nI j := by
  by_cases h : x < 0
  · exact Or.inl h
  · obtain ⟨j, hj, rfl⟩ := nI_of h
    by_cases h2 : j < n
    · exact Or.inr (Or.inr ⟨j, h2, rfl⟩)
    · exact Or.inr (Or.inl (nI_le (by omega) hj))
theorem pk_le {x y : Int32} {A B : Prop} (a b : Nat) (f : a ≤ b → A) (g : b < a → B) (hx : x = nI a := by rfl) (hy : y = nI b := by rfl) (ha : a < 2 ^ 31 := by omega) (hb : b < 2 ^ 31 := by omega) : (x ≤ y → A) ∧ (¬ x ≤ y → B) := by
  subst hx hy
  rw [nI_leI ha hb]
  exact ⟨f, fun z => g (by omega)⟩
theorem pk_lt {x y : Int32} {A B : Prop} (a b : Nat) (f : a < b → A) (g : b ≤ a → B) (hx : x = nI a := by rfl) (hy : y = nI b := by rfl) (ha : a < 2 ^ 31 := by omega) (hb : b < 2 ^ 31 := by omega) : (x < y → A) ∧ (¬ x < y → B) := by
  subst hx hy
  rw [nI_ltI ha hb]
  exact ⟨f, fun z => g (by omega)⟩
theorem pk_eq {x y : Int32} {A B : Prop} (a b : Nat) (f : a = b → A) (g : a ≠ b → B) (hx : x = nI a := by rfl) (hy : y = nI b := by rfl) (ha : a < 2 ^ 31 := by omega) (hb : b < 2 ^ 31 := by omega) : (x = y → A) ∧ (¬ x = y → B) := by
  subst hx hy
  rw [nI_eq ha hb]
  exact ⟨f, g⟩
theorem pk_in {x : Int32} (n N : Nat) (h : n < N) (hx : x = nI n := by rfl) (hN : N < 2 ^ 31 := by omega) : vp_in x N := by
  subst hx
  exact vp_in_nI h hN
theorem pk_cl {x : Int32} (n : Nat) (hx : x = nI n := by rfl) (h : n < 2 ^ 31 := by omega) : x.toNatClampNeg = n := by
  subst hx
  exact nI_clamp h
theorem pk_vb (z : Int32) : vp_nar .byte z.toInt8.toInt32 = z.toInt8.toInt32 := by rw [vp_nar_byte]; simp
theorem pk_vs (z : Int32) : vp_nar .short z.toInt16.toInt32 = z.toInt16.toInt32 := by rw [vp_nar_short]; simp
theorem pk_least (P : Nat → Prop) (h : ∃ k, P k) : ∃ k, P k ∧ ∀ j, j < k → ¬ P j := by
  obtain ⟨k, hk⟩ := h
  induction k using Nat.strongRecOn with
  | ind k ih =>
    by_cases e : ∃ j, j < k ∧ P j
    · obtain ⟨j, hj, pj⟩ := e
      exact ih j hj pj
    · exact ⟨k, hk, fun j hj pj => e ⟨j, hj, pj⟩⟩
theorem ts_nf {x : Bool} (h : ¬ x = false) : x = true := by cases x <;> first | rfl | exact absurd rfl h
theorem ts_nt {x : Bool} (h : ¬ x = true) : x = false := by cases x <;> first | rfl | exact absurd rfl h
theorem wb_tb (n : Nat) : (lN n).toBitVec = BitVec.ofNat 64 n := rfl
theorem wb_inj {a b : Int64} (h : a.toBitVec = b.toBitVec) : a = b := Int64.toBitVec_inj.mp h
theorem wb_c : ∀ k, k < 64 → ((nI k).toInt64 &&& 63) = lN k := by decide +kernel
theorem wb_sm : ∀ k, k < 64 → (BitVec.ofNat 64 k).smod 64 = BitVec.ofNat 64 k := by decide +kernel
theorem wb_shl (n : Nat) {k : Nat} (hk : k < 64) : lN n <<< ((nI k).toInt64 &&& 63) = lN (n * 2 ^ k) := by
  rw [wb_c k hk]
  apply wb_inj
  rw [Int64.toBitVec_shiftLeft, wb_tb, wb_tb, wb_tb, wb_sm k hk]
  apply BitVec.eq_of_toNat_eq
  rw [BitVec.shiftLeft_eq', BitVec.toNat_shiftLeft, BitVec.toNat_ofNat, BitVec.toNat_ofNat, BitVec.toNat_ofNat, Nat.mod_eq_of_lt (show k < 2 ^ 64 by omega), Nat.shiftLeft_eq, Nat.mul_mod, Nat.mod_mod, ← Nat.mul_mod]
end
section
/-! ints: arrays of small numbers, literals -/
def nA (p : Nat → Nat) : Nat → Int32 := fun x => nI (p x)
def un (p : Nat → Nat) (k v : Nat) : Nat → Nat := fun j => if j = k then v else p j
theorem nA_e (p : Nat → Nat) (x : Nat) : nA p x = nI (p x) := rfl
theorem un_s {p : Nat → Nat} {k v : Nat} : un p k v k = v := if_pos rfl
theorem un_n {p : Nat → Nat} {k v j : Nat} (h : j ≠ k) : un p k v j = p j := if_neg h
theorem nA_u (p : Nat → Nat) (k v : Nat) : upd (nA p) k (nI v) = nA (un p k v) := by
  funext j
  show (if j = k then nI v else nI (p j)) = nI (if j = k then v else p j)
  by_cases h : j = k
  · rw [if_pos h, if_pos h]
  · rw [if_neg h, if_neg h]
theorem nA_0 : (fun _ => 0 : Nat → Int32) = nA (fun _ => 0) := rfl
theorem un_id {p : Nat → Nat} {k : Nat} : un p k (p k) = p := by
  funext j
  by_cases h : j = k
  · rw [h, un_s]
  · rw [un_n h]
theorem sb_i8 : ∀ k, k < 128 → (nI k).toInt8.toInt32 = nI k := by decide +kernel
theorem sb_i16a : ∀ k, k < 256 → (nI k).toInt16.toInt32 = nI k := by decide +kernel
theorem vb_k {k : Nat} (h : k < 128) : vp_nar .byte (nI k) = nI k := by rw [vp_nar_byte, sb_i8 k h]
theorem vb_2 {k : Nat} (h : k < 128) : vp_nar .byte (nI k).toInt8.toInt32 = nI k := by rw [sb_i8 k h, vb_k h]
theorem vs_2 {k : Nat} (h : k < 256) : vp_nar .short (nI k).toInt16.toInt32 = nI k := by rw [vp_nar_short, sb_i16a k h, sb_i16a k h]
theorem vb_m1 : vp_nar .byte (-1) = -1 := by rw [vp_nar_byte]; decide
theorem vb_0 : vp_nar .byte 0 = 0 := by rw [vp_nar_byte]; decide
theorem vb_1 : vp_nar .byte 1 = 1 := by rw [vp_nar_byte]; decide
theorem vb_3 : vp_nar .byte 3 = 3 := by rw [vp_nar_byte]; decide
theorem vz_0 : vp_nar .boolean 0 = 0 := rfl
theorem vz_1 : vp_nar .boolean 1 = 1 := rfl
/-- small: -1 or below 128 -/
def Sm (v : Int32) : Prop := v = -1 ∨ ∃ k : Nat, k < 128 ∧ v = nI k
theorem sm_n {k : Nat} (h : k < 128) : Sm (nI k) := Or.inr ⟨k, h, rfl⟩
theorem sm_m : Sm (-1) := Or.inl rfl
theorem sm_v {v : Int32} (h : Sm v) : vp_nar .byte v = v := by
  rcases h with rfl | ⟨k, hk, rfl⟩
  · exact vb_m1
  · exact vb_k hk
theorem sm_i8 {v : Int32} (h : Sm v) : v.toInt8.toInt32 = v := by
  rcases h with rfl | ⟨k, hk, rfl⟩
  · decide
  · exact sb_i8 k hk
theorem sm_v2 {v : Int32} (h : Sm v) : vp_nar .byte v.toInt8.toInt32 = v := by rw [sm_i8 h, sm_v h]
theorem sm_neg {v : Int32} (h : Sm v) (hn : v < 0) : v = -1 := by
  rcases h with rfl | ⟨k, hk, rfl⟩
  · rfl
  · exact absurd hn (nI_pos (by omega))
theorem sm_pos {v : Int32} (h : Sm v) (hn : ¬ v < 0) : ∃ k, k < 128 ∧ v = nI k := by
  rcases h with rfl | h
  · exact absurd (by decide) hn
  · exact h
theorem m1_neg : (-1 : Int32) < 0 := by decide
theorem m1_n0 : ¬ (0 : Int32) ≤ -1 := by decide
theorem nI_m1 {k : Nat} (h : k < 2 ^ 31) : ¬ nI k = -1 := fun e => nI_pos h (e ▸ m1_neg)
theorem nI_nn {k : Nat} (h : k < 2 ^ 31) : ¬ nI k < 0 := nI_pos h
theorem nI_inj {a b : Nat} (h : nI a = nI b) (ha : a < 2 ^ 31 := by omega) (hb : b < 2 ^ 31 := by omega) : a = b := (nI_eq ha hb).1 h
theorem nI_e0 {k : Nat} (h : k < 2 ^ 31) : nI k = 0 ↔ k = 0 := nI_eq (b := 0) h (by decide)
theorem nI_e1 {k : Nat} (h : k < 2 ^ 31) : nI k = 1 ↔ k = 1 := nI_eq (b := 1) h (by decide)
theorem nI_e2 {k : Nat} (h : k < 2 ^ 31) : nI k = 2 ↔ k = 2 := nI_eq (b := 2) h (by decide)
theorem nI_e3 {k : Nat} (h : k < 2 ^ 31) : nI k = 3 ↔ k = 3 := nI_eq (b := 3) h (by decide)
theorem nI_z {k : Nat} (h : k < 2 ^ 31) : nI k ≤ 0 ↔ k = 0 := by
  rw [show (0 : Int32) = nI 0 from rfl, nI_leI h (by decide)]; omega
theorem nI_gc {k : Nat} (c : Nat) (h : k < 2 ^ 31) (hc : c < 2 ^ 31) : nI c ≤ nI k ↔ c ≤ k := nI_leI hc h
theorem lt_n {k c : Nat} (h : k < c) (hc : c < 2 ^ 31 := by decide) : ¬ nI c ≤ nI k := nI_ge h hc
theorem ge_n {k c : Nat} (h : c ≤ k) (hc : k < 2 ^ 31 := by omega) : nI c ≤ nI k := nI_le h hc
theorem cl_n {k : Nat} (h : k < 2 ^ 31 := by omega) : (nI k).toNatClampNeg = k := nI_clamp h
theorem in_n {k N : Nat} (h : k < N) (hN : N < 2 ^ 31 := by decide) : vp_in (nI k) N := vp_in_nI h hN
/-- x + (-1), x - 1 -/
theorem pd_n {k : Nat} (h : 0 < k) : nI k + (-1) = nI (k - 1) := by
  obtain ⟨j, rfl⟩ : ∃ j, k = j + 1 := ⟨k - 1, by omega⟩
  exact pk_m1 j
theorem pd_s {k : Nat} (h : 0 < k) : nI k - 1 = nI (k - 1) := by
  obtain ⟨j, rfl⟩ : ∃ j, k = j + 1 := ⟨k - 1, by omega⟩
  exact nI_pred j
theorem m1_m : nI 0 + (-1) = -1 := by decide
theorem m1_s : nI 0 - 1 = -1 := by decide
theorem tri (x k : Nat) : (3 : Int32) * nI x + nI k = nI (3 * x + k) := by
  rw [show (3 : Int32) = nI 3 from rfl, pk_mul, nI_add]
/-- a loop's condition by naturals -/
theorem wh_t {a b : Nat} {x y : Int32} {A B : Prop} (h : a ≤ b) (H : A) (hb : b < 2 ^ 31 := by omega) (hx : x = nI a := by rfl) (hy : y = nI b := by rfl) : (x ≤ y → A) ∧ (¬ x ≤ y → B) := br_t (by rw [hx, hy]; exact nI_le h hb) H
theorem wh_f {a b : Nat} {x y : Int32} {A B : Prop} (h : b < a) (H : B) (ha : a < 2 ^ 31 := by omega) (hx : x = nI a := by rfl) (hy : y = nI b := by rfl) : (x ≤ y → A) ∧ (¬ x ≤ y → B) := br_f (by rw [hx, hy]; exact nI_ge h ha) H
theorem up1 {k : Nat} {P : Int32 → Prop} (h : P (nI (k + 1))) : ∀ y, y = nI k + 1 → P y := nm_r (nI_1 k) h
theorem nmr {α : Sort _} {e : α} {P : α → Prop} (e' : α) (he : e = e') (h : P e') : ∀ x, x = e → P x := nm_r he h
/-! literals -/
theorem aL_8 (i : Nat) : (8 : Int32) + nI i = nI (8 + i) := nI_add 8 i
theorem aL_16 (i : Nat) : (16 : Int32) + nI i = nI (16 + i) := nI_add 16 i
theorem aL_48 (i : Nat) : (48 : Int32) + nI i = nI (48 + i) := nI_add 48 i
theorem aL_96 (i : Nat) : (96 : Int32) + nI i = nI (96 + i) := nI_add 96 i
theorem aL_100 (i : Nat) : (100 : Int32) + nI i = nI (100 + i) := nI_add 100 i
theorem aL_144 (i : Nat) : (144 : Int32) + nI i = nI (144 + i) := nI_add 144 i
theorem aL_192 (i : Nat) : (192 : Int32) + nI i = nI (192 + i) := nI_add 192 i
theorem aL_240 (i : Nat) : (240 : Int32) + nI i = nI (240 + i) := nI_add 240 i
theorem aL_384 (i : Nat) : (384 : Int32) + nI i = nI (384 + i) := nI_add 384 i
theorem aL_432 (i : Nat) : (432 : Int32) + nI i = nI (432 + i) := nI_add 432 i
theorem aL_480 (i : Nat) : (480 : Int32) + nI i = nI (480 + i) := nI_add 480 i
theorem aL_528 (i : Nat) : (528 : Int32) + nI i = nI (528 + i) := nI_add 528 i
theorem aL_536 (i : Nat) : (536 : Int32) + nI i = nI (536 + i) := nI_add 536 i
theorem aL_544 (i : Nat) : (544 : Int32) + nI i = nI (544 + i) := nI_add 544 i
theorem aL_552 (i : Nat) : (552 : Int32) + nI i = nI (552 + i) := nI_add 552 i
theorem aL_560 (i : Nat) : (560 : Int32) + nI i = nI (560 + i) := nI_add 560 i
theorem aL_568 (i : Nat) : (568 : Int32) + nI i = nI (568 + i) := nI_add 568 i
theorem aL_573 (i : Nat) : (573 : Int32) + nI i = nI (573 + i) := nI_add 573 i
theorem aL_633 (i : Nat) : (633 : Int32) + nI i = nI (633 + i) := nI_add 633 i
theorem aL_0 (i : Nat) : (0 : Int32) + nI i = nI i := by rw [show (0 : Int32) = nI 0 from rfl, nI_add, Nat.zero_add]
theorem aP (x k : Nat) : ((240 : Int32) + (3 : Int32) * nI x) + nI k = nI (240 + 3 * x + k) := by rw [show (3 : Int32) = nI 3 from rfl, show (240 : Int32) = nI 240 from rfl, pk_mul, nI_add, nI_add]
/-! sums and counts -/
def smN (f : Nat → Nat) : Nat → Nat
  | 0 => 0
  | n + 1 => smN f n + f n
theorem smN_le {f g : Nat → Nat} : ∀ n, (∀ i, i < n → f i ≤ g i) → smN f n ≤ smN g n
  | 0, _ => Nat.le_refl 0
  | n + 1, h => Nat.add_le_add (smN_le n fun i hi => h i (by omega)) (h n (by omega))
theorem smN_lt {f g : Nat → Nat} : ∀ n, (∀ i, i < n → f i ≤ g i) → ∀ j, j < n → f j < g j → smN f n < smN g n
  | 0, _, j, hj, _ => absurd hj (by omega)
  | n + 1, h, j, hj, hlt => by
    have a := smN_le n fun i hi => h i (by omega)
    have b := h n (by omega)
    show smN f n + f n < smN g n + g n
    by_cases e : j = n
    · subst e; omega
    · have := smN_lt n (fun i hi => h i (by omega)) j (by omega) hlt
      omega
theorem smN_eq {f g : Nat → Nat} (n : Nat) (h : ∀ i, i < n → f i = g i) : smN f n = smN g n := by
  have a := smN_le (f := f) (g := g) n fun i hi => by rw [h i hi]; exact Nat.le_refl _
  have b := smN_le (f := g) (g := f) n fun i hi => by rw [h i hi]; exact Nat.le_refl _
  omega
theorem smN_bd {f : Nat → Nat} {c : Nat} : ∀ n, (∀ i, i < n → f i ≤ c) → smN f n ≤ c * n
  | 0, _ => Nat.zero_le _
  | n + 1, h => by
    have a := smN_bd n fun i hi => h i (by omega)
    have b := h n (by omega)
    show smN f n + f n ≤ c * (n + 1)
    rw [Nat.mul_add]; omega
def b01 (b : Bool) : Nat := if b = true then 1 else 0
theorem b01_t {b : Bool} (h : b = true) : b01 b = 1 := if_pos h
theorem b01_f {b : Bool} (h : b = false) : b01 b = 0 := by rw [h]; rfl
def cnB (f : Nat → Bool) (n : Nat) : Nat := smN (fun i => b01 (f i)) n
theorem cnB_s (f : Nat → Bool) (n : Nat) : cnB f (n + 1) = cnB f n + b01 (f n) := rfl
theorem b01_le (b : Bool) : b01 b ≤ 1 := by cases b <;> decide
theorem cnB_le (f : Nat → Bool) (n : Nat) : cnB f n ≤ n := by
  have := smN_bd (f := fun i => b01 (f i)) (c := 1) n fun i _ => b01_le _
  show smN _ n ≤ n
  omega
theorem cnB_eq {f g : Nat → Bool} (n : Nat) (h : ∀ i, i < n → f i = g i) : cnB f n = cnB g n := smN_eq n fun i hi => by rw [h i hi]
/-- one more -/
theorem cnB_one {f g : Nat → Bool} {x : Nat} : ∀ n, x < n → f x = false → g x = true → (∀ i, i < n → i ≠ x → f i = g i) → cnB g n = cnB f n + 1
  | 0, h, _, _, _ => absurd h (by omega)
  | n + 1, h, hf, hg, he => by
    rw [cnB_s, cnB_s]
    by_cases e : x = n
    · subst e
      rw [cnB_eq x fun i hi => he i (by omega) (by omega), b01_t hg, b01_f hf]
    · rw [cnB_one n (by omega) hf hg fun i hi => he i (by omega), he n (by omega) (Ne.symm e)]
      omega
theorem cnB_lo {f : Nat → Bool} {x : Nat} : ∀ n, x ≤ n → (∀ i, i < n → f i = decide (i < x)) → cnB f n = x
  | 0, h, _ => by
    have : x = 0 := by omega
    subst this; rfl
  | n + 1, h, he => by
    rw [cnB_s, he n (by omega)]
    by_cases e : x = n + 1
    · have := cnB_lo (f := f) (x := n) n (Nat.le_refl n) fun i hi => by rw [he i (by omega), decide_eq_true hi, decide_eq_true (show i < x by omega)]
      rw [this, b01_t (decide_eq_true (by omega))]; omega
    · rw [cnB_lo (x := x) n (by omega) fun i hi => he i (by omega), b01_f (decide_eq_false (by omega))]
      rfl
theorem cnB_pos {f : Nat → Bool} {x n : Nat} (h : x < n) (hf : f x = true) : 0 < cnB f n := by
  have := smN_lt (f := fun _ => 0) (g := fun i => b01 (f i)) n (fun i _ => Nat.zero_le _) x h (by show 0 < b01 (f x); rw [b01_t hf]; exact Nat.one_pos)
  have e : ∀ m, smN (fun _ => 0) m = 0 := by
    intro m
    induction m with
    | zero => rfl
    | succ m ih => show smN (fun _ => 0) m + 0 = 0; omega
  rw [e] at this
  exact this
/-! different numbers -/
theorem inj_le : ∀ (n m : Nat) (f : Nat → Nat), (∀ i, i < n → f i < m) → (∀ i j, i < n → j < n → f i = f j → i = j) → n ≤ m
  | 0, _, _, _, _ => Nat.zero_le _
  | n + 1, 0, f, h, _ => absurd (h 0 (by omega)) (by omega)
  | n + 1, m + 1, f, h, hi => by
    have := inj_le n m (fun i => if f i = m then f n else f i) (by
      intro i hin
      show (if f i = m then f n else f i) < m
      have a := h i (by omega)
      have b := h n (by omega)
      by_cases e : f i = m
      · rw [if_pos e]
        have : f n ≠ m := fun e2 => by have := hi i n (by omega) (by omega) (by omega); omega
        omega
      · rw [if_neg e]; omega) (by
      intro i j hin hjn
      show (if f i = m then f n else f i) = (if f j = m then f n else f j) → i = j
      by_cases e : f i = m
      · by_cases e2 : f j = m
        · intro _; exact hi i j (by omega) (by omega) (by omega)
        · rw [if_pos e, if_neg e2]; intro z
          have := hi n j (by omega) (by omega) z; omega
      · by_cases e2 : f j = m
        · rw [if_neg e, if_pos e2]; intro z
          have := hi i n (by omega) (by omega) z; omega
        · rw [if_neg e, if_neg e2]; exact hi i j (by omega) (by omega))
    omega
/-- n different numbers below n leave none out -/
theorem inj_on {n : Nat} {f : Nat → Nat} (h : ∀ i, i < n → f i < n) (hi : ∀ i j, i < n → j < n → f i = f j → i = j) {y : Nat} (hy : y < n) : ∃ i, i < n ∧ f i = y := by
  by_cases e : ∃ i, i < n ∧ f i = y
  · exact e
  · have := inj_le (n + 1) n (fun i => if i = n then y else f i) (by
      intro i hin
      show (if i = n then y else f i) < n
      by_cases e2 : i = n
      · rw [if_pos e2]; exact hy
      · rw [if_neg e2]; exact h i (by omega)) (by
      intro i j hin hjn
      show (if i = n then y else f i) = (if j = n then y else f j) → i = j
      by_cases e2 : i = n
      · by_cases e3 : j = n
        · intro _; omega
        · rw [if_pos e2, if_neg e3]; intro z; exact absurd ⟨j, by omega, z.symm⟩ e
      · by_cases e3 : j = n
        · rw [if_neg e2, if_pos e3]; intro z; exact absurd ⟨i, by omega, z⟩ e
        · rw [if_neg e2, if_neg e3]; exact hi i j (by omega) (by omega))
    omega
/-- a map of n onto n numbers parts all -/
theorem onto_inj {n : Nat} {f : Nat → Nat} (h : ∀ i, i < n → f i < n) (ho : ∀ y, y < n → ∃ i, i < n ∧ f i = y) : ∀ i j, i < n → j < n → f i = f j → i = j := by
  intro a b ha hb e
  by_cases hab : a = b
  · exact hab
  · have hg : ∀ y, ∃ i, y < n → (i < n ∧ f i = y ∧ i ≠ b) := by
      intro y
      by_cases hy : y < n
      · by_cases e2 : y = f b
        · exact ⟨a, fun _ => ⟨ha, by rw [e, e2], hab⟩⟩
        · obtain ⟨i, hi, hfi⟩ := ho y hy
          exact ⟨i, fun _ => ⟨hi, hfi, fun z => e2 (by rw [← hfi, z])⟩⟩
      · exact ⟨0, fun z => absurd z hy⟩
    have hG := fun y => Classical.choose_spec (hg y)
    obtain ⟨y, hy, hyb⟩ := inj_on (f := fun y => Classical.choose (hg y)) (fun y hy => (hG y hy).1) (fun y z hy hz ee => by
      have h1 := (hG y hy).2.1
      have h2 := (hG z hz).2.1
      rw [← h1, ← h2]
      exact congrArg f ee) hb
    exact absurd hyb (hG y hy).2.2
end
section
/-! the bits of a long -/
def bL (w : Int64) (x : Nat) : Bool := w.toBitVec.getLsbD x
theorem bL_big {w : Int64} {x : Nat} (h : 64 ≤ x) : bL w x = false := BitVec.getLsbD_of_ge _ _ h
theorem bL_lt {w : Int64} {x : Nat} (h : bL w x = true) : x < 64 := by
  by_cases e : x < 64
  · exact e
  · rw [bL_big (by omega)] at h; exact absurd h (by decide)
theorem bL_ext {v w : Int64} (h : ∀ x, x < 64 → bL v x = bL w x) : v = w := wb_inj (BitVec.eq_of_getLsbD_eq fun i hi => h i hi)
theorem bL_0 (x : Nat) : bL 0 x = false := by
  show (0#64).getLsbD x = false
  simp
theorem bL_or (v w : Int64) (x : Nat) : bL (v ||| w) x = (bL v x || bL w x) := by
  show (v ||| w).toBitVec.getLsbD x = _
  rw [Int64.toBitVec_or, BitVec.getLsbD_or]; rfl
theorem bL_and (v w : Int64) (x : Nat) : bL (v &&& w) x = (bL v x && bL w x) := by
  show (v &&& w).toBitVec.getLsbD x = _
  rw [Int64.toBitVec_and, BitVec.getLsbD_and]; rfl
theorem bL_xor (v w : Int64) (x : Nat) : bL (v ^^^ w) x = (bL v x ^^ bL w x) := by
  show (v ^^^ w).toBitVec.getLsbD x = _
  rw [Int64.toBitVec_xor, BitVec.getLsbD_xor]; rfl
theorem bL_m1 {x : Nat} (h : x < 64) : bL (-1) x = true := by
  show (BitVec.allOnes 64).getLsbD x = true
  rw [BitVec.getLsbD_allOnes, decide_eq_true h]
theorem bL_not (w : Int64) {x : Nat} (h : x < 64) : bL (w ^^^ (-1)) x = !bL w x := by
  rw [bL_xor, bL_m1 h]; cases bL w x <;> rfl
theorem bL_tw {k : Nat} (hk : k < 64) : ((1 : Int64) <<< ((nI k).toInt64 &&& 63)).toBitVec = BitVec.twoPow 64 k := by
  have e := wb_shl 1 hk
  rw [show lN 1 = (1 : Int64) from rfl] at e
  rw [e, Nat.one_mul, wb_tb, BitVec.twoPow_eq]
  apply BitVec.eq_of_toNat_eq
  rw [BitVec.toNat_ofNat, BitVec.toNat_shiftLeft, Nat.shiftLeft_eq]
  simp
theorem bL_one {k : Nat} (hk : k < 64) (x : Nat) : bL ((1 : Int64) <<< ((nI k).toInt64 &&& 63)) x = decide (k = x) := by
  show (_ : BitVec 64).getLsbD x = _
  rw [bL_tw hk, BitVec.getLsbD_twoPow, decide_eq_true hk, Bool.true_and]
theorem bL_or1 (w : Int64) {k : Nat} (hk : k < 64) (x : Nat) : bL (w ||| ((1 : Int64) <<< ((nI k).toInt64 &&& 63))) x = (bL w x || decide (k = x)) := by
  rw [bL_or, bL_one hk]
theorem bL_an1 (w : Int64) {k : Nat} (hk : k < 64) (x : Nat) : bL (w &&& (((1 : Int64) <<< ((nI k).toInt64 &&& 63)) ^^^ (-1))) x = (bL w x && !decide (k = x)) := by
  by_cases h : x < 64
  · rw [bL_and, bL_not _ h, bL_one hk]
  · rw [bL_big (by omega), bL_big (w := w) (by omega)]; rfl
theorem bL_xo1 (w : Int64) {k : Nat} (hk : k < 64) (x : Nat) : bL (w ^^^ ((1 : Int64) <<< ((nI k).toInt64 &&& 63))) x = (bL w x ^^ decide (k = x)) := by
  rw [bL_xor, bL_one hk]
theorem bL_shr (w : Int64) {k : Nat} (hk : k < 64) : bL (w >>> ((nI k).toInt64 &&& 63)) 0 = bL w k := by
  show (_ : Int64).toBitVec.getLsbD 0 = _
  rw [Int64.toBitVec_shiftRight, wb_c k hk, wb_tb, wb_sm k hk, BitVec.getLsbD_sshiftRight', BitVec.toNat_ofNat, Nat.mod_eq_of_lt (show k < 2 ^ 64 by omega), Nat.add_zero, if_pos hk]
  rfl
theorem bL_and1 (w : Int64) (x : Nat) : bL (w &&& 1) x = (decide (x = 0) && bL w 0) := by
  rw [bL_and]
  have : bL 1 x = decide (x = 0) := by
    show (1#64).getLsbD x = _
    rw [BitVec.getLsbD_one]; simp
  rw [this]
  by_cases h : x = 0
  · subst h; simp
  · rw [decide_eq_false h]; simp
theorem bL_a0 (w : Int64) : (w &&& 1) = 0 ↔ bL w 0 = false := by
  constructor
  · intro h
    have := bL_and1 w 0
    rw [h, bL_0] at this
    simpa using this.symm
  · intro h
    apply bL_ext
    intro x _
    rw [bL_and1, h, bL_0]; simp
theorem bL_a1 (w : Int64) : (w &&& 1) = 1 ↔ bL w 0 = true := by
  constructor
  · intro h
    apply ts_nf
    intro z
    rw [(bL_a0 w).2 z] at h
    exact absurd h (by decide)
  · intro h
    apply bL_ext
    intro x _
    rw [bL_and1, h]
    show _ = (1#64).getLsbD x
    rw [BitVec.getLsbD_one]; simp
/-- the test of a bit, as it is printed -/
theorem bt_0 (w : Int64) {k : Nat} (hk : k < 64) : ((w >>> ((nI k).toInt64 &&& 63)) &&& 1) = 0 ↔ bL w k = false := by
  rw [bL_a0, bL_shr w hk]
theorem bt_1 (w : Int64) {k : Nat} (hk : k < 64) : ((w >>> ((nI k).toInt64 &&& 63)) &&& 1) = 1 ↔ bL w k = true := by
  rw [bL_a1, bL_shr w hk]
theorem bt_n0 {w : Int64} {k : Nat} (hk : k < 64) (h : bL w k = true) : ¬ ((w >>> ((nI k).toInt64 &&& 63)) &&& 1) = 0 := fun z => by
  rw [bt_0 w hk, h] at z; exact absurd z (by decide)
theorem bt_n1 {w : Int64} {k : Nat} (hk : k < 64) (h : bL w k = false) : ¬ ((w >>> ((nI k).toInt64 &&& 63)) &&& 1) = 1 := fun z => by
  rw [bt_1 w hk, h] at z; exact absurd z (by decide)
/-! the least bit -/
theorem bL_neg (w : Int64) {x : Nat} (h : x < 64) : bL (-w) x = (bL w x ^^ decide (∃ j, j < x ∧ bL w j = true)) := by
  show (-w).toBitVec.getLsbD x = _
  rw [Int64.toBitVec_neg, BitVec.getLsbD_neg, decide_eq_true h, Bool.true_and]
  rfl
theorem bL_sub1 (w : Int64) {x : Nat} (h : x < 64) : bL (w - 1) x = !(bL w x ^^ decide (∃ j, j < x ∧ bL w j = true)) := by
  have e : (w - 1).toBitVec = ~~~ (-w).toBitVec := by
    rw [BitVec.not_eq_neg_add, Int64.toBitVec_neg, BitVec.neg_neg, Int64.toBitVec_sub]
    rfl
  show (w - 1).toBitVec.getLsbD x = _
  rw [e, BitVec.getLsbD_not, decide_eq_true h, Bool.true_and]
  exact congrArg (!·) (bL_neg w h)
def Low (w : Int64) (l : Nat) : Prop := l < 64 ∧ bL w l = true ∧ ∀ j, j < l → bL w j = false
theorem low_ex {w : Int64} (h : ¬ w = 0) : ∃ l, Low w l := by
  have : ∃ k, k < 64 ∧ bL w k = true := by
    by_cases e : ∃ k, k < 64 ∧ bL w k = true
    · exact e
    · exact absurd (bL_ext fun x hx => by rw [bL_0]; exact ts_nt fun z => e ⟨x, hx, z⟩) h
  obtain ⟨l, ⟨h1, h2⟩, h3⟩ := pk_least _ this
  exact ⟨l, h1, h2, fun j hj => ts_nt fun z => h3 j hj ⟨by omega, z⟩⟩
theorem low_clr {w : Int64} {l : Nat} (h : Low w l) (x : Nat) : bL (w &&& (w - 1)) x = (bL w x && !decide (x = l)) := by
  by_cases hx : x < 64
  · rw [bL_and, bL_sub1 w hx]
    by_cases e : x = l
    · subst e
      rw [h.2.1, decide_eq_false (fun ⟨j, hj, z⟩ => by rw [h.2.2 j hj] at z; exact absurd z (by decide))]
      simp
    · rw [decide_eq_false e]
      by_cases e2 : x < l
      · rw [h.2.2 x e2]; rfl
      · rw [decide_eq_true (⟨l, by omega, h.2.1⟩ : ∃ j, j < x ∧ bL w j = true)]
        cases bL w x <;> rfl
  · rw [bL_big (by omega), bL_big (w := w) (by omega)]; rfl
theorem low_bit {w : Int64} {l : Nat} (h : Low w l) (x : Nat) : bL (w &&& (-w)) x = decide (x = l) := by
  by_cases hx : x < 64
  · rw [bL_and, bL_neg w hx]
    by_cases e : x = l
    · subst e
      rw [h.2.1, decide_eq_false (fun ⟨j, hj, z⟩ => by rw [h.2.2 j hj] at z; exact absurd z (by decide))]
      simp
    · rw [decide_eq_false e]
      by_cases e2 : x < l
      · rw [h.2.2 x e2]; rfl
      · rw [decide_eq_true (⟨l, by omega, h.2.1⟩ : ∃ j, j < x ∧ bL w j = true)]
        cases bL w x <;> rfl
  · rw [bL_big (by omega), decide_eq_false (by have := h.1; omega)]
theorem low_ix {w : Int64} {l : Nat} (h : Low w l) {x : Nat} (hx : x < 64) : bL ((w &&& (-w)) - 1) x = decide (x < l) := by
  rw [bL_sub1 _ hx, low_bit h]
  by_cases e : x = l
  · subst e
    rw [decide_eq_true rfl, decide_eq_false (fun ⟨j, hj, z⟩ => by rw [low_bit h, decide_eq_true_eq] at z; omega), decide_eq_false (by omega)]
    rfl
  · rw [decide_eq_false e]
    by_cases e2 : x < l
    · rw [decide_eq_true e2, decide_eq_false (fun ⟨j, hj, z⟩ => by rw [low_bit h, decide_eq_true_eq] at z; omega)]
      rfl
    · rw [decide_eq_false e2, decide_eq_true (⟨l, by omega, by rw [low_bit h, decide_eq_true_eq]⟩ : ∃ j, j < x ∧ bL (w &&& (-w)) j = true)]
      rfl
/-- how many bits -/
def pc (w : Int64) : Nat := cnB (bL w) 64
theorem pc_0 : pc 0 = 0 := by
  have := cnB_lo (f := bL 0) (x := 0) 64 (by decide) fun i _ => by rw [bL_0]; rfl
  exact this
theorem pc_clr {w : Int64} {l : Nat} (h : Low w l) : pc w = pc (w &&& (w - 1)) + 1 := by
  apply cnB_one (x := l) 64 h.1
  · rw [low_clr h, decide_eq_true rfl]; cases bL w l <;> rfl
  · exact h.2.1
  · intro i _ hi
    rw [low_clr h, decide_eq_false hi]; cases bL w i <;> rfl
theorem pc_ix {w : Int64} {l : Nat} (h : Low w l) : pc ((w &&& (-w)) - 1) = l := cnB_lo 64 (by have := h.1; omega) fun i hi => low_ix h hi
theorem pc_le (w : Int64) : pc w ≤ 64 := cnB_le _ _
theorem xw_cnt {post : Int32 → Prop} : ∀ (c : Nat) (w : Int64) (a n : Nat), pc w = c → c < n → post (nI (a + c)) → wX_count_4 post n (nI a) w := by
  intro c
  induction c with
  | zero =>
    intro w a n hw hn hp
    obtain ⟨n, rfl⟩ : ∃ m, n = m + 1 := ⟨n - 1, by omega⟩
    have : w = 0 := by
      by_cases e : w = 0
      · exact e
      · obtain ⟨l, hl⟩ := low_ex e
        rw [pc_clr hl] at hw; omega
    exact br_t this hp
  | succ c ih =>
    intro w a n hw hn hp
    obtain ⟨n, rfl⟩ : ∃ m, n = m + 1 := ⟨n - 1, by omega⟩
    have e : ¬ w = 0 := fun z => by rw [z, pc_0] at hw; omega
    obtain ⟨l, hl⟩ := low_ex e
    rw [pc_clr hl] at hw
    refine br_f e (up1 (nm_e (ih _ _ _ (by omega) (by omega) ?_)))
    rw [show a + 1 + c = a + (c + 1) by omega]; exact hp
theorem xw_count {post : Int32 → Prop} (w : Int64) (h : post (nI (pc w))) : wpX_count post w :=
  Exists.intro (pc w + 1) (xw_cnt (pc w) w 0 _ rfl (by omega) (by rw [Nat.zero_add]; exact h))
theorem xw_low {post : Int32 → Prop} {w : Int64} {l : Nat} (hl : Low w l) (h : post (nI l)) : wpX_count post ((w &&& (-w)) - 1) :=
  xw_count _ (by rw [pc_ix hl]; exact h)
end
section
/-! a view of a store: used, the topmost (or least) one that is the same, kind, value, how many parts, parts -/
abbrev Vw : Type := (Nat → Prop) × (Nat → Nat) × (Nat → Nat) × (Nat → Int32) × (Nat → Nat) × (Nat → Nat → Nat)
def cU (c : Vw) : Nat → Prop := c.1
def cT (c : Vw) : Nat → Nat := c.2.1
def cK (c : Vw) : Nat → Nat := c.2.2.1
def cV (c : Vw) : Nat → Int32 := c.2.2.2.1
def cM (c : Vw) : Nat → Nat := c.2.2.2.2.1
def cP (c : Vw) : Nat → Nat → Nat := c.2.2.2.2.2
def VW (c : Vw) : Prop := ∀ x, cU c x → x < 48 ∧ cU c (cT c x) ∧ cT c (cT c x) = cT c x ∧ cK c x ≤ 2 ∧ cM c x ≤ 3 ∧ (cK c x ≠ 2 → cM c x = 0) ∧ (∀ k, k < cM c x → cU c (cP c x k)) ∧ (∀ y, cU c y → cT c y = cT c x → cK c y = cK c x ∧ cV c y = cV c x ∧ cM c y = cM c x ∧ ∀ k, cP c y k = cP c x k)
section
variable {c : Vw}
theorem vw_lt (W : VW c) {x : Nat} (h : cU c x) : x < 48 := (W x h).1
theorem vw_T (W : VW c) {x : Nat} (h : cU c x) : cU c (cT c x) := (W x h).2.1
theorem vw_TT (W : VW c) {x : Nat} (h : cU c x) : cT c (cT c x) = cT c x := (W x h).2.2.1
theorem vw_K (W : VW c) {x : Nat} (h : cU c x) : cK c x ≤ 2 := (W x h).2.2.2.1
theorem vw_M (W : VW c) {x : Nat} (h : cU c x) : cM c x ≤ 3 := (W x h).2.2.2.2.1
theorem vw_M0 (W : VW c) {x : Nat} (h : cU c x) (hk : cK c x ≠ 2) : cM c x = 0 := (W x h).2.2.2.2.2.1 hk
theorem vw_P (W : VW c) {x k : Nat} (h : cU c x) (hk : k < cM c x) : cU c (cP c x k) := (W x h).2.2.2.2.2.2.1 k hk
theorem vw_eK (W : VW c) {x y : Nat} (hx : cU c x) (hy : cU c y) (e : cT c x = cT c y) : cK c x = cK c y := ((W y hy).2.2.2.2.2.2.2 x hx e).1
theorem vw_eV (W : VW c) {x y : Nat} (hx : cU c x) (hy : cU c y) (e : cT c x = cT c y) : cV c x = cV c y := ((W y hy).2.2.2.2.2.2.2 x hx e).2.1
theorem vw_eM (W : VW c) {x y : Nat} (hx : cU c x) (hy : cU c y) (e : cT c x = cT c y) : cM c x = cM c y := ((W y hy).2.2.2.2.2.2.2 x hx e).2.2.1
theorem vw_eP (W : VW c) {x y : Nat} (hx : cU c x) (hy : cU c y) (e : cT c x = cT c y) (k : Nat) : cP c x k = cP c y k := ((W y hy).2.2.2.2.2.2.2 x hx e).2.2.2 k
theorem vw_k2 (W : VW c) {x k : Nat} (h : cU c x) (hk : k < cM c x) : cK c x = 2 := by
  by_cases e : cK c x = 2
  · exact e
  · have := vw_M0 W h e; omega
end
def Same (c : Vw) (x y : Nat) : Prop := cK c x = cK c y ∧ cV c x = cV c y ∧ cM c x = cM c y
theorem same_s {c : Vw} {x y : Nat} (h : Same c x y) : Same c y x := ⟨h.1.symm, h.2.1.symm, h.2.2.symm⟩
theorem same_t {c : Vw} {x y z : Nat} (h : Same c x y) (g : Same c y z) : Same c x z := ⟨h.1.trans g.1, h.2.1.trans g.2.1, h.2.2.trans g.2.2⟩
theorem same_T {c : Vw} (W : VW c) {x y : Nat} (hx : cU c x) (hy : cU c y) (e : cT c x = cT c y) : Same c x y := ⟨vw_eK W hx hy e, vw_eV W hx hy e, vw_eM W hx hy e⟩
def Eqv (R : Nat → Nat → Prop) : Prop := (∀ x, R x x) ∧ (∀ x y, R x y → R y x) ∧ (∀ x y z, R x y → R y z → R x z)
def Cong (c : Vw) (R : Nat → Nat → Prop) : Prop := Eqv R ∧ (∀ x y, cU c x → cU c y → cT c x = cT c y → R x y) ∧ (∀ x y, cU c x → cU c y → R x y → cK c x = 2 → Same c x y → ∀ k, k < cM c x → R (cP c x k) (cP c y k))
/-- the least congruence that holds some pairs -/
def CC (c : Vw) (S : Nat → Nat → Prop) (x y : Nat) : Prop := ∀ R, Cong c R → (∀ a b, S a b → R a b) → R x y
def Clash (c : Vw) (R : Nat → Nat → Prop) : Prop := ∃ x y, cU c x ∧ cU c y ∧ R x y ∧ cK c x ≠ 0 ∧ cK c y ≠ 0 ∧ ¬ Same c x y
theorem cc_S {c : Vw} {S : Nat → Nat → Prop} {a b : Nat} (h : S a b) : CC c S a b := fun _ _ hS => hS a b h
theorem cc_T {c : Vw} {S : Nat → Nat → Prop} {a b : Nat} (ha : cU c a) (hb : cU c b) (h : cT c a = cT c b) : CC c S a b := fun _ hR _ => hR.2.1 a b ha hb h
theorem cc_r {c : Vw} {S : Nat → Nat → Prop} (a : Nat) : CC c S a a := fun _ hR _ => hR.1.1 a
theorem cc_s {c : Vw} {S : Nat → Nat → Prop} {a b : Nat} (h : CC c S a b) : CC c S b a := fun R hR hS => hR.1.2.1 _ _ (h R hR hS)
theorem cc_t {c : Vw} {S : Nat → Nat → Prop} {a b d : Nat} (h : CC c S a b) (g : CC c S b d) : CC c S a d := fun R hR hS => hR.1.2.2 _ _ _ (h R hR hS) (g R hR hS)
theorem cc_p {c : Vw} {S : Nat → Nat → Prop} {a b : Nat} (ha : cU c a) (hb : cU c b) (h : CC c S a b) (h2 : cK c a = 2) (hs : Same c a b) {k : Nat} (hk : k < cM c a) : CC c S (cP c a k) (cP c b k) := fun R hR hS => hR.2.2 a b ha hb (h R hR hS) h2 hs k hk
theorem cc_eqv {c : Vw} {S : Nat → Nat → Prop} : Eqv (CC c S) := ⟨cc_r, fun _ _ => cc_s, fun _ _ _ => cc_t⟩
theorem cc_mono {c : Vw} {S S' : Nat → Nat → Prop} (h : ∀ a b, S a b → S' a b) {x y : Nat} (hc : CC c S x y) : CC c S' x y := fun R hR hS => hc R hR fun a b z => hS a b (h a b z)
/-- what is closed and holds the pairs holds the least congruence -/
theorem cc_in {c : Vw} (W : VW c) {S : Nat → Nat → Prop} {t : Nat → Nat} (hT : ∀ x y, cU c x → cU c y → cT c x = cT c y → t x = t y) (hS : ∀ a b, S a b → cU c a ∧ cU c b ∧ t a = t b) (hC : ∀ x y, cU c x → cU c y → t x = t y → cK c x = 2 → Same c x y → ∀ k, k < cM c x → t (cP c x k) = t (cP c y k)) {x y : Nat} (h : CC c S x y) : x = y ∨ (cU c x ∧ cU c y ∧ t x = t y) := by
  refine h (fun x y => x = y ∨ (cU c x ∧ cU c y ∧ t x = t y)) ⟨⟨fun _ => Or.inl rfl, ?_, ?_⟩, fun x y hx hy e => Or.inr ⟨hx, hy, hT x y hx hy e⟩, ?_⟩ fun a b h => Or.inr (hS a b h)
  · intro x y h
    rcases h with h | ⟨a, b, e⟩
    · exact Or.inl h.symm
    · exact Or.inr ⟨b, a, e.symm⟩
  · intro x y z h g
    rcases h with rfl | ⟨a, b, e⟩
    · exact g
    · rcases g with rfl | ⟨a', b', e'⟩
      · exact Or.inr ⟨a, b, e⟩
      · exact Or.inr ⟨a, b', e.trans e'⟩
  · intro x y hx hy h h2 hs k hk
    rcases h with rfl | ⟨_, _, e⟩
    · exact Or.inl rfl
    · exact Or.inr ⟨vw_P W hx hk, vw_P W hy (by rw [← hs.2.2]; exact hk), hC x y hx hy e h2 hs k hk⟩
theorem cc_inU {c : Vw} (W : VW c) {S : Nat → Nat → Prop} {t : Nat → Nat} (hT : ∀ x y, cU c x → cU c y → cT c x = cT c y → t x = t y) (hS : ∀ a b, S a b → cU c a ∧ cU c b ∧ t a = t b) (hC : ∀ x y, cU c x → cU c y → t x = t y → cK c x = 2 → Same c x y → ∀ k, k < cM c x → t (cP c x k) = t (cP c y k)) {x y : Nat} (h : CC c S x y) : t x = t y := by
  rcases cc_in W hT hS hC h with h | h
  · rw [h]
  · exact h.2.2
/-! what is alike -/
def Bis (c : Vw) (R : Nat → Nat → Prop) : Prop := ∀ x y, R x y → cU c x ∧ cU c y ∧ (cT c x = cT c y ∨ (cK c x ≠ 0 ∧ Same c x y ∧ ∀ k, k < cM c x → R (cP c x k) (cP c y k)))
def Alike (c : Vw) (x y : Nat) : Prop := ∃ R, Bis c R ∧ R x y
theorem al_U {c : Vw} {x y : Nat} (h : Alike c x y) : cU c x ∧ cU c y := by
  obtain ⟨R, hR, h⟩ := h
  exact ⟨(hR x y h).1, (hR x y h).2.1⟩
theorem al_un {c : Vw} {x y : Nat} (h : Alike c x y) : cT c x = cT c y ∨ (cK c x ≠ 0 ∧ Same c x y ∧ ∀ k, k < cM c x → Alike c (cP c x k) (cP c y k)) := by
  obtain ⟨R, hR, h⟩ := h
  rcases (hR x y h).2.2 with e | ⟨a, b, d⟩
  · exact Or.inl e
  · exact Or.inr ⟨a, b, fun k hk => ⟨R, hR, d k hk⟩⟩
theorem al_T {c : Vw} {x y : Nat} (hx : cU c x) (hy : cU c y) (e : cT c x = cT c y) : Alike c x y := ⟨fun x y => cU c x ∧ cU c y ∧ cT c x = cT c y, fun _ _ h => ⟨h.1, h.2.1, Or.inl h.2.2⟩, hx, hy, e⟩
theorem al_r {c : Vw} {x : Nat} (hx : cU c x) : Alike c x x := al_T hx hx rfl
theorem al_s {c : Vw} {x y : Nat} (h : Alike c x y) : Alike c y x := by
  refine ⟨fun a b => Alike c b a, ?_, h⟩
  intro a b h
  refine ⟨(al_U h).2, (al_U h).1, ?_⟩
  rcases al_un h with e | ⟨k0, s, p⟩
  · exact Or.inl e.symm
  · exact Or.inr ⟨by rw [← s.1]; exact k0, same_s s, fun k hk => p k (by rw [s.2.2]; exact hk)⟩
theorem al_t {c : Vw} (W : VW c) {x y z : Nat} (h : Alike c x y) (g : Alike c y z) : Alike c x z := by
  refine ⟨fun a b => ∃ d, Alike c a d ∧ Alike c d b, ?_, y, h, g⟩
  intro a b ⟨d, h, g⟩
  have ha := (al_U h).1
  have hd := (al_U h).2
  have hb := (al_U g).2
  refine ⟨ha, hb, ?_⟩
  rcases al_un h with e | ⟨k0, s, p⟩
  · rcases al_un g with e' | ⟨k0', s', p'⟩
    · exact Or.inl (e.trans e')
    · refine Or.inr ⟨by rw [vw_eK W ha hd e]; exact k0', same_t (same_T W ha hd e) s', fun k hk => ?_⟩
      have hk' : k < cM c d := by rw [← vw_eM W ha hd e]; exact hk
      exact ⟨cP c d k, by rw [vw_eP W ha hd e k]; exact al_r (vw_P W hd hk'), p' k hk'⟩
  · have hk' : ∀ k, k < cM c a → k < cM c d := fun k hk => by rw [← s.2.2]; exact hk
    rcases al_un g with e' | ⟨k0', s', p'⟩
    · refine Or.inr ⟨k0, same_t s (same_T W hd hb e'), fun k hk => ⟨cP c d k, p k hk, ?_⟩⟩
      rw [← vw_eP W hd hb e' k]
      exact al_r (vw_P W hd (hk' k hk))
    · exact Or.inr ⟨k0, same_t s s', fun k hk => ⟨cP c d k, p k hk, p' k (hk' k hk)⟩⟩
theorem al_same {c : Vw} (W : VW c) {x y : Nat} (h : Alike c x y) : Same c x y := by
  rcases al_un h with e | ⟨_, s, _⟩
  · exact same_T W (al_U h).1 (al_U h).2 e
  · exact s
theorem al_free {c : Vw} {x y : Nat} (h : Alike c x y) (h0 : cK c x = 0) : cT c x = cT c y := by
  rcases al_un h with e | ⟨k0, _, _⟩
  · exact e
  · exact absurd h0 k0
theorem al_p {c : Vw} (W : VW c) {x y : Nat} (h : Alike c x y) {k : Nat} (hk : k < cM c x) : Alike c (cP c x k) (cP c y k) := by
  rcases al_un h with e | ⟨_, _, p⟩
  · rw [vw_eP W (al_U h).1 (al_U h).2 e k]
    exact al_r (vw_P W (al_U h).2 (by rw [← vw_eM W (al_U h).1 (al_U h).2 e]; exact hk))
  · exact p k hk
theorem al_l {c : Vw} (W : VW c) {x y z : Nat} (hz : cU c z) (e : cT c z = cT c x) (h : Alike c x y) : Alike c z y := al_t W (al_T hz (al_U h).1 e) h
theorem al_rr {c : Vw} (W : VW c) {x y z : Nat} (hz : cU c z) (e : cT c y = cT c z) (h : Alike c x y) : Alike c x z := al_t W h (al_T (al_U h).2 hz e)
/-- pairs that are alike make the same only what is alike -/
theorem al_cc {c : Vw} (W : VW c) {S : Nat → Nat → Prop} (hS : ∀ a b, S a b → Alike c a b) {x y : Nat} (h : CC c S x y) : x = y ∨ Alike c x y := by
  refine h (fun x y => x = y ∨ Alike c x y) ⟨⟨fun _ => Or.inl rfl, ?_, ?_⟩, fun x y hx hy e => Or.inr (al_T hx hy e), ?_⟩ fun a b h => Or.inr (hS a b h)
  · intro x y h
    rcases h with h | h
    · exact Or.inl h.symm
    · exact Or.inr (al_s h)
  · intro x y z h g
    rcases h with rfl | h
    · exact g
    · rcases g with rfl | g
      · exact Or.inr h
      · exact Or.inr (al_t W h g)
  · intro x y hx hy h h2 hs k hk
    rcases h with rfl | h
    · exact Or.inl rfl
    · exact Or.inr (al_p W h hk)
theorem al_ncl {c : Vw} (W : VW c) {S : Nat → Nat → Prop} (hS : ∀ a b, S a b → Alike c a b) : ¬ Clash c (CC c S) := by
  intro ⟨x, y, hx, hy, h, _, _, n⟩
  rcases al_cc W hS h with rfl | h
  · exact n ⟨rfl, rfl, rfl⟩
  · exact n (al_same W h)
/-- a closed joining that makes nothing the same of what has no value joins only what is alike -/
theorem al_of {c : Vw} (W : VW c) {t : Nat → Nat} (hv : ∀ x y, cU c x → cU c y → t x = t y → cT c x = cT c y ∨ (cK c x ≠ 0 ∧ Same c x y)) (hC : ∀ x y, cU c x → cU c y → t x = t y → ∀ k, k < cM c x → t (cP c x k) = t (cP c y k)) {x y : Nat} (hx : cU c x) (hy : cU c y) (e : t x = t y) : Alike c x y := by
  refine ⟨fun a b => cU c a ∧ cU c b ∧ t a = t b, ?_, hx, hy, e⟩
  intro a b ⟨ha, hb, e⟩
  refine ⟨ha, hb, ?_⟩
  rcases hv a b ha hb e with h | ⟨h, s⟩
  · exact Or.inl h
  · exact Or.inr ⟨h, s, fun k hk => ⟨vw_P W ha hk, vw_P W hb (by rw [← s.2.2]; exact hk), hC a b ha hb e k hk⟩⟩
/-! what is in a variable -/
def Rch (c : Vw) (x y : Nat) : Prop := ∀ S : Nat → Prop, S (cT c x) → (∀ z, S z → ∀ k, k < cM c z → S (cT c (cP c z k))) → S y
theorem rc_0 (c : Vw) (x : Nat) : Rch c x (cT c x) := fun _ h _ => h
theorem rc_s {c : Vw} {x y k : Nat} (h : Rch c x y) (hk : k < cM c y) : Rch c x (cT c (cP c y k)) := fun S h0 hs => hs y (h S h0 hs) k hk
theorem rc_U {c : Vw} (W : VW c) {x y : Nat} (hx : cU c x) (h : Rch c x y) : cU c y ∧ cT c y = y :=
  h (fun y => cU c y ∧ cT c y = y) ⟨vw_T W hx, vw_TT W hx⟩ fun z hz k hk => ⟨vw_T W (vw_P W hz.1 hk), vw_TT W (vw_P W hz.1 hk)⟩
/-! the reference's cells against a view -/
def Tld (c : Vw) (g : Nat → Int32) (x : Nat) : Prop := cK c x ≠ 0 ∧ g (48 + x) = nI (cK c x) ∧ (cK c x = 1 → g (96 + x) = cV c x ∧ g (144 + x) = 0) ∧ (cK c x = 2 → g (96 + x) = 0 ∧ g (144 + x) = cV c x) ∧ g (192 + x) = nI (cM c x) ∧ ∀ k, k < cM c x → ∃ q, g (240 + 3 * x + k) = nI q ∧ cU c q ∧ cT c q = cT c (cP c x k)
def YR (c : Vw) (id : Nat → Nat) (g : Nat → Int32) : Prop :=
  (∀ x, x < 48 → g x = nI (id x) ∧ id x < 48) ∧
  (∀ x, x < 48 → ¬ cU c x → id x = x ∧ g (48 + x) = 0 ∧ g (384 + x) = 0) ∧
  (∀ x, cU c x → g (384 + x) = 1 ∧ id x ≤ x ∧ cU c (id x) ∧ cT c (id x) = cT c x) ∧
  (∀ x y, cU c x → cU c y → (id x = id y ↔ cT c x = cT c y)) ∧
  (∀ x, cU c x → ¬ g (48 + x) = 0 → Tld c g x) ∧
  (∀ x, cU c x → cK c x ≠ 0 → ∃ u, cU c u ∧ cT c u = cT c x ∧ ¬ g (48 + u) = 0)
theorem yr_ag {c : Vw} {id : Nat → Nat} {g g' : Nat → Int32} (h : YR c id g) (e : ∀ i, i < 432 → g' i = g i) (W : VW c) : YR c id g' := by
  obtain ⟨h1, h2, h3, h4, h5, h6⟩ := h
  refine ⟨fun x hx => ?_, fun x hx hn => ?_, fun x hx => ?_, h4, fun x hx hn => ?_, fun x hx hk => ?_⟩
  · rw [e x (by omega)]; exact h1 x hx
  · rw [e _ (by omega), e _ (by omega)]; exact h2 x hx hn
  · have := vw_lt W hx
    rw [e _ (by omega)]; exact h3 x hx
  · have := vw_lt W hx
    have hM := vw_M W hx
    rw [e _ (by omega)] at hn
    obtain ⟨a, b, d, f, i, j⟩ := h5 x hx hn
    refine ⟨a, by rw [e _ (by omega)]; exact b, fun z => by rw [e _ (by omega), e _ (by omega)]; exact d z, fun z => by rw [e _ (by omega), e _ (by omega)]; exact f z, by rw [e _ (by omega)]; exact i, fun k hk => ?_⟩
    rw [e _ (by omega)]; exact j k hk
  · obtain ⟨u, a, b, d⟩ := h6 x hx hk
    have := vw_lt W a
    exact ⟨u, a, b, by rw [e _ (by omega)]; exact d⟩
theorem yr_idne {c : Vw} {id : Nat → Nat} {g : Nat → Int32} (W : VW c) (h : YR c id g) {x y : Nat} (hx : x < 48) (hn : ¬ cU c x) (hy : cU c y) : id x ≠ id y := by
  intro e
  rw [(h.2.1 x hx hn).1] at e
  exact hn (e ▸ (h.2.2.1 y hy).2.2.1)
/-- which one tells each one's value -/
def Who (c : Vw) (g : Nat → Int32) (w : Nat → Int32) : Prop := (∀ v, cU c v → cK c v ≠ 0 → ∃ u, w v = nI u ∧ cU c u ∧ cT c u = cT c v ∧ ¬ g (48 + u) = 0) ∧ (∀ v, cU c v → cK c v = 0 → w v = -1) ∧ (∀ v, v < 48 → ¬ cU c v → w v = -1)
end
section
/-! the reference: small methods, joins of ids that are only tried -/
def tzn (s : Nat → Int32) (t : Nat → Nat) (n : Nat) : Nat → Int32 := fun j => if 633 ≤ j ∧ j < 633 + n then nI (t (j - 633)) else s j
def tz (s : Nat → Int32) (t : Nat → Nat) : Nat → Int32 := tzn s t 48
theorem tz_lo {s : Nat → Int32} {t : Nat → Nat} {j : Nat} (h : j < 633) : tz s t j = s j := if_neg (by omega)
theorem tz_hi {s : Nat → Int32} {t : Nat → Nat} {x : Nat} (h : x < 48) : tz s t (633 + x) = nI (t x) := by
  show (if _ then _ else _) = _
  rw [if_pos (by omega), show 633 + x - 633 = x by omega]
theorem tz_c {s : Nat → Int32} {t t' : Nat → Nat} (h : ∀ x, x < 48 → t x = t' x) : tz s t = tz s t' := by
  funext j
  show (if _ then _ else _) = (if _ then _ else _)
  by_cases e : 633 ≤ j ∧ j < 633 + 48
  · rw [if_pos e, if_pos e, h _ (by omega)]
  · rw [if_neg e, if_neg e]
theorem tz_u {s : Nat → Int32} {t : Nat → Nat} {x v : Nat} (h : x < 48) : upd (tz s t) (633 + x) (nI v) = tz s (un t x v) := by
  funext j
  show (if j = 633 + x then nI v else if _ then _ else _) = (if _ then nI (if _ then _ else _) else _)
  by_cases e : j = 633 + x
  · rw [if_pos e, if_pos (by omega), if_pos (by omega)]
  · rw [if_neg e]
    by_cases e2 : 633 ≤ j ∧ j < 633 + 48
    · rw [if_pos e2, if_pos e2, if_neg (by omega)]
    · rw [if_neg e2, if_neg e2]
theorem tzn_s {s : Nat → Int32} {t : Nat → Nat} {n : Nat} : upd (tzn s t n) (633 + n) (nI (t n)) = tzn s t (n + 1) := by
  funext j
  show (if j = 633 + n then nI (t n) else if _ then _ else _) = (if _ then _ else _)
  by_cases e : j = 633 + n
  · subst e
    rw [if_pos rfl, if_pos (by omega), show 633 + n - 633 = n by omega]
  · rw [if_neg e]
    by_cases e2 : 633 ≤ j ∧ j < 633 + n
    · rw [if_pos e2, if_pos (by omega)]
    · rw [if_neg e2, if_neg (by omega)]
theorem tzn_0 {s : Nat → Int32} {t : Nat → Nat} : tzn s t 0 = s := by
  funext j
  show (if _ then _ else _) = _
  rw [if_neg (by omega)]
theorem tzn_lo {s : Nat → Int32} {t : Nat → Nat} {n j : Nat} (h : j < 633) : tzn s t n j = s j := if_neg (by omega)
/-- a join -/
def jn (t : Nat → Nat) (a b : Nat) : Nat → Nat := fun x => if t x = t a ∨ t x = t b then (if t b ≤ t a then t b else t a) else t x
def jni (t : Nat → Nat) (a b i : Nat) : Nat → Nat := fun x => if x < i then jn t a b x else t x
theorem jni_lo {t : Nat → Nat} {a b i x : Nat} (h : x < i) : jni t a b i x = jn t a b x := if_pos h
theorem jni_hi {t : Nat → Nat} {a b i x : Nat} (h : ¬ x < i) : jni t a b i x = t x := if_neg h
theorem jni_s {t : Nat → Nat} {a b i : Nat} : un (jni t a b i) i (jn t a b i) = jni t a b (i + 1) := by
  funext x
  by_cases e : x = i
  · rw [e, un_s, jni_lo (by omega)]
  · rw [un_n e]
    by_cases e2 : x < i
    · rw [jni_lo e2, jni_lo (by omega)]
    · rw [jni_hi e2, jni_hi (by omega)]
theorem jni_k {t : Nat → Nat} {a b i : Nat} (h : jn t a b i = t i) : jni t a b (i + 1) = jni t a b i := by
  rw [← jni_s, h, ← jni_hi (t := t) (a := a) (b := b) (i := i) (x := i) (by omega), un_id]
section
variable {f_trials : Int32} {f_drafted : Int32} {f_found : Int32} {a_s : Nat → Int32} {a_saved : Nat → Int32} {a_draft : Nat → Int32} {a_who : Nat → Int32} {a_met : Nat → Int32} {a_stack : Nat → Int32} {a_fresh : Nat → Int32} {a_deep : Nat → Int32} {a_alike : Nat → Int64} {a_meets : Nat → Int64}
variable {s : Nat → Int32} {t : Nat → Nat}
theorem yw_join39 {post : SY → Prop} {a b m : Nat} (ht : ∀ x, x < 48 → t x < 48) (ha : a < 48) (hb : b < 48) (hm : m = if t b ≤ t a then t b else t a) (hp : post (f_trials, f_drafted, f_found, tz s (jn t a b), a_saved, a_draft, a_who, a_met, a_stack, a_fresh, a_deep, a_alike, a_meets)) : ∀ n i, i ≤ 48 → 48 - i < n → wY_join_39 post 633 (nI (t a)) (nI (t b)) (nI m) f_trials f_drafted f_found n (nI (633 + i)) (tz s (jni t a b i)) a_saved a_draft a_who a_met a_stack a_fresh a_deep a_alike a_meets := by
  intro n
  induction n with
  | zero => intro i _ h; omega
  | succ n ih =>
    intro i hi hn
    have h1 := ht a ha
    have h2 := ht b hb
    by_cases e : i = 48
    · subst e
      refine wh_t (a := 681) (b := 633 + 48) (by omega) ?_
      rw [tz_c (t' := jn t a b) fun x hx => jni_lo hx]
      exact hp
    · have hi' : i < 48 := by omega
      have h3 := ht i hi'
      refine wh_f (a := 681) (b := 633 + i) (by omega) ⟨in_n (by omega), ?_⟩
      rw [cl_n (k := 633 + i), tz_hi hi', jni_hi (by omega), nI_1, tz_u hi', show 633 + i + 1 = 633 + (i + 1) by omega]
      have key : (t i = t a ∨ t i = t b) → un (jni t a b i) i m = jni t a b (i + 1) := by
        intro h
        rw [← jni_s]
        exact congrArg (un (jni t a b i) i) (by rw [hm]; exact (if_pos h).symm)
      by_cases ea : t i = t a
      · refine br_t (by rw [ea]) ⟨in_n (by omega), nm_e (nm_e ?_)⟩
        rw [key (Or.inl ea)]
        exact ih (i + 1) (by omega) (by omega)
      · refine br_f (fun z => ea (nI_inj z)) ⟨in_n (by omega), ?_⟩
        by_cases eb : t i = t b
        · refine br_t (by rw [eb]) ⟨in_n (by omega), nm_e (nm_e ?_)⟩
          rw [key (Or.inr eb)]
          exact ih (i + 1) (by omega) (by omega)
        · refine br_f (fun z => eb (nI_inj z)) (nm_e ?_)
          rw [← jni_k (t := t) (a := a) (b := b) (i := i) (if_neg fun z => z.elim ea eb)]
          exact ih (i + 1) (by omega) (by omega)
theorem yw_join {post : SY → Prop} {a b : Nat} (ht : ∀ x, x < 48 → t x < 48) (ha : a < 48) (hb : b < 48) (hp : post (f_trials, f_drafted, f_found, tz s (jn t a b), a_saved, a_draft, a_who, a_met, a_stack, a_fresh, a_deep, a_alike, a_meets)) : wpY_join post (f_trials, f_drafted, f_found, tz s t, a_saved, a_draft, a_who, a_met, a_stack, a_fresh, a_deep, a_alike, a_meets) 633 (nI a) (nI b) := by
  have h1 := ht a ha
  have h2 := ht b hb
  have e0 : tz s t = tz s (jni t a b 0) := tz_c fun x hx => (jni_hi (by omega)).symm
  have ea : (633 : Int32) + nI a = nI (633 + a) := nI_add 633 a
  have eb : (633 : Int32) + nI b = nI (633 + b) := nI_add 633 b
  refine ⟨by rw [ea]; exact in_n (by omega), nmr (nI (t a)) (by rw [ea, cl_n, tz_hi ha]) ⟨by rw [eb]; exact in_n (by omega), nmr (nI (t b)) (by rw [eb, cl_n, tz_hi hb]) ?_⟩⟩
  by_cases e : t b ≤ t a
  · refine br_t (nI_le e (by omega)) ⟨49, ?_⟩
    rw [e0]
    exact yw_join39 ht ha hb (if_pos e).symm hp 49 0 (by omega) (by omega)
  · refine br_f (nI_ge (by omega) (by omega)) ⟨49, ?_⟩
    rw [e0]
    exact yw_join39 ht ha hb (if_neg e).symm hp 49 0 (by omega) (by omega)
end
end
section
/-! the reference: close -/
section
variable {t : Nat → Nat} {a b : Nat}
theorem jn_ab : jn t a b a = jn t a b b := by
  show (if _ then _ else _) = (if _ then _ else _)
  rw [if_pos (Or.inl rfl), if_pos (Or.inr rfl)]
theorem jn_eq {x y : Nat} (e : t x = t y) : jn t a b x = jn t a b y := by
  show (if _ then _ else _) = (if _ then _ else _)
  rw [e]
theorem jn_m {x : Nat} (h : t x = t a ∨ t x = t b) : jn t a b x = if t b ≤ t a then t b else t a := if_pos h
theorem jn_n {x : Nat} (h : ¬ (t x = t a ∨ t x = t b)) : jn t a b x = t x := if_neg h
theorem jn_ma : (if t b ≤ t a then t b else t a) = t a ∨ (if t b ≤ t a then t b else t a) = t b := by
  by_cases h : t b ≤ t a
  · exact Or.inr (if_pos h)
  · exact Or.inl (if_neg h)
theorem jn_le (x : Nat) : jn t a b x ≤ t x := by
  by_cases h : t x = t a ∨ t x = t b
  · rw [jn_m h]
    by_cases e : t b ≤ t a
    · rw [if_pos e]; omega
    · rw [if_neg e]; omega
  · rw [jn_n h]; exact Nat.le_refl _
theorem jn_sd {R : Nat → Nat → Prop} (hR : Eqv R) {D : Nat → Prop} (hD : ∀ x y, D x → D y → t x = t y → R x y) (ha : D a) (hb : D b) (hab : R a b) {x y : Nat} (hx : D x) (hy : D y) (e : jn t a b x = jn t a b y) : R x y := by
  have key : ∀ z, D z → (t z = t a ∨ t z = t b) → R z a := by
    intro z hz h
    rcases h with h | h
    · exact hD z a hz ha h
    · exact hR.2.2 _ _ _ (hD z b hz hb h) (hR.2.1 _ _ hab)
  by_cases h1 : t x = t a ∨ t x = t b
  · by_cases h2 : t y = t a ∨ t y = t b
    · exact hR.2.2 _ _ _ (key x hx h1) (hR.2.1 _ _ (key y hy h2))
    · rw [jn_m h1, jn_n h2] at e
      exact absurd (by rcases jn_ma (t := t) (a := a) (b := b) with h | h
                       · exact Or.inl (by rw [← e, h])
                       · exact Or.inr (by rw [← e, h])) h2
  · by_cases h2 : t y = t a ∨ t y = t b
    · rw [jn_n h1, jn_m h2] at e
      exact absurd (by rcases jn_ma (t := t) (a := a) (b := b) with h | h
                       · exact Or.inl (by rw [e, h])
                       · exact Or.inr (by rw [e, h])) h1
    · rw [jn_n h1, jn_n h2] at e
      exact hD x y hx hy e
theorem jn_sm (ha : a < 48) (hb : b < 48) (hn : t a ≠ t b) : smN (jn t a b) 48 < smN t 48 := by
  by_cases h : t b ≤ t a
  · exact smN_lt 48 (fun i _ => jn_le i) a ha (by rw [jn_m (Or.inl rfl), if_pos h]; omega)
  · exact smN_lt 48 (fun i _ => jn_le i) b hb (by rw [jn_m (Or.inr rfl), if_neg h]; omega)
end
/-- ids: each the least one's -/
def Lst (c : Vw) (t : Nat → Nat) : Prop := ∀ x, x < 48 → t x < 48 ∧ (cU c x → t x ≤ x ∧ cU c (t x) ∧ t (t x) = t x) ∧ (¬ cU c x → t x = x)
theorem jn_lst {c : Vw} (W : VW c) {t : Nat → Nat} {a b : Nat} (h : Lst c t) (ha : cU c a) (hb : cU c b) : Lst c (jn t a b) := by
  have la := h a (vw_lt W ha)
  have lb := h b (vw_lt W hb)
  intro x hx
  have lx := h x hx
  have hle := jn_le (t := t) (a := a) (b := b) x
  refine ⟨by omega, fun hU => ⟨by have := (lx.2.1 hU).1; omega, ?_, ?_⟩, fun hN => ?_⟩
  · by_cases e : t x = t a ∨ t x = t b
    · rw [jn_m e]
      rcases jn_ma (t := t) (a := a) (b := b) with z | z
      · rw [z]; exact (la.2.1 ha).2.1
      · rw [z]; exact (lb.2.1 hb).2.1
    · rw [jn_n e]; exact (lx.2.1 hU).2.1
  · by_cases e : t x = t a ∨ t x = t b
    · rw [jn_m e]
      have : t (if t b ≤ t a then t b else t a) = t a ∨ t (if t b ≤ t a then t b else t a) = t b := by
        rcases jn_ma (t := t) (a := a) (b := b) with z | z
        · rw [z]; exact Or.inl (la.2.1 ha).2.2
        · rw [z]; exact Or.inr (lb.2.1 hb).2.2
      exact jn_m this
    · rw [jn_n e]
      have := (lx.2.1 hU).2.2
      rw [jn_n (by rw [this]; exact e), this]
  · have e := lx.2.2 hN
    rw [jn_n, e]
    intro z
    rw [e] at z
    rcases z with z | z
    · exact hN (z ▸ (la.2.1 ha).2.1)
    · exact hN (z ▸ (lb.2.1 hb).2.1)
/-- joins of parts, one behind the other -/
def jps (t : Nat → Nat) (qu qv : Nat → Nat) : Nat → (Nat → Nat)
  | 0 => t
  | k + 1 => if jps t qu qv k (qu k) = jps t qu qv k (qv k) then jps t qu qv k else jn (jps t qu qv k) (qu k) (qv k)
def jpr (t : Nat → Nat) (qu qv : Nat → Nat) : Nat → Nat
  | 0 => 0
  | k + 1 => if jps t qu qv k (qu k) = jps t qu qv k (qv k) then jpr t qu qv k else 1
section
variable {t qu qv : Nat → Nat}
theorem jps_e {k : Nat} (h : jps t qu qv k (qu k) = jps t qu qv k (qv k)) : jps t qu qv (k + 1) = jps t qu qv k := if_pos h
theorem jps_n {k : Nat} (h : ¬ jps t qu qv k (qu k) = jps t qu qv k (qv k)) : jps t qu qv (k + 1) = jn (jps t qu qv k) (qu k) (qv k) := if_neg h
theorem jpr_e {k : Nat} (h : jps t qu qv k (qu k) = jps t qu qv k (qv k)) : jpr t qu qv (k + 1) = jpr t qu qv k := if_pos h
theorem jpr_n {k : Nat} (h : ¬ jps t qu qv k (qu k) = jps t qu qv k (qv k)) : jpr t qu qv (k + 1) = 1 := if_neg h
theorem jpr_01 (k : Nat) : jpr t qu qv k = 0 ∨ jpr t qu qv k = 1 := by
  induction k with
  | zero => exact Or.inl rfl
  | succ k ih =>
    by_cases h : jps t qu qv k (qu k) = jps t qu qv k (qv k)
    · rw [jpr_e h]; exact ih
    · rw [jpr_n h]; exact Or.inr rfl
theorem jps_le {x y k : Nat} (e : t x = t y) : jps t qu qv k x = jps t qu qv k y := by
  induction k with
  | zero => exact e
  | succ k ih =>
    by_cases h : jps t qu qv k (qu k) = jps t qu qv k (qv k)
    · rw [jps_e h]; exact ih
    · rw [jps_n h]; exact jn_eq ih
theorem jps_q {k : Nat} : ∀ j, j < k → jps t qu qv k (qu j) = jps t qu qv k (qv j) := by
  induction k with
  | zero => intro j h; omega
  | succ k ih =>
    intro j hj
    by_cases h : jps t qu qv k (qu k) = jps t qu qv k (qv k)
    · rw [jps_e h]
      by_cases e : j = k
      · rw [e]; exact h
      · exact ih j (by omega)
    · rw [jps_n h]
      by_cases e : j = k
      · rw [e]; exact jn_ab
      · exact jn_eq (ih j (by omega))
theorem jps_lst {c : Vw} (W : VW c) (hl : Lst c t) {k : Nat} (hq : ∀ j, j < k → cU c (qu j) ∧ cU c (qv j)) : Lst c (jps t qu qv k) := by
  induction k with
  | zero => exact hl
  | succ k ih =>
    have ih := ih fun j hj => hq j (by omega)
    by_cases h : jps t qu qv k (qu k) = jps t qu qv k (qv k)
    · rw [jps_e h]; exact ih
    · rw [jps_n h]; exact jn_lst W ih (hq k (by omega)).1 (hq k (by omega)).2
theorem jps_sd {R : Nat → Nat → Prop} (hR : Eqv R) {D : Nat → Prop} (hD : ∀ x y, D x → D y → t x = t y → R x y) {k : Nat} (hq : ∀ j, j < k → D (qu j) ∧ D (qv j) ∧ R (qu j) (qv j)) : ∀ x y, D x → D y → jps t qu qv k x = jps t qu qv k y → R x y := by
  induction k with
  | zero => exact hD
  | succ k ih =>
    have ih := ih fun j hj => hq j (by omega)
    have q := hq k (by omega)
    by_cases h : jps t qu qv k (qu k) = jps t qu qv k (qv k)
    · rw [jps_e h]; exact ih
    · rw [jps_n h]
      intro x y hx hy e
      exact jn_sd hR ih q.1 q.2.1 q.2.2 hx hy e
theorem jps_sm {k : Nat} (hq : ∀ j, j < k → qu j < 48 ∧ qv j < 48) : (jpr t qu qv k = 0 → jps t qu qv k = t) ∧ (jpr t qu qv k = 1 → smN (jps t qu qv k) 48 < smN t 48) ∧ smN (jps t qu qv k) 48 ≤ smN t 48 := by
  induction k with
  | zero => exact ⟨fun _ => rfl, fun z => absurd (show (0 : Nat) = 1 from z) (by decide), Nat.le_refl _⟩
  | succ k ih =>
    have ih := ih fun j hj => hq j (by omega)
    by_cases h : jps t qu qv k (qu k) = jps t qu qv k (qv k)
    · rw [jps_e h, jpr_e h]; exact ih
    · rw [jps_n h, jpr_n h]
      have := jn_sm (t := jps t qu qv k) (hq k (by omega)).1 (hq k (by omega)).2 h
      refine ⟨fun z => absurd z (by decide), fun _ => ?_, ?_⟩ <;> omega
end
section
variable {f_trials : Int32} {f_drafted : Int32} {f_found : Int32} {a_s : Nat → Int32} {a_saved : Nat → Int32} {a_draft : Nat → Int32} {a_who : Nat → Int32} {a_met : Nat → Int32} {a_stack : Nat → Int32} {a_fresh : Nat → Int32} {a_deep : Nat → Int32} {a_alike : Nat → Int64} {a_meets : Nat → Int64}
variable {s : Nat → Int32} {t : Nat → Nat}
theorem yw_jps {post : Int32 → SY → Prop} {u v m : Nat} {qu qv : Nat → Nat} (hu : u < 48) (hv : v < 48) (hm : s (192 + u) = nI m) (hm3 : m ≤ 3) (hqu : ∀ k, k < m → s (240 + 3 * u + k) = nI (qu k) ∧ qu k < 48) (hqv : ∀ k, k < m → s (240 + 3 * v + k) = nI (qv k) ∧ qv k < 48) (ht : ∀ x, x < 48 → t x < 48) (hj : ∀ k, k ≤ m → ∀ x, x < 48 → jps t qu qv k x < 48) (hp : post (nI (jpr t qu qv m)) (f_trials, f_drafted, f_found, tz s (jps t qu qv m), a_saved, a_draft, a_who, a_met, a_stack, a_fresh, a_deep, a_alike, a_meets)) : ∀ n k, k ≤ m → m - k < n → wY_joinParts_6 post 633 (nI u) (nI v) n (nI (jpr t qu qv k)) (nI k) f_trials f_drafted f_found (tz s (jps t qu qv k)) a_saved a_draft a_who a_met a_stack a_fresh a_deep a_alike a_meets := by
  intro n
  induction n with
  | zero => intro i _ h; omega
  | succ n ih =>
    intro k hk hn
    have eM : tz s (jps t qu qv k) (192 + u) = nI m := by rw [tz_lo (by omega)]; exact hm
    show vp_in (192 + nI u) 681 ∧ _
    rw [aL_192, cl_n (k := 192 + u), eM]
    refine ⟨in_n (by omega), ?_⟩
    by_cases e : k = m
    · subst e
      refine wh_t (a := k) (b := k) (by omega) ⟨?_, hp⟩
      rcases jpr_01 (t := t) (qu := qu) (qv := qv) k with z | z <;> rw [z] <;> rfl
    · have hk' : k < m := by omega
      obtain ⟨eu, lu⟩ := hqu k hk'
      obtain ⟨ev, lv⟩ := hqv k hk'
      have ju := hj k hk _ lu
      have jv := hj k hk _ lv
      have eu' : tz s (jps t qu qv k) (240 + 3 * u + k) = nI (qu k) := by rw [tz_lo (by omega)]; exact eu
      have ev' : tz s (jps t qu qv k) (240 + 3 * v + k) = nI (qv k) := by rw [tz_lo (by omega)]; exact ev
      refine wh_f (a := m) (b := k) hk' ?_
      rw [aP, aP, cl_n (k := 240 + 3 * u + k), cl_n (k := 240 + 3 * v + k), eu', ev']
      refine ⟨in_n (by omega), nm_e ⟨in_n (by omega), nm_e ?_⟩⟩
      rw [aL_633, aL_633, cl_n (k := 633 + qu k), cl_n (k := 633 + qv k), tz_hi lu, tz_hi lv]
      refine ⟨in_n (by omega), in_n (by omega), ?_⟩
      by_cases h : jps t qu qv k (qu k) = jps t qu qv k (qv k)
      · refine br_t (by rw [h]) (up1 ?_)
        rw [← jps_e h, ← jpr_e h]
        exact ih (k + 1) (by omega) (by omega)
      · refine br_f (fun z => h (nI_inj z)) (yw_join (hj k hk) lu lv (up1 ?_))
        rw [← jps_n h]
        have := ih (k + 1) (by omega) (by omega)
        rw [jpr_n h] at this
        exact this
theorem yw_joinParts {post : Int32 → SY → Prop} {u v m : Nat} {qu qv : Nat → Nat} (hu : u < 48) (hv : v < 48) (hm : s (192 + u) = nI m) (hm3 : m ≤ 3) (hqu : ∀ k, k < m → s (240 + 3 * u + k) = nI (qu k) ∧ qu k < 48) (hqv : ∀ k, k < m → s (240 + 3 * v + k) = nI (qv k) ∧ qv k < 48) (ht : ∀ x, x < 48 → t x < 48) (hj : ∀ k, k ≤ m → ∀ x, x < 48 → jps t qu qv k x < 48) (hp : post (nI (jpr t qu qv m)) (f_trials, f_drafted, f_found, tz s (jps t qu qv m), a_saved, a_draft, a_who, a_met, a_stack, a_fresh, a_deep, a_alike, a_meets)) : wpY_joinParts post (f_trials, f_drafted, f_found, tz s t, a_saved, a_draft, a_who, a_met, a_stack, a_fresh, a_deep, a_alike, a_meets) 633 (nI u) (nI v) :=
  Exists.intro (m + 1) (yw_jps hu hv hm hm3 hqu hqv ht hj hp (m + 1) 0 (by omega) (by omega))
end
end
section
/-! the reference: close, keepTried, tell -/
def Oth (s : Nat → Int32) (u v : Nat) : Prop := ¬ (s (48 + u) = s (48 + v) ∧ s (96 + u) = s (96 + v) ∧ s (144 + u) = s (144 + v) ∧ s (192 + u) = s (192 + v))
theorem oth_same {c : Vw} (W : VW c) {g : Nat → Int32} {u v : Nat} (hu : cU c u) (hv : cU c v) (tu : Tld c g u) (tv : Tld c g v) : ¬ Oth g u v ↔ Same c u v := by
  obtain ⟨u0, u1, u2, u3, u4, _⟩ := tu
  obtain ⟨v0, v1, v2, v3, v4, _⟩ := tv
  have ku := vw_K W hu
  have kv := vw_K W hv
  have mu := vw_M W hu
  have mv := vw_M W hv
  constructor
  · intro h
    have h := Classical.not_not.1 h
    obtain ⟨h1, h2, h3, h4⟩ := h
    rw [u1, v1] at h1
    rw [u4, v4] at h4
    have e : cK c u = cK c v := nI_inj h1
    refine ⟨e, ?_, nI_inj h4⟩
    by_cases e1 : cK c u = 1
    · rw [(u2 e1).1, (v2 (by omega)).1] at h2; exact h2
    · rw [(u3 (by omega)).2, (v3 (by omega)).2] at h3; exact h3
  · intro ⟨h1, h2, h3⟩ n
    apply n
    refine ⟨by rw [u1, v1, h1], ?_, ?_, by rw [u4, v4, h3]⟩
    · by_cases e1 : cK c u = 1
      · rw [(u2 e1).1, (v2 (by omega)).1, h2]
      · rw [(u3 (by omega)).1, (v3 (by omega)).1]
    · by_cases e1 : cK c u = 1
      · rw [(u2 e1).2, (v2 (by omega)).2]
      · rw [(u3 (by omega)).2, (v3 (by omega)).2, h2]
theorem tld_q {c : Vw} {g : Nat → Int32} {u : Nat} (h : Tld c g u) : ∃ q : Nat → Nat, ∀ k, k < cM c u → g (240 + 3 * u + k) = nI (q k) ∧ cU c (q k) ∧ cT c (q k) = cT c (cP c u k) := by
  have h := h.2.2.2.2.2
  have : ∀ k, ∃ q, k < cM c u → g (240 + 3 * u + k) = nI q ∧ cU c q ∧ cT c q = cT c (cP c u k) := by
    intro k
    by_cases e : k < cM c u
    · obtain ⟨q, hq⟩ := h k e
      exact ⟨q, fun _ => hq⟩
    · exact ⟨0, fun z => absurd z e⟩
  exact ⟨fun k => Classical.choose (this k), fun k hk => Classical.choose_spec (this k) hk⟩
/-- an ids' row that is on its way -/
def CI (c : Vw) (S : Nat → Nat → Prop) (t : Nat → Nat) : Prop := Lst c t ∧ (∀ x y, cU c x → cU c y → cT c x = cT c y → t x = t y) ∧ (∀ a b, S a b → t a = t b) ∧ (∀ x y, cU c x → cU c y → t x = t y → CC c S x y)
def Chk (c : Vw) (g : Nat → Int32) (t : Nat → Nat) (u v : Nat) : Prop := u < v → t u = t v → ¬ g (48 + u) = 0 → ¬ g (48 + v) = 0 → Same c u v ∧ ∀ k, k < cM c u → t (cP c u k) = t (cP c v k)
theorem ci_0 {c : Vw} (W : VW c) {id : Nat → Nat} {g : Nat → Int32} (h : YR c id g) {S : Nat → Nat → Prop} (hS : ∀ a b, ¬ S a b) : CI c S id := by
  obtain ⟨h1, h2, h3, h4, h5, h6⟩ := h
  refine ⟨fun x hx => ⟨(h1 x hx).2, fun hU => ⟨(h3 x hU).2.1, (h3 x hU).2.2.1, ?_⟩, fun hN => (h2 x hx hN).1⟩, fun x y hx hy e => (h4 x y hx hy).2 e, fun a b h => absurd h (hS a b), fun x y hx hy e => cc_T hx hy ((h4 x y hx hy).1 e)⟩
  exact (h4 _ _ (h3 x hU).2.2.1 hU).2 (h3 x hU).2.2.2
theorem ci_jn {c : Vw} (W : VW c) {S S' : Nat → Nat → Prop} {t : Nat → Nat} (h : CI c S t) {a b : Nat} (ha : cU c a) (hb : cU c b) (hS : ∀ x y, S' x y ↔ (S x y ∨ (x = a ∧ y = b))) : CI c S' (jn t a b) := by
  obtain ⟨h1, h2, h3, h4⟩ := h
  refine ⟨jn_lst W h1 ha hb, fun x y hx hy e => jn_eq (h2 x y hx hy e), fun x y z => ?_, fun x y hx hy e => ?_⟩
  · rcases (hS x y).1 z with z | ⟨rfl, rfl⟩
    · exact jn_eq (h3 x y z)
    · exact jn_ab
  · exact jn_sd cc_eqv (D := cU c) (fun x y hx hy e => cc_mono (fun x y z => (hS x y).2 (Or.inl z)) (h4 x y hx hy e)) ha hb (cc_S ((hS a b).2 (Or.inr ⟨rfl, rfl⟩))) hx hy e
theorem ci_sol {c : Vw} (W : VW c) {S : Nat → Nat → Prop} (hS : ∀ a b, S a b → cU c a ∧ cU c b) {id t : Nat → Nat} {g : Nat → Int32} (hY : YR c id g) {nb : Nat} (hb : ∀ x, cU c x → x < nb) (h : CI c S t) (hC : ∀ u v, u < nb → v < nb → Chk c g t u v) : (∀ x y, cU c x → cU c y → (t x = t y ↔ CC c S x y)) ∧ ¬ Clash c (CC c S) := by
  obtain ⟨h1, h2, h3, h4⟩ := h
  have key : ∀ x y, cU c x → cU c y → t x = t y → cK c x ≠ 0 → cK c y ≠ 0 → Same c x y ∧ ∀ k, k < cM c x → t (cP c x k) = t (cP c y k) := by
    intro x y hx hy e kx ky
    obtain ⟨u, hu, eu, nu⟩ := hY.2.2.2.2.2 x hx kx
    obtain ⟨v, hv, ev, nv⟩ := hY.2.2.2.2.2 y hy ky
    have euv : t u = t v := (h2 u x hu hx eu).trans (e.trans (h2 v y hv hy ev).symm)
    have g1 := same_T W hu hx eu
    have g2 := same_T W hv hy ev
    have q : Same c u v ∧ ∀ k, k < cM c u → t (cP c u k) = t (cP c v k) := by
      by_cases z : u = v
      · subst z; exact ⟨⟨rfl, rfl, rfl⟩, fun _ _ => rfl⟩
      · by_cases z2 : u < v
        · exact hC u v (hb u hu) (hb v hv) z2 euv nu nv
        · have := hC v u (hb v hv) (hb u hu) (by omega) euv.symm nv nu
          exact ⟨same_s this.1, fun k hk => (this.2 k (by rw [this.1.2.2]; exact hk)).symm⟩
    refine ⟨same_t (same_s g1) (same_t q.1 g2), fun k hk => ?_⟩
    rw [← vw_eP W hu hx eu k, ← vw_eP W hv hy ev k]
    exact q.2 k (by rw [g1.2.2]; exact hk)
  have p1 : ∀ x y, CC c S x y → t x = t y := by
    intro x y h
    refine cc_inU W h2 (fun a b z => ⟨(hS a b z).1, (hS a b z).2, h3 a b z⟩) ?_ h
    intro x y hx hy e k2 hs k hk
    exact (key x y hx hy e (by omega) (by rw [← hs.1]; omega)).2 k hk
  refine ⟨fun x y hx hy => ⟨h4 x y hx hy, p1 x y⟩, ?_⟩
  intro ⟨x, y, hx, hy, h, kx, ky, n⟩
  exact n (key x y hx hy (p1 x y h) kx ky).1
section
variable {f_trials : Int32} {f_drafted : Int32} {f_found : Int32} {a_s : Nat → Int32} {a_saved : Nat → Int32} {a_draft : Nat → Int32} {a_who : Nat → Int32} {a_met : Nat → Int32} {a_stack : Nat → Int32} {a_fresh : Nat → Int32} {a_deep : Nat → Int32} {a_alike : Nat → Int64} {a_meets : Nat → Int64}
variable {s : Nat → Int32} {t : Nat → Nat}
theorem yw_isOther {post : Int32 → Prop} {u v : Nat} (hu : u < 48) (hv : v < 48) (h1 : Oth a_s u v → post 1) (h0 : ¬ Oth a_s u v → post 0) : wpY_isOther post (f_trials, f_drafted, f_found, a_s, a_saved, a_draft, a_who, a_met, a_stack, a_fresh, a_deep, a_alike, a_meets) (nI u) (nI v) := by
  show vp_in (48 + nI u) 681 ∧ _
  rw [aL_48, aL_48, aL_96, aL_96, aL_144, aL_144, aL_192, aL_192, cl_n (k := 48 + u), cl_n (k := 48 + v), cl_n (k := 96 + u), cl_n (k := 96 + v), cl_n (k := 144 + u), cl_n (k := 144 + v), cl_n (k := 192 + u), cl_n (k := 192 + v)]
  exact ⟨in_n (by omega), in_n (by omega), br_c (fun e1 => ⟨in_n (by omega), in_n (by omega), br_c (fun e2 => ⟨in_n (by omega), in_n (by omega), br_c (fun e3 => ⟨in_n (by omega), in_n (by omega), br_c (fun e4 => h0 fun z => z ⟨e1, e2, e3, e4⟩) fun e4 => h1 fun z => e4 z.2.2.2⟩) fun e3 => h1 fun z => e3 z.2.2.1⟩) fun e2 => h1 fun z => e2 z.2.1⟩) fun e1 => h1 fun z => e1 z.1⟩
theorem yw_bound3 {post : Int32 → Prop} (hp : ∀ n, n ≤ 48 → (∀ x, n ≤ x → x < 48 → a_s (384 + x) = 0) → post (nI n)) : ∀ n i, i ≤ 48 → i < n → (∀ x, i ≤ x → x < 48 → a_s (384 + x) = 0) → wY_bound_3 post f_trials f_drafted f_found a_s a_saved a_draft a_who a_met a_stack a_fresh a_deep a_alike a_meets n (nI i) := by
  intro n
  induction n with
  | zero => intro i _ h; omega
  | succ n ih =>
    intro i hi hn hz
    cases i with
    | zero => exact wh_t (a := 0) (b := 0) (by omega) (hp 0 hi hz)
    | succ i =>
      have e : ((384 : Int32) + nI (i + 1)) - 1 = nI (384 + i) := by rw [aL_384, show 384 + (i + 1) = (384 + i) + 1 by omega, nI_pred]
      refine wh_f (a := i + 1) (b := 0) (by omega) ?_
      rw [e, cl_n (k := 384 + i)]
      refine ⟨in_n (by omega), br_c (fun h0 => nmr (nI i) (pk_m1 i) (ih i (by omega) (by omega) fun x h1 h2 => ?_)) fun _ => hp (i + 1) hi hz⟩
      by_cases z : x = i
      · rw [z]; exact h0
      · exact hz x (by omega) h2
theorem yw_bound {post : Int32 → Prop} (hp : ∀ n, n ≤ 48 → (∀ x, n ≤ x → x < 48 → a_s (384 + x) = 0) → post (nI n)) : wpY_bound post (f_trials, f_drafted, f_found, a_s, a_saved, a_draft, a_who, a_met, a_stack, a_fresh, a_deep, a_alike, a_meets) := Exists.intro 49 (yw_bound3 hp 49 48 (by omega) (by omega) fun x h1 h2 => absurd h1 (by omega))
theorem or_01 {r q : Nat} (hr : r = 0 ∨ r = 1) (hq : q = 0 ∨ q = 1) : nI r ||| nI q = nI (if q = 0 then r else 1) := by
  rcases hr with rfl | rfl <;> rcases hq with rfl | rfl <;> decide
theorem yw_close16 {post : Int32 → SY → Prop} {J7 : Int32 → Int32 → Int32 → Int32 → (Nat → Int32) → (Nat → Int32) → (Nat → Int32) → (Nat → Int32) → (Nat → Int32) → (Nat → Int32) → (Nat → Int32) → (Nat → Int32) → (Nat → Int64) → (Nat → Int64) →  Prop} {c : Vw} {id : Nat → Nat} {S : Nat → Nat → Prop} (W : VW c) (hY : YR c id s) {nb : Nat} (hnb : nb ≤ 48) {t0 : Nat → Nat}
    (HJ : ∀ t r, (r = 0 ∨ r = 1) → CI c S t → (r = 1 → smN t 48 < smN t0 48) → (r = 0 → ∀ u v, u < nb → v < nb → Chk c s t u v) → J7 (nI r) f_trials f_drafted f_found (tz s t) a_saved a_draft a_who a_met a_stack a_fresh a_deep a_alike a_meets) (Hno : ∀ t, Clash c (CC c S) → post 0 (f_trials, f_drafted, f_found, tz s t, a_saved, a_draft, a_who, a_met, a_stack, a_fresh, a_deep, a_alike, a_meets)) : ∀ n k t r, k ≤ nb * nb → nb * nb - k < n → (r = 0 ∨ r = 1) → CI c S t → smN t 48 ≤ smN t0 48 → (r = 1 → smN t 48 < smN t0 48) → (r = 0 → ∀ k', k' < k → Chk c s t (k' / nb) (k' % nb)) → wY_close_16 post J7 633 (nI nb) n (nI r) (nI k) f_trials f_drafted f_found (tz s t) a_saved a_draft a_who a_met a_stack a_fresh a_deep a_alike a_meets := by
  have hnn : nb * nb ≤ 2304 := Nat.mul_le_mul hnb hnb
  intro n
  induction n with
  | zero => intro k _ _ _ h; omega
  | succ n ih =>
    intro k t r hk hn hr hc hs h1 h0
    refine And.intro (fun z => ?_) (fun z => ?_)
    · rw [pk_mul, nI_leI (by omega) (by omega)] at z
      have : k = nb * nb := by omega
      subst this
      refine HJ t r hr hc h1 fun e u v hu hv => ?_
      have := h0 e (u * nb + v) (by
        have : u * nb + nb ≤ nb * nb := by rw [← Nat.succ_mul]; exact Nat.mul_le_mul_right nb hu
        omega)
      rw [show u * nb + v = v + nb * u by rw [Nat.mul_comm]; omega, Nat.add_mul_div_left _ _ (by omega), Nat.add_mul_mod_self_left, Nat.div_eq_of_lt hv, Nat.mod_eq_of_lt hv, Nat.zero_add] at this
      exact this
    · rw [pk_mul, nI_leI (by omega) (by omega)] at z
      have hnb0 : 0 < nb := by
        cases nb with
        | zero => omega
        | succ m => omega
      have hk' : k < nb * nb := by omega
      have hu : k / nb < nb := Nat.div_lt_of_lt_mul hk'
      have hv : k % nb < nb := Nat.mod_lt _ hnb0
      have hne : ¬ nI nb = 0 := fun e => by have := nI_inj (b := 0) e; omega
      have hlt := fun x hx => (hc.1 x hx).1
      generalize eu : k / nb = u at hu
      generalize ev : k % nb = v at hv
      have tu := hlt u (by omega)
      have tv := hlt v (by omega)
      refine ⟨hne, nmr (nI u) (by rw [pk_div (by omega) hnb0 (by omega), eu]) ⟨hne, nmr (nI v) (by rw [pk_rem (by omega) hnb0 (by omega), ev]) ?_⟩⟩
      have next : (r = 0 → Chk c s t u v) → wY_close_16 post J7 633 (nI nb) n (nI r) (nI (k + 1)) f_trials f_drafted f_found (tz s t) a_saved a_draft a_who a_met a_stack a_fresh a_deep a_alike a_meets := by
        intro q
        refine ih (k + 1) t r (by omega) (by omega) hr hc hs h1 fun e k' hk' => ?_
        by_cases z : k' = k
        · rw [z, eu, ev]; exact q e
        · exact h0 e k' (by omega)
      by_cases euv : v ≤ u
      · exact br_t (nI_le euv (by omega)) (up1 (next fun _ z => absurd z (by omega)))
      · refine br_f (nI_ge (by omega) (by omega)) ?_
        rw [aL_633, aL_633, cl_n (k := 633 + u), cl_n (k := 633 + v), tz_hi (by omega), tz_hi (by omega), aL_48, aL_48, cl_n (k := 48 + u), cl_n (k := 48 + v), tz_lo (by omega), tz_lo (by omega)]
        refine ⟨in_n (by omega), in_n (by omega), br_c (fun e => ⟨in_n (by omega), br_c (fun z1 => up1 (next fun _ _ _ z => absurd z1 z)) fun z1 => ⟨in_n (by omega), br_c (fun z2 => up1 (next fun _ _ _ _ z => absurd z2 z)) fun z2 => ?_⟩⟩) fun e => up1 (next fun _ _ z => absurd (by rw [z]) e)⟩
        have e : t u = t v := nI_inj e
        have uU : cU c u := by
          by_cases q : cU c u
          · exact q
          · exact absurd (hY.2.1 u (by omega) q).2.1 z1
        have vU : cU c v := by
          by_cases q : cU c v
          · exact q
          · exact absurd (hY.2.1 v (by omega) q).2.1 z2
        have Tu := hY.2.2.2.2.1 u uU z1
        have Tv := hY.2.2.2.2.1 v vU z2
        have hoth := oth_same W uU vU Tu Tv
        have eoth : Oth (tz s t) u v ↔ Oth s u v := by
          show ¬ _ ↔ ¬ _
          rw [tz_lo (by omega), tz_lo (by omega), tz_lo (by omega), tz_lo (by omega), tz_lo (by omega), tz_lo (by omega), tz_lo (by omega), tz_lo (by omega)]
        refine yw_isOther (by omega) (by omega) (fun ho => br_f (by decide) ?_) (fun ho => br_t rfl ?_)
        · refine Hno t ⟨u, v, uU, vU, hc.2.2.2 u v uU vU e, Tu.1, Tv.1, fun q => ?_⟩
          exact (hoth.2 q) (eoth.1 ho)
        · have hS := hoth.1 fun q => ho (eoth.2 q)
          obtain ⟨qu, hqu⟩ := tld_q Tu
          obtain ⟨qv, hqv⟩ := tld_q Tv
          rw [← hS.2.2] at hqv
          have hM := vw_M W uU
          have hj : ∀ j, j ≤ cM c u → Lst c (jps t qu qv j) := fun j hj => jps_lst W hc.1 fun i hi => ⟨(hqu i (by omega)).2.1, (hqv i (by omega)).2.1⟩
          have hsm := jps_sm (t := t) (qu := qu) (qv := qv) (k := cM c u) fun i hi => ⟨vw_lt W (hqu i hi).2.1, vw_lt W (hqv i hi).2.1⟩
          have h01 := jpr_01 (t := t) (qu := qu) (qv := qv) (cM c u)
          refine yw_joinParts (m := cM c u) (qu := qu) (qv := qv) (by omega) (by omega) Tu.2.2.2.2.1 hM (fun i hi => ⟨(hqu i hi).1, vw_lt W (hqu i hi).2.1⟩) (fun i hi => ⟨(hqv i hi).1, vw_lt W (hqv i hi).2.1⟩) hlt (fun j hj' x hx => (hj j hj' x hx).1) ?_
          refine nmr _ (or_01 hr h01) (up1 ?_)
          have hc' : CI c S (jps t qu qv (cM c u)) := by
            refine ⟨hj _ (Nat.le_refl _), fun x y hx hy z => jps_le (hc.2.1 x y hx hy z), fun a b z => jps_le (hc.2.2.1 a b z), ?_⟩
            refine jps_sd cc_eqv (D := cU c) hc.2.2.2 fun j hj => ⟨(hqu j hj).2.1, (hqv j hj).2.1, ?_⟩
            have a1 := vw_P W uU hj
            have a2 := vw_P W vU (by rw [← hS.2.2]; exact hj)
            refine cc_t (cc_T (hqu j hj).2.1 a1 (hqu j hj).2.2) (cc_t ?_ (cc_T a2 (hqv j hj).2.1 (hqv j hj).2.2.symm))
            exact cc_p uU vU (hc.2.2.2 u v uU vU e) (vw_k2 W uU hj) hS hj
          rcases h01 with z | z
          · rw [z, if_pos rfl]
            have e0 := hsm.1 z
            rw [e0]
            refine next fun _ _ _ _ _ => ⟨hS, fun j hj => ?_⟩
            have q := jps_q (t := t) (qu := qu) (qv := qv) (k := cM c u) j hj
            rw [e0] at q
            rw [hc.2.1 _ _ (vw_P W uU hj) (hqu j hj).2.1 (hqu j hj).2.2.symm, q]
            exact hc.2.1 _ _ (hqv j hj).2.1 (vw_P W vU (by rw [← hS.2.2]; exact hj)) (hqv j hj).2.2
          · rw [z, if_neg (by decide)]
            have := hsm.2.1 z
            exact ih (k + 1) _ 1 (by omega) (by omega) (Or.inr rfl) hc' (by omega) (fun _ => by omega) fun q => absurd q (by decide)
theorem yw_close {post : Int32 → SY → Prop} {c : Vw} {id : Nat → Nat} {S : Nat → Nat → Prop} (W : VW c) (hS : ∀ a b, S a b → cU c a ∧ cU c b) (hY : YR c id s) (hc : CI c S t) (Hok : ∀ t, CI c S t → (∀ x y, cU c x → cU c y → (t x = t y ↔ CC c S x y)) → ¬ Clash c (CC c S) → post 1 (f_trials, f_drafted, f_found, tz s t, a_saved, a_draft, a_who, a_met, a_stack, a_fresh, a_deep, a_alike, a_meets)) (Hno : ∀ t, Clash c (CC c S) → post 0 (f_trials, f_drafted, f_found, tz s t, a_saved, a_draft, a_who, a_met, a_stack, a_fresh, a_deep, a_alike, a_meets)) : wpY_close post (f_trials, f_drafted, f_found, tz s t, a_saved, a_draft, a_who, a_met, a_stack, a_fresh, a_deep, a_alike, a_meets) 633 := by
  refine yw_bound fun nb hnb hz => Exists.intro (smN t 48 + 2) ?_
  have hb : ∀ x, cU c x → x < nb := by
    intro x hx
    by_cases e : x < nb
    · exact e
    · have := hz x (by omega) (vw_lt W hx)
      have h48 := vw_lt W hx
      rw [tz_lo (by omega), (hY.2.2.1 x hx).1] at this
      exact absurd this (by decide)
  have main : ∀ n t, CI c S t → smN t 48 + 1 < n → wY_close_7 post 633 (nI nb) n 1 f_trials f_drafted f_found (tz s t) a_saved a_draft a_who a_met a_stack a_fresh a_deep a_alike a_meets := by
    intro n
    induction n with
    | zero => intro t _ h; omega
    | succ n ih =>
      intro t hc hn
      refine br_f (by decide) (Exists.intro (nb * nb + 1) (yw_close16 W hY hnb (t0 := t) ?_ Hno _ 0 t 0 (by omega) (by omega) (Or.inl rfl) hc (Nat.le_refl _) (fun z => absurd z (by decide)) fun _ k' z => absurd z (by omega)))
      intro t' r hr hc' h1 h0
      rcases hr with rfl | rfl
      · obtain ⟨m, rfl⟩ : ∃ m, n = m + 1 := ⟨n - 1, by omega⟩
        have := ci_sol W hS hY hb hc' (h0 rfl)
        exact br_t rfl (Hok t' hc' this.1 this.2)
      · exact ih t' hc' (by have := h1 rfl; omega)
  exact main _ t hc (by omega)
theorem yw_tryIds2 {post : SY → Prop} {id : Nat → Nat} (hid : ∀ x, x < 48 → a_s x = nI (id x)) (hp : post (f_trials, f_drafted, f_found, tz a_s id, a_saved, a_draft, a_who, a_met, a_stack, a_fresh, a_deep, a_alike, a_meets)) : ∀ n i, i ≤ 48 → 48 - i < n → wY_tryIds_2 post f_trials f_drafted f_found n (nI i) (tzn a_s id i) a_saved a_draft a_who a_met a_stack a_fresh a_deep a_alike a_meets := by
  intro n
  induction n with
  | zero => intro i _ h; omega
  | succ n ih =>
    intro i hi hn
    by_cases e : i = 48
    · subst e
      exact wh_t (a := 48) (b := 48) (by omega) hp
    · refine wh_f (a := 48) (b := i) (by omega) ?_
      rw [aL_0, aL_633, cl_n (k := i), cl_n (k := 633 + i), tzn_lo (by omega), hid i (by omega), tzn_s]
      exact ⟨in_n (by omega), in_n (by omega), nm_e (up1 (ih (i + 1) (by omega) (by omega)))⟩
theorem yw_tryIds {post : SY → Prop} {id : Nat → Nat} (hid : ∀ x, x < 48 → a_s x = nI (id x)) (hp : post (f_trials, f_drafted, f_found, tz a_s id, a_saved, a_draft, a_who, a_met, a_stack, a_fresh, a_deep, a_alike, a_meets)) : wpY_tryIds post (f_trials, f_drafted, f_found, a_s, a_saved, a_draft, a_who, a_met, a_stack, a_fresh, a_deep, a_alike, a_meets) := by
  have := yw_tryIds2 (post := post) hid hp 49 0 (by omega) (by omega)
  rw [tzn_0] at this
  exact Exists.intro 49 this
end
def iz (s : Nat → Int32) (t : Nat → Nat) (n : Nat) : Nat → Int32 := fun j => if j < n then nI (t j) else s j
theorem iz_lo {s : Nat → Int32} {t : Nat → Nat} {n j : Nat} (h : j < n) : iz s t n j = nI (t j) := if_pos h
theorem iz_hi {s : Nat → Int32} {t : Nat → Nat} {n j : Nat} (h : ¬ j < n) : iz s t n j = s j := if_neg h
theorem iz_0 {s : Nat → Int32} {t : Nat → Nat} : iz s t 0 = s := by
  funext j
  exact iz_hi (by omega)
theorem iz_s {s : Nat → Int32} {t : Nat → Nat} {n : Nat} : upd (iz s t n) n (nI (t n)) = iz s t (n + 1) := by
  funext j
  by_cases e : j = n
  · rw [e, pk_us, iz_lo (by omega)]
  · rw [pk_un e]
    by_cases e2 : j < n
    · rw [iz_lo e2, iz_lo (by omega)]
    · rw [iz_hi e2, iz_hi (by omega)]
section
variable {f_trials : Int32} {f_drafted : Int32} {f_found : Int32} {a_s : Nat → Int32} {a_saved : Nat → Int32} {a_draft : Nat → Int32} {a_who : Nat → Int32} {a_met : Nat → Int32} {a_stack : Nat → Int32} {a_fresh : Nat → Int32} {a_deep : Nat → Int32} {a_alike : Nat → Int64} {a_meets : Nat → Int64}
variable {s : Nat → Int32} {t : Nat → Nat}
theorem yw_keep10 {post : Int32 → SY → Prop} (hp : post 1 (f_trials, f_drafted, f_found, iz (tz s t) t 48, a_saved, a_draft, a_who, a_met, a_stack, a_fresh, a_deep, a_alike, a_meets)) : ∀ n i, i ≤ 48 → 48 - i < n → wY_keepTried_10 post 1 f_trials f_drafted f_found n (nI i) (iz (tz s t) t i) a_saved a_draft a_who a_met a_stack a_fresh a_deep a_alike a_meets := by
  intro n
  induction n with
  | zero => intro i _ h; omega
  | succ n ih =>
    intro i hi hn
    by_cases e : i = 48
    · subst e
      exact wh_t (a := 48) (b := 48) (by omega) ⟨rfl, hp⟩
    · refine wh_f (a := 48) (b := i) (by omega) (br_f (by decide) ?_)
      rw [aL_0, aL_633, cl_n (k := i), cl_n (k := 633 + i), iz_hi (by omega), tz_hi (by omega), iz_s]
      exact ⟨in_n (by omega), in_n (by omega), nm_e (up1 (ih (i + 1) (by omega) (by omega)))⟩
theorem yw_keepTried {post : Int32 → SY → Prop} {c : Vw} {id : Nat → Nat} {S : Nat → Nat → Prop} (W : VW c) (hS : ∀ a b, S a b → cU c a ∧ cU c b) (hY : YR c id s) (hc : CI c S t) (Hok : ∀ t, CI c S t → (∀ x y, cU c x → cU c y → (t x = t y ↔ CC c S x y)) → ¬ Clash c (CC c S) → post 1 (f_trials, f_drafted, f_found, iz (tz s t) t 48, a_saved, a_draft, a_who, a_met, a_stack, a_fresh, a_deep, a_alike, a_meets)) (Hno : ∀ t, Clash c (CC c S) → post 0 (f_trials, f_drafted, f_found, tz s t, a_saved, a_draft, a_who, a_met, a_stack, a_fresh, a_deep, a_alike, a_meets)) : wpY_keepTried post (f_trials, f_drafted, f_found, tz s t, a_saved, a_draft, a_who, a_met, a_stack, a_fresh, a_deep, a_alike, a_meets) := by
  refine yw_close W hS hY hc (fun t hc' h1 h2 => ?_) (fun t h => ?_)
  · have := yw_keep10 (s := s) (t := t) (Hok t hc' h1 h2) 49 0 (by omega) (by omega)
    rw [iz_0] at this
    exact Exists.intro 49 this
  · exact Exists.intro 1 (wh_f (a := 48) (b := 0) (by omega) (br_t rfl ⟨rfl, Hno t h⟩))
theorem yw_tell {post : Int32 → SY → Prop} {c : Vw} {id : Nat → Nat} (W : VW c) (hY : YR c id a_s) {x y : Nat} (hx : cU c x) (hy : cU c y) (Hok : ∀ t, CI c (fun a b => a = x ∧ b = y) t → (∀ x' y', cU c x' → cU c y' → (t x' = t y' ↔ CC c (fun a b => a = x ∧ b = y) x' y')) → ¬ Clash c (CC c (fun a b => a = x ∧ b = y)) → post 1 (f_trials, f_drafted, f_found, iz (tz a_s t) t 48, a_saved, a_draft, a_who, a_met, a_stack, a_fresh, a_deep, a_alike, a_meets)) (Hno : ∀ t, Clash c (CC c (fun a b => a = x ∧ b = y)) → post 0 (f_trials, f_drafted, f_found, tz a_s t, a_saved, a_draft, a_who, a_met, a_stack, a_fresh, a_deep, a_alike, a_meets)) : wpY_tell post (f_trials, f_drafted, f_found, a_s, a_saved, a_draft, a_who, a_met, a_stack, a_fresh, a_deep, a_alike, a_meets) (nI x) (nI y) := by
  have hl := fun x hx => (hY.1 x hx).2
  have c0 := ci_0 W hY (S := fun _ _ => False) fun _ _ h => h
  have c1 := ci_jn W c0 hx hy (S' := fun a b => a = x ∧ b = y) fun a b => by simp
  refine yw_tryIds (id := id) (fun x hx => (hY.1 x hx).1) (yw_join hl (vw_lt W hx) (vw_lt W hy) ?_)
  refine yw_keepTried W (S := fun a b => a = x ∧ b = y) (fun a b h => ⟨h.1 ▸ hx, h.2 ▸ hy⟩) hY c1 (fun t h1 h2 h3 => ⟨rfl, Hok t h1 h2 h3⟩) (fun t h => ⟨rfl, Hno t h⟩)
end
end
section
/-! the reference: values, what is alike -/
def W2 (id : Nat → Nat) (s : Nat → Int32) (w : Nat → Int32) (v j : Nat) : Prop := (w v = -1 ∧ ∀ u, u < j → ¬ (id u = id v ∧ ¬ s (48 + u) = 0)) ∨ ∃ u, u < j ∧ w v = nI u ∧ id u = id v ∧ ¬ s (48 + u) = 0
theorem w2_who {c : Vw} (W : VW c) {id : Nat → Nat} {s w : Nat → Int32} (hY : YR c id s) {nb : Nat} (hnb : nb ≤ 48) (hb : ∀ x, cU c x → x < nb) (h : ∀ v, v < 48 → W2 id s w v nb) : Who c s w := by
  have told : ∀ u, u < nb → ¬ s (48 + u) = 0 → cU c u := by
    intro u hu n
    by_cases e : cU c u
    · exact e
    · exact absurd (hY.2.1 u (by omega) e).2.1 n
  refine ⟨fun v hv hk => ?_, fun v hv hk => ?_, fun v hv hn => ?_⟩
  · obtain ⟨u, hu, eu, nu⟩ := hY.2.2.2.2.2 v hv hk
    rcases h v (vw_lt W hv) with ⟨_, z⟩ | ⟨u', h1, h2, h3, h4⟩
    · exact absurd ⟨(hY.2.2.2.1 u v hu hv).2 eu, nu⟩ (z u (hb u hu))
    · have hu' := told u' h1 h4
      exact ⟨u', h2, hu', (hY.2.2.2.1 u' v hu' hv).1 h3, h4⟩
  · rcases h v (vw_lt W hv) with ⟨z, _⟩ | ⟨u', h1, h2, h3, h4⟩
    · exact z
    · have hu' := told u' h1 h4
      have := (hY.2.2.2.2.1 u' hu' h4).1
      rw [vw_eK W hu' hv ((hY.2.2.2.1 u' v hu' hv).1 h3)] at this
      exact absurd hk this
  · rcases h v hv with ⟨z, _⟩ | ⟨u', h1, h2, h3, h4⟩
    · exact z
    · exact absurd h3.symm (yr_idne W hY hv hn (told u' h1 h4))
def MayT (c : Vw) (al : Nat → Nat → Bool) (u v : Nat) : Prop := cT c u = cT c v ∨ (cK c u ≠ 0 ∧ Same c u v ∧ ∀ k, k < cM c u → ∃ qa qb, cU c qa ∧ cU c qb ∧ cT c qa = cT c (cP c u k) ∧ cT c qb = cT c (cP c v k) ∧ al qa qb = true)
def MayF (c : Vw) (al : Nat → Nat → Bool) (u v : Nat) : Prop := ¬ (cU c u ∧ cU c v) ∨ (¬ cT c u = cT c v ∧ (cK c u = 0 ∨ ¬ Same c u v ∨ ∃ k qa qb, k < cM c u ∧ cU c qa ∧ cU c qb ∧ cT c qa = cT c (cP c u k) ∧ cT c qb = cT c (cP c v k) ∧ al qa qb = false))
theorem mayF_n {c : Vw} (W : VW c) {al : Nat → Nat → Bool} (hal : ∀ x y, Alike c x y → al x y = true) {u v : Nat} (h : MayF c al u v) : ¬ Alike c u v := by
  intro a
  rcases h with h | ⟨h1, h2⟩
  · exact h (al_U a)
  · rcases h2 with h2 | h2 | ⟨k, qa, qb, hk, ua, ub, ea, eb, n⟩
    · exact h1 (al_free a h2)
    · exact h2 (al_same W a)
    · have := hal qa qb (al_l W ua ea (al_rr W ub eb.symm (al_p W a hk)))
      rw [n] at this
      exact absurd this (by decide)
/-- at the end: what stayed is alike -/
theorem may_al {c : Vw} (W : VW c) {al : Nat → Nat → Bool} (hs : ∀ x y, x < 48 → y < 48 → al x y = al y x) (h : ∀ u v, cU c u → cU c v → u < v → al u v = true → MayT c al u v) {x y : Nat} (hx : cU c x) (hy : cU c y) (e : al x y = true) : Alike c x y := by
  have h' : ∀ u v, cU c u → cU c v → al u v = true → MayT c al u v := by
    intro u v hu hv e
    have lu := vw_lt W hu
    have lv := vw_lt W hv
    by_cases z : u = v
    · exact Or.inl (by rw [z])
    · by_cases z2 : u < v
      · exact h u v hu hv z2 e
      · rcases h v u hv hu (by omega) (by rw [hs v u lv lu]; exact e) with q | ⟨q1, q2, q3⟩
        · exact Or.inl q.symm
        · refine Or.inr ⟨by rw [← q2.1]; exact q1, same_s q2, fun k hk => ?_⟩
          obtain ⟨qa, qb, a1, a2, a3, a4, a5⟩ := q3 k (by rw [q2.2.2]; exact hk)
          exact ⟨qb, qa, a2, a1, a4, a3, by rw [hs qb qa (vw_lt W a2) (vw_lt W a1)]; exact a5⟩
  refine ⟨fun x y => cU c x ∧ cU c y ∧ ∃ x' y', cU c x' ∧ cU c y' ∧ cT c x' = cT c x ∧ cT c y' = cT c y ∧ al x' y' = true, ?_, hx, hy, x, y, hx, hy, rfl, rfl, e⟩
  intro x y ⟨hx, hy, x', y', hx', hy', ex, ey, e⟩
  refine ⟨hx, hy, ?_⟩
  rcases h' x' y' hx' hy' e with q | ⟨q1, q2, q3⟩
  · exact Or.inl (ex.symm.trans (q.trans ey))
  · have sx := same_T W hx' hx ex
    have sy := same_T W hy' hy ey
    refine Or.inr ⟨by rw [← sx.1]; exact q1, same_t (same_s sx) (same_t q2 sy), fun k hk => ?_⟩
    have hk' : k < cM c x' := by rw [sx.2.2]; exact hk
    have hky : k < cM c y := by rw [← sy.2.2, ← q2.2.2]; exact hk'
    obtain ⟨qa, qb, a1, a2, a3, a4, a5⟩ := q3 k hk'
    rw [vw_eP W hx' hx ex k] at a3
    rw [vw_eP W hy' hy ey k] at a4
    exact ⟨vw_P W hx hk, vw_P W hy hky, qa, qb, a1, a2, a3, a4, a5⟩
/-- bits that are taken away -/
def clA (A : Nat → Int64) (u v : Nat) : Nat → Int64 := vp_updL (vp_updL A u (A u &&& (((1 : Int64) <<< ((nI v).toInt64 &&& 63)) ^^^ (-1)))) v ((vp_updL A u (A u &&& (((1 : Int64) <<< ((nI v).toInt64 &&& 63)) ^^^ (-1)))) v &&& (((1 : Int64) <<< ((nI u).toInt64 &&& 63)) ^^^ (-1)))
theorem clA_b {A : Nat → Int64} {u v : Nat} (hu : u < 48) (hv : v < 48) (ne : u ≠ v) (x y : Nat) : bL (clA A u v x) y = (bL (A x) y && !(decide ((x = u ∧ y = v) ∨ (x = v ∧ y = u)))) := by
  show bL (vp_updL _ v _ x) y = _
  by_cases e : x = v
  · subst e
    rw [pk_uLs, pk_uLn (Ne.symm ne), bL_an1 _ (by omega)]
    by_cases e2 : u = y
    · rw [decide_eq_true e2, decide_eq_true (Or.inr ⟨rfl, e2.symm⟩)]
    · rw [decide_eq_false e2, decide_eq_false (fun z => z.elim (fun z => ne z.1.symm) fun z => e2 z.2.symm)]
  · rw [pk_uLn e]
    by_cases e1 : x = u
    · subst e1
      rw [pk_uLs, bL_an1 _ (by omega)]
      by_cases e2 : v = y
      · rw [decide_eq_true e2, decide_eq_true (Or.inl ⟨rfl, e2.symm⟩)]
      · rw [decide_eq_false e2, decide_eq_false (fun z => z.elim (fun z => e2 z.2.symm) fun z => e z.1)]
    · rw [pk_uLn e1, decide_eq_false (fun z => z.elim (fun z => e1 z.1) fun z => e z.1)]
      cases bL (A x) y <;> rfl
def mA (A : Nat → Int64) : Nat := smN (fun k => b01 (bL (A (k / 48)) (k % 48))) 2304
theorem clA_m {A : Nat → Int64} {u v : Nat} (hu : u < 48) (hv : v < 48) (ne : u ≠ v) (h : bL (A u) v = true) : mA (clA A u v) < mA A := by
  refine smN_lt 2304 (fun k hk => ?_) (v + 48 * u) (by omega) ?_
  · show b01 (bL (clA A u v (k / 48)) (k % 48)) ≤ b01 (bL (A (k / 48)) (k % 48))
    rw [clA_b hu hv ne]
    cases bL (A (k / 48)) (k % 48)
    · exact Nat.le_refl _
    · exact b01_le _
  · show b01 (bL (clA A u v ((v + 48 * u) / 48)) ((v + 48 * u) % 48)) < b01 (bL (A ((v + 48 * u) / 48)) ((v + 48 * u) % 48))
    rw [Nat.add_mul_div_left _ _ (by decide), Nat.add_mul_mod_self_left, Nat.div_eq_of_lt hv, Nat.mod_eq_of_lt hv, Nat.zero_add, clA_b hu hv ne, h, decide_eq_true (Or.inl ⟨rfl, rfl⟩)]
    decide
def RI (c : Vw) (A : Nat → Int64) : Prop := (∀ x y, Alike c x y → bL (A x) y = true) ∧ (∀ x y, x < 48 → y < 48 → bL (A x) y = bL (A y) x)
theorem ri_cl {c : Vw} (W : VW c) {A : Nat → Int64} (h : RI c A) {u v : Nat} (hu : u < 48) (hv : v < 48) (ne : u ≠ v) (n : ¬ Alike c u v) : RI c (clA A u v) := by
  refine ⟨fun x y a => ?_, fun x y hx hy => ?_⟩
  · rw [clA_b hu hv ne, h.1 x y a]
    rw [decide_eq_false]
    · rfl
    · intro z
      rcases z with ⟨rfl, rfl⟩ | ⟨rfl, rfl⟩
      · exact n a
      · exact n (al_s a)
  · rw [clA_b hu hv ne, clA_b hu hv ne, h.2 x y hx hy]
    have : decide ((x = u ∧ y = v) ∨ (x = v ∧ y = u)) = decide ((y = u ∧ x = v) ∨ (y = v ∧ x = u)) := by
      apply decide_eq_decide.2
      constructor
      · rintro (⟨a, b⟩ | ⟨a, b⟩)
        · exact Or.inr ⟨b, a⟩
        · exact Or.inl ⟨b, a⟩
      · rintro (⟨a, b⟩ | ⟨a, b⟩)
        · exact Or.inr ⟨b, a⟩
        · exact Or.inl ⟨b, a⟩
    rw [this]
theorem bL_48 {x : Nat} (h : x < 48) : bL 281474976710655 x = true := by
  have : ∀ x, x < 48 → bL 281474976710655 x = true := by decide +kernel
  exact this x h
/-- the rows of what is alike, when they are ready -/
def AlOK (c : Vw) (A : Nat → Int64) : Prop := ∀ x y, cU c x → cU c y → (bL (A x) y = true ↔ Alike c x y)
section
variable {f_trials : Int32} {f_drafted : Int32} {f_found : Int32} {a_s : Nat → Int32} {a_saved : Nat → Int32} {a_draft : Nat → Int32} {a_who : Nat → Int32} {a_met : Nat → Int32} {a_stack : Nat → Int32} {a_fresh : Nat → Int32} {a_deep : Nat → Int32} {a_alike : Nat → Int64} {a_meets : Nat → Int64}
variable {c : Vw} {id : Nat → Nat} {w0 : Nat → Int32}
theorem yw_val22 {post : SY → Prop} {J7 : Int32 → (Nat → Int32) → (Nat → Int32) → (Nat → Int32) → (Nat → Int32) → (Nat → Int32) → (Nat → Int32) → (Nat → Int32) → (Nat → Int32) → (Nat → Int64) → (Nat → Int64) →  Prop} {nb v : Nat} (hv : v < 48) (hnb : nb ≤ 48) (hid : ∀ x, x < 48 → a_s x = nI (id x) ∧ id x < 48) (HJ : ∀ w, (∀ v', v' ≠ v → w v' = w0 v') → W2 id a_s w v nb → J7 (nI (v + 1)) a_s a_saved a_draft w a_met a_stack a_fresh a_deep a_alike a_meets) : ∀ n j w, j ≤ nb → nb - j < n → (∀ v', v' ≠ v → w v' = w0 v') → W2 id a_s w v j → wY_values_22 post J7 (nI nb) (nI v) f_trials f_drafted f_found n (nI j) a_s a_saved a_draft w a_met a_stack a_fresh a_deep a_alike a_meets := by
  intro n
  induction n with
  | zero => intro j _ _ h; omega
  | succ n ih =>
    intro j w hj hn hw h
    by_cases e : j = nb
    · subst e
      exact wh_t (a := j) (b := j) (by omega) (up1 (HJ w hw h))
    · have hj' : j < 48 := by omega
      have lj := (hid j hj').2
      have lv := (hid v hv).2
      refine wh_f (a := nb) (b := j) (by omega) ?_
      rw [aL_0, aL_0, aL_48, cl_n (k := j), cl_n (k := v), cl_n (k := 48 + j), (hid j hj').1, (hid v hv).1]
      have next : (¬ (id j = id v ∧ ¬ a_s (48 + j) = 0)) → wY_values_22 post J7 (nI nb) (nI v) f_trials f_drafted f_found n (nI (j + 1)) a_s a_saved a_draft w a_met a_stack a_fresh a_deep a_alike a_meets := by
        intro q
        refine ih (j + 1) w (by omega) (by omega) hw ?_
        rcases h with ⟨h1, h2⟩ | ⟨u, h1, h2⟩
        · refine Or.inl ⟨h1, fun u hu => ?_⟩
          by_cases z : u = j
          · rw [z]; exact q
          · exact h2 u (by omega)
        · exact Or.inr ⟨u, by omega, h2⟩
      refine ⟨in_n (by omega), in_n (by omega), br_c (fun e1 => ⟨in_n (by omega), br_c (fun z => up1 (next fun q => q.2 z)) fun z => ⟨in_n hv, nm_e (up1 ?_)⟩⟩) fun e1 => up1 (next fun q => e1 (by rw [q.1]))⟩
      refine ih (j + 1) _ (by omega) (by omega) (fun v' hv' => by rw [pk_un hv']; exact hw v' hv') (Or.inr ⟨j, by omega, pk_us, nI_inj e1, z⟩)
theorem yw_val7 {post : SY → Prop} {nb : Nat} (hnb : nb ≤ 48) (hid : ∀ x, x < 48 → a_s x = nI (id x) ∧ id x < 48) (hp : ∀ w, (∀ v, v < 48 → W2 id a_s w v nb) → post (f_trials, f_drafted, f_found, a_s, a_saved, a_draft, w, a_met, a_stack, a_fresh, a_deep, a_alike, a_meets)) : ∀ n v w, v ≤ 48 → 48 - v < n → (∀ v', v' < v → W2 id a_s w v' nb) → wY_values_7 post (nI nb) f_trials f_drafted f_found n (nI v) a_s a_saved a_draft w a_met a_stack a_fresh a_deep a_alike a_meets := by
  intro n
  induction n with
  | zero => intro j _ _ h; omega
  | succ n ih =>
    intro v w hv hn h
    by_cases e : v = 48
    · subst e
      exact wh_t (a := 48) (b := 48) (by omega) (hp w h)
    · refine wh_f (a := 48) (b := v) (by omega) ⟨in_n (by omega), nm_e (Exists.intro (nb + 1) ?_)⟩
      rw [cl_n (k := v)]
      refine yw_val22 (w0 := w) (by omega) hnb hid (fun w' h1 h2 => ?_) _ 0 _ (by omega) (by omega) (fun v' hv' => pk_un hv') (Or.inl ⟨pk_us, fun u hu => absurd hu (by omega)⟩)
      refine ih (v + 1) w' (by omega) (by omega) fun v' hv' => ?_
      by_cases z : v' = v
      · rw [z]; exact h2
      · have := h v' (by omega)
        unfold W2 at this ⊢
        rw [h1 v' z]
        exact this
theorem yb_lt (W : VW c) (hY : YR c id a_s) {nb : Nat} (hz : ∀ x, nb ≤ x → x < 48 → a_s (384 + x) = 0) : ∀ x, cU c x → x < nb := by
  intro x hx
  by_cases e : x < nb
  · exact e
  · have := hz x (by omega) (vw_lt W hx)
    rw [(hY.2.2.1 x hx).1] at this
    exact absurd this (by decide)
theorem yw_values {post : SY → Prop} (W : VW c) (hY : YR c id a_s) (hp : ∀ w, Who c a_s w → post (f_trials, f_drafted, f_found, a_s, a_saved, a_draft, w, a_met, a_stack, a_fresh, a_deep, a_alike, a_meets)) : wpY_values post (f_trials, f_drafted, f_found, a_s, a_saved, a_draft, a_who, a_met, a_stack, a_fresh, a_deep, a_alike, a_meets) := by
  refine yw_bound fun nb hnb hz => Exists.intro 49 (yw_val7 hnb hY.1 (fun w h => hp w (w2_who W hY hnb (yb_lt W hY hz) h)) _ 0 _ (by omega) (by omega) fun v' h => absurd h (by omega))
theorem yw_areAlike {post : Int32 → Prop} {u v : Nat} (hu : u < 48) (hv : v < 48) (h1 : bL (a_alike u) v = true → post 1) (h0 : bL (a_alike u) v = false → post 0) : wpY_areAlike post (f_trials, f_drafted, f_found, a_s, a_saved, a_draft, a_who, a_met, a_stack, a_fresh, a_deep, a_alike, a_meets) (nI u) (nI v) := by
  show vp_in (nI u) 48 ∧ _
  rw [cl_n (k := u)]
  refine ⟨in_n hu, ?_⟩
  by_cases e : bL (a_alike u) v = true
  · exact br_t ((bt_1 _ (by omega)).2 e) (h1 e)
  · exact br_f (bt_n1 (by omega) (ts_nt e)) (h0 (ts_nt e))
theorem yw_may60 {post : Int32 → Prop} (W : VW c) {u v a b : Nat} (hS : Same c u v) (hM : cM c u ≤ 3) (ha : a < 48) (hb : b < 48) {qa qb : Nat → Nat} (eM : a_s (192 + a) = nI (cM c u)) (hqa : ∀ k, k < cM c u → a_s (240 + 3 * a + k) = nI (qa k) ∧ cU c (qa k) ∧ cT c (qa k) = cT c (cP c u k)) (hqb : ∀ k, k < cM c u → a_s (240 + 3 * b + k) = nI (qb k) ∧ cU c (qb k) ∧ cT c (qb k) = cT c (cP c v k)) (h1 : (∀ k, k < cM c u → ∃ qa qb, cU c qa ∧ cU c qb ∧ cT c qa = cT c (cP c u k) ∧ cT c qb = cT c (cP c v k) ∧ bL (a_alike qa) qb = true) → post 1) (h0 : (∃ k qa qb, k < cM c u ∧ cU c qa ∧ cU c qb ∧ cT c qa = cT c (cP c u k) ∧ cT c qb = cT c (cP c v k) ∧ bL (a_alike qa) qb = false) → post 0) : ∀ n j, j ≤ cM c u → cM c u - j < n → (∀ k, k < j → bL (a_alike (qa k)) (qb k) = true) → wY_mayBe_60 post (nI a) (nI b) f_trials f_drafted f_found a_s a_saved a_draft a_who a_met a_stack a_fresh a_deep a_alike a_meets n (nI j) := by
  intro n
  induction n with
  | zero => intro j _ h; omega
  | succ n ih =>
    intro j hj hn h
    show vp_in (192 + nI a) 681 ∧ _
    rw [aL_192, cl_n (k := 192 + a), eM]
    refine ⟨in_n (by omega), ?_⟩
    by_cases e : j = cM c u
    · rw [← e]
      exact wh_t (a := j) (b := j) (by omega) (h1 fun k hk => ⟨qa k, qb k, (hqa k hk).2.1, (hqb k hk).2.1, (hqa k hk).2.2, (hqb k hk).2.2, h k (by omega)⟩)
    · have hj' : j < cM c u := by omega
      refine wh_f (a := cM c u) (b := j) (by omega) ?_
      rw [aP, aP, cl_n (k := 240 + 3 * a + j), cl_n (k := 240 + 3 * b + j), (hqa j hj').1, (hqb j hj').1]
      refine ⟨in_n (by omega), in_n (by omega), yw_areAlike (vw_lt W (hqa j hj').2.1) (vw_lt W (hqb j hj').2.1) (fun z => br_f (by decide) (up1 (ih (j + 1) (by omega) (by omega) fun k hk => ?_))) (fun z => br_t rfl (h0 ⟨j, qa j, qb j, hj', (hqa j hj').2.1, (hqb j hj').2.1, (hqa j hj').2.2, (hqb j hj').2.2, z⟩))⟩
      by_cases z2 : k = j
      · rw [z2]; exact z
      · exact h k (by omega)
theorem yw_mayBe {post : Int32 → Prop} (W : VW c) (hY : YR c id a_s) (hw : Who c a_s a_who) {u v : Nat} (hu : u < 48) (hv : v < 48) (ne : u ≠ v) (h1 : MayT c (fun x y => bL (a_alike x) y) u v → post 1) (h0 : MayF c (fun x y => bL (a_alike x) y) u v → post 0) : wpY_mayBe post (f_trials, f_drafted, f_found, a_s, a_saved, a_draft, a_who, a_met, a_stack, a_fresh, a_deep, a_alike, a_meets) (nI u) (nI v) := by
  have lu := (hY.1 u hu).2
  have lv := (hY.1 v hv).2
  show vp_in (0 + nI u) 681 ∧ _
  rw [aL_0, aL_0, cl_n (k := u), cl_n (k := v), (hY.1 u hu).1, (hY.1 v hv).1]
  refine ⟨in_n (by omega), in_n (by omega), ?_⟩
  by_cases hU : cU c u ∧ cU c v
  · obtain ⟨uU, vU⟩ := hU
    have hid := hY.2.2.2.1 u v uU vU
    by_cases e : id u = id v
    · exact br_t (by rw [e]) (h1 (Or.inl (hid.1 e)))
    · have e' : ¬ cT c u = cT c v := fun z => e (hid.2 z)
      refine br_f (fun z => e (nI_inj z)) ⟨in_n hu, nm_e ⟨in_n hv, nm_e ?_⟩⟩
      by_cases ku : cK c u = 0
      · rw [hw.2.1 u uU ku]
        exact br_t m1_neg (h0 (Or.inr ⟨e', Or.inl ku⟩))
      · obtain ⟨a, ea, aU, aT, na⟩ := hw.1 u uU ku
        have la := vw_lt W aU
        rw [ea]
        refine br_f (nI_nn (by omega)) ?_
        by_cases kv : cK c v = 0
        · rw [hw.2.1 v vU kv]
          exact br_t m1_neg (h0 (Or.inr ⟨e', Or.inr (Or.inl fun z => ku (by rw [z.1]; exact kv))⟩))
        · obtain ⟨b, eb, bU, bT, nb⟩ := hw.1 v vU kv
          have lb := vw_lt W bU
          rw [eb]
          refine br_f (nI_nn (by omega)) ?_
          have Ta := hY.2.2.2.2.1 a aU na
          have Tb := hY.2.2.2.2.1 b bU nb
          have hoth := oth_same W aU bU Ta Tb
          have sa := same_T W aU uU aT
          have sb := same_T W bU vU bT
          refine yw_isOther la lb (fun ho => br_f (by decide) ?_) (fun ho => br_t rfl ?_)
          · exact h0 (Or.inr ⟨e', Or.inr (Or.inl fun z => (hoth.2 (same_t sa (same_t z (same_s sb)))) ho)⟩)
          · have hS : Same c u v := same_t (same_s sa) (same_t (hoth.1 ho) sb)
            obtain ⟨qa, hqa⟩ := tld_q Ta
            obtain ⟨qb, hqb⟩ := tld_q Tb
            rw [sa.2.2] at hqa
            rw [sb.2.2, ← hS.2.2] at hqb
            have eM := Ta.2.2.2.2.1
            rw [sa.2.2] at eM
            refine Exists.intro 4 (yw_may60 W (u := u) (v := v) (qa := qa) (qb := qb) hS (vw_M W uU) la lb eM (fun k hk => ?_) (fun k hk => ?_) (fun z => h1 (Or.inr ⟨ku, hS, z⟩)) (fun z => h0 (Or.inr ⟨e', Or.inr (Or.inr z)⟩)) 4 0 (by omega) (by have := vw_M W uU; omega) fun k hk => absurd hk (by omega))
            · have := hqa k hk
              rw [vw_eP W aU uU aT k] at this
              exact this
            · have := hqb k hk
              rw [vw_eP W bU vU bT k] at this
              exact this
  · have e : ¬ id u = id v := by
      intro z
      by_cases uU : cU c u
      · have vU : ¬ cU c v := fun q => hU ⟨uU, q⟩
        exact yr_idne W hY hv vU uU z.symm
      · by_cases vU : cU c v
        · exact yr_idne W hY hu uU vU z
        · rw [(hY.2.1 u hu uU).1, (hY.2.1 v hv vU).1] at z
          exact ne z
    refine br_f (fun z => e (nI_inj z)) ⟨in_n hu, nm_e ⟨in_n hv, nm_e ?_⟩⟩
    by_cases uU : cU c u
    · have vU : ¬ cU c v := fun q => hU ⟨uU, q⟩
      refine br_c (fun _ => h0 (Or.inl hU)) fun _ => ?_
      rw [hw.2.2 v hv vU]
      exact br_t m1_neg (h0 (Or.inl hU))
    · rw [hw.2.2 u hu uU]
      exact br_t m1_neg (h0 (Or.inl hU))
theorem yw_rel42 {post : SY → Prop} {J34 : Int32 → (Nat → Int32) → (Nat → Int32) → (Nat → Int32) → (Nat → Int32) → (Nat → Int32) → (Nat → Int32) → (Nat → Int32) → (Nat → Int32) → (Nat → Int64) → (Nat → Int64) →  Prop} (W : VW c) (hY : YR c id a_s) (hw : Who c a_s a_who) {nb : Nat} (hnb : nb ≤ 48) {A0 : Nat → Int64}
    (HJ : ∀ A r, (r = 0 ∨ r = 1) → RI c A → (r = 1 → mA A < mA A0) → (r = 0 → ∀ u v, u < nb → v < nb → u < v → bL (A u) v = true → MayT c (fun x y => bL (A x) y) u v) → J34 (nI r) a_s a_saved a_draft a_who a_met a_stack a_fresh a_deep A a_meets) : ∀ n k A r, k ≤ nb * nb → nb * nb - k < n → (r = 0 ∨ r = 1) → RI c A → mA A ≤ mA A0 → (r = 1 → mA A < mA A0) → (r = 0 → ∀ k', k' < k → k' / nb < k' % nb → bL (A (k' / nb)) (k' % nb) = true → MayT c (fun x y => bL (A x) y) (k' / nb) (k' % nb)) → wY_relate_42 post J34 (nI nb) f_trials f_drafted f_found n (nI r) (nI k) a_s a_saved a_draft a_who a_met a_stack a_fresh a_deep A a_meets := by
  have hnn : nb * nb ≤ 2304 := Nat.mul_le_mul hnb hnb
  intro n
  induction n with
  | zero => intro k _ _ _ h; omega
  | succ n ih =>
    intro k A r hk hn hr hc hs h1 h0
    refine And.intro (fun z => ?_) (fun z => ?_)
    · rw [pk_mul, nI_leI (by omega) (by omega)] at z
      have : k = nb * nb := by omega
      subst this
      refine HJ A r hr hc h1 fun e u v hu hv => ?_
      have := h0 e (u * nb + v) (by
        have : u * nb + nb ≤ nb * nb := by rw [← Nat.succ_mul]; exact Nat.mul_le_mul_right nb hu
        omega)
      rw [show u * nb + v = v + nb * u by rw [Nat.mul_comm]; omega, Nat.add_mul_div_left _ _ (by omega), Nat.add_mul_mod_self_left, Nat.div_eq_of_lt hv, Nat.mod_eq_of_lt hv, Nat.zero_add] at this
      exact this
    · rw [pk_mul, nI_leI (by omega) (by omega)] at z
      have hnb0 : 0 < nb := by
        cases nb with
        | zero => omega
        | succ m => omega
      have hk' : k < nb * nb := by omega
      have hu : k / nb < nb := Nat.div_lt_of_lt_mul hk'
      have hv : k % nb < nb := Nat.mod_lt _ hnb0
      have hne : ¬ nI nb = 0 := fun e => by have := nI_inj (b := 0) e; omega
      generalize eu : k / nb = u at hu
      generalize ev : k % nb = v at hv
      refine ⟨hne, nmr (nI u) (by rw [pk_div (by omega) hnb0 (by omega), eu]) ⟨hne, nmr (nI v) (by rw [pk_rem (by omega) hnb0 (by omega), ev]) ?_⟩⟩
      have next : (r = 0 → u < v → bL (A u) v = true → MayT c (fun x y => bL (A x) y) u v) → wY_relate_42 post J34 (nI nb) f_trials f_drafted f_found n (nI r) (nI (k + 1)) a_s a_saved a_draft a_who a_met a_stack a_fresh a_deep A a_meets := by
        intro q
        refine ih (k + 1) A r (by omega) (by omega) hr hc hs h1 fun e k' hk' => ?_
        by_cases z : k' = k
        · rw [z, eu, ev]; exact q e
        · exact h0 e k' (by omega)
      by_cases euv : v ≤ u
      · exact br_t (nI_le euv (by omega)) (up1 (next fun _ z => absurd z (by omega)))
      · have ne : u ≠ v := by omega
        refine br_f (nI_ge (by omega) (by omega)) (yw_areAlike (by omega) (by omega) (fun e1 => br_f (by decide) ?_) (fun e1 => br_t rfl (up1 (next fun _ _ q => by rw [e1] at q; exact absurd q (by decide)))))
        refine yw_mayBe W hY hw (by omega) (by omega) ne (fun hm => br_f (by decide) (up1 (next fun _ _ _ => hm))) (fun hm => br_t rfl ?_)
        rw [cl_n (k := u), cl_n (k := v)]
        refine ⟨in_n (by omega), in_n (by omega), nm_e ⟨in_n (by omega), in_n (by omega), nm_e (up1 ?_)⟩⟩
        have hn' := mayF_n W hc.1 hm
        have hm' := clA_m (A := A) (by omega) (by omega) ne e1
        exact ih (k + 1) (clA A u v) 1 (by omega) (by omega) (Or.inr rfl) (ri_cl W hc (by omega) (by omega) ne hn') (by omega) (fun _ => by omega) fun q => absurd q (by decide)
theorem yw_rel34 {post : SY → Prop} (W : VW c) (hY : YR c id a_s) (hw : Who c a_s a_who) {nb : Nat} (hnb : nb ≤ 48) (hb : ∀ x, cU c x → x < nb) (hp : ∀ A, AlOK c A → post (f_trials, f_drafted, f_found, a_s, a_saved, a_draft, a_who, a_met, a_stack, a_fresh, a_deep, A, a_meets)) : ∀ n A, RI c A → mA A + 1 < n → wY_relate_34 post (nI nb) f_trials f_drafted f_found n 1 a_s a_saved a_draft a_who a_met a_stack a_fresh a_deep A a_meets := by
  intro n
  induction n with
  | zero => intro A _ h; omega
  | succ n ih =>
    intro A hA hn
    refine br_f (by decide) (Exists.intro (nb * nb + 1) (yw_rel42 W hY hw hnb (A0 := A) ?_ _ 0 A 0 (by omega) (by omega) (Or.inl rfl) hA (Nat.le_refl _) (fun z => absurd z (by decide)) fun _ k' z => absurd z (by omega)))
    intro A' r hr hA' h1 h0
    rcases hr with rfl | rfl
    · obtain ⟨m, rfl⟩ : ∃ m, n = m + 1 := ⟨n - 1, by omega⟩
      refine br_t rfl (hp A' fun x y hx hy => ⟨fun e => ?_, hA'.1 x y⟩)
      exact may_al W (al := fun x y => bL (A' x) y) hA'.2 (fun u v hu hv huv e => h0 rfl u v (hb u hu) (hb v hv) huv e) hx hy e
    · exact ih A' hA' (by have := h1 rfl; omega)
theorem yw_rel6 {post : SY → Prop} (W : VW c) (hY : YR c id a_s) (hw : Who c a_s a_who) (hp : ∀ A, AlOK c A → post (f_trials, f_drafted, f_found, a_s, a_saved, a_draft, a_who, a_met, a_stack, a_fresh, a_deep, A, a_meets)) : ∀ n i A, i ≤ 48 → 48 - i < n → (∀ x, x < i → A x = 281474976710655) → wY_relate_6 post f_trials f_drafted f_found n (nI i) a_s a_saved a_draft a_who a_met a_stack a_fresh a_deep A a_meets := by
  intro n
  induction n with
  | zero => intro i _ _ h; omega
  | succ n ih =>
    intro i A hi hn h
    by_cases e : i = 48
    · subst e
      refine wh_t (a := 48) (b := 48) (by omega) (yw_bound fun nb hnb hz => Exists.intro (mA A + 2) (yw_rel34 W hY hw hnb (yb_lt W hY hz) hp _ A ⟨fun x y a => ?_, fun x y hx hy => ?_⟩ (by omega)))
      · rw [h x (vw_lt W (al_U a).1)]; exact bL_48 (vw_lt W (al_U a).2)
      · rw [h x hx, h y hy, bL_48 hx, bL_48 hy]
    · refine wh_f (a := 48) (b := i) (by omega) ⟨in_n (by omega), nm_e (up1 ?_)⟩
      rw [cl_n (k := i)]
      refine ih (i + 1) _ (by omega) (by omega) fun x hx => ?_
      by_cases z : x = i
      · rw [z, pk_uLs]
      · rw [pk_uLn z]; exact h x (by omega)
theorem yw_relate {post : SY → Prop} (W : VW c) (hY : YR c id a_s) (hp : ∀ w A, Who c a_s w → AlOK c A → post (f_trials, f_drafted, f_found, a_s, a_saved, a_draft, w, a_met, a_stack, a_fresh, a_deep, A, a_meets)) : wpY_relate post (f_trials, f_drafted, f_found, a_s, a_saved, a_draft, a_who, a_met, a_stack, a_fresh, a_deep, a_alike, a_meets) :=
  yw_values W hY fun w hw => Exists.intro 49 (yw_rel6 W hY hw (fun A hA => hp w A hw hA) _ 0 _ (by omega) (by omega) fun x hx => absurd hx (by omega))
theorem yw_judge {post : Int32 → SY → Prop} (W : VW c) (hY : YR c id a_s) (hA : AlOK c a_alike) {x y : Nat} (hx : cU c x) (hy : cU c y) (h1 : Alike c x y → post 1 (f_trials, f_drafted, f_found, a_s, a_saved, a_draft, a_who, a_met, a_stack, a_fresh, a_deep, a_alike, a_meets)) (h2 : ∀ t, ¬ Alike c x y → Clash c (CC c (fun a b => a = x ∧ b = y)) → post 2 (f_trials, f_drafted, f_found, tz a_s t, a_saved, a_draft, a_who, a_met, a_stack, a_fresh, a_deep, a_alike, a_meets)) (h3 : ∀ t, ¬ Alike c x y → ¬ Clash c (CC c (fun a b => a = x ∧ b = y)) → post 3 (f_trials, f_drafted, f_found, tz a_s t, a_saved, a_draft, a_who, a_met, a_stack, a_fresh, a_deep, a_alike, a_meets)) : wpY_judge post (f_trials, f_drafted, f_found, a_s, a_saved, a_draft, a_who, a_met, a_stack, a_fresh, a_deep, a_alike, a_meets) (nI x) (nI y) := by
  have hl := fun x hx => (hY.1 x hx).2
  unfold wpY_judge
  refine yw_areAlike (vw_lt W hx) (vw_lt W hy) (fun e => br_f (by decide) (h1 ((hA x y hx hy).1 e))) (fun e => br_t rfl ?_)
  have hn : ¬ Alike c x y := fun z => by rw [(hA x y hx hy).2 z] at e; exact absurd e (by decide)
  have c0 := ci_0 W hY (S := fun _ _ => False) fun _ _ h => h
  have c1 := ci_jn W c0 hx hy (S' := fun a b => a = x ∧ b = y) fun a b => by simp
  refine yw_tryIds (id := id) (fun x hx => (hY.1 x hx).1) (yw_join hl (vw_lt W hx) (vw_lt W hy) ?_)
  exact yw_close W (S := fun a b => a = x ∧ b = y) (fun a b h => ⟨h.1 ▸ hx, h.2 ▸ hy⟩) hY c1 (fun t _ _ q => br_f (by decide) (h3 t hn q)) (fun t q => br_t rfl (h2 t hn q))
end
end
section
/-! the component: forest, trail, small methods -/
def uB (w : Int64) : Nat → Prop := fun x => bL w x = true
def Fo (U : Nat → Prop) (p T rk : Nat → Nat) : Prop := ∀ x, U x → x < 48 ∧ U (p x) ∧ U (T x) ∧ p (T x) = T x ∧ T (p x) = T x ∧ (p x = x → T x = x) ∧ (p x ≠ x → rk (p x) < rk x)
section
variable {U : Nat → Prop} {p T rk : Nat → Nat}
theorem fo_lt (F : Fo U p T rk) {x : Nat} (h : U x) : x < 48 := (F x h).1
theorem fo_p (F : Fo U p T rk) {x : Nat} (h : U x) : U (p x) := (F x h).2.1
theorem fo_T (F : Fo U p T rk) {x : Nat} (h : U x) : U (T x) := (F x h).2.2.1
theorem fo_pT (F : Fo U p T rk) {x : Nat} (h : U x) : p (T x) = T x := (F x h).2.2.2.1
theorem fo_Tp (F : Fo U p T rk) {x : Nat} (h : U x) : T (p x) = T x := (F x h).2.2.2.2.1
theorem fo_top (F : Fo U p T rk) {x : Nat} (h : U x) (e : p x = x) : T x = x := (F x h).2.2.2.2.2.1 e
theorem fo_TT (F : Fo U p T rk) {x : Nat} (h : U x) : T (T x) = T x := fo_top F (fo_T F h) (fo_pT F h)
theorem fo_rk (F : Fo U p T rk) {x : Nat} (h : U x) (e : p x ≠ x) : rk (p x) < rk x := (F x h).2.2.2.2.2.2 e
theorem fo_topI (F : Fo U p T rk) {x : Nat} (h : U x) (e : T x = x) : p x = x := by rw [← e]; exact fo_pT F h
end
/-- a topmost one is hung on another topmost one -/
theorem fo_hang {U : Nat → Prop} {p T rk : Nat → Nat} (F : Fo U p T rk) {x y : Nat} (hx : U x) (hy : U y) (ex : T x = x) (ey : T y = y) (ne : x ≠ y) : Fo U (un p x y) (fun z => if T z = x then y else T z) (fun z => if T z = x then rk z + rk y + 1 else rk z) := by
  intro z hz
  have hTz := fo_T F hz
  have py : p y = y := fo_topI F hy ey
  have px : p x = x := fo_topI F hx ex
  refine ⟨fo_lt F hz, ?_, ?_, ?_, ?_, ?_, ?_⟩
  · by_cases e : z = x
    · rw [e, un_s]; exact hy
    · rw [un_n e]; exact fo_p F hz
  · show U (if T z = x then y else T z)
    by_cases e : T z = x
    · rw [if_pos e]; exact hy
    · rw [if_neg e]; exact hTz
  · show un p x y (if T z = x then y else T z) = (if T z = x then y else T z)
    by_cases e : T z = x
    · rw [if_pos e, un_n (Ne.symm ne), py]
    · rw [if_neg e, un_n e, fo_pT F hz]
  · show (if T (un p x y z) = x then y else T (un p x y z)) = (if T z = x then y else T z)
    by_cases e : z = x
    · subst e
      rw [un_s, ex, if_pos rfl, ey]
      by_cases h : y = z
      · rw [if_pos h]
      · rw [if_neg h]
    · rw [un_n e, fo_Tp F hz]
  · show un p x y z = z → (if T z = x then y else T z) = z
    intro h
    by_cases e : z = x
    · subst e; rw [un_s] at h; exact absurd h.symm ne
    · rw [un_n e] at h
      have := fo_top F hz h
      rw [this, if_neg e]
  · show un p x y z ≠ z → (if T (un p x y z) = x then rk (un p x y z) + rk y + 1 else rk (un p x y z)) < (if T z = x then rk z + rk y + 1 else rk z)
    intro h
    by_cases e : z = x
    · subst e
      rw [un_s, ey, if_neg (Ne.symm ne), ex, if_pos rfl]; omega
    · rw [un_n e] at h ⊢
      have := fo_rk F hz h
      rw [fo_Tp F hz]
      by_cases e2 : T z = x
      · rw [if_pos e2, if_pos e2]; omega
      · rw [if_neg e2, if_neg e2]; exact this
/-- the view of the component's arrays -/
def xv (U : Nat → Prop) (T kd mn pt : Nat → Nat) (val : Nat → Int32) : Vw := (U, T, fun x => kd (T x), fun x => val (T x), fun x => if kd (T x) = 2 then mn (T x) else 0, fun x k => pt (3 * T x + k))
/-- topmost ones' values -/
def XD (U : Nat → Prop) (p kd mn pt : Nat → Nat) : Prop := ∀ x, U x → p x = x → kd x ≤ 2 ∧ (kd x = 2 → mn x ≤ 3 ∧ ∀ k, k < mn x → U (pt (3 * x + k)))
section
variable {U : Nat → Prop} {T kd mn pt : Nat → Nat} {val : Nat → Int32}
theorem xv_U (x : Nat) : cU (xv U T kd mn pt val) x = U x := rfl
theorem xv_T (x : Nat) : cT (xv U T kd mn pt val) x = T x := rfl
theorem xv_K (x : Nat) : cK (xv U T kd mn pt val) x = kd (T x) := rfl
theorem xv_V (x : Nat) : cV (xv U T kd mn pt val) x = val (T x) := rfl
theorem xv_M (x : Nat) : cM (xv U T kd mn pt val) x = if kd (T x) = 2 then mn (T x) else 0 := rfl
theorem xv_M2 {x : Nat} (h : kd (T x) = 2) : cM (xv U T kd mn pt val) x = mn (T x) := if_pos h
theorem xv_M0 {x : Nat} (h : kd (T x) ≠ 2) : cM (xv U T kd mn pt val) x = 0 := if_neg h
theorem xv_P (x k : Nat) : cP (xv U T kd mn pt val) x k = pt (3 * T x + k) := rfl
theorem xv_W {p rk : Nat → Nat} (F : Fo U p T rk) (D : XD U p kd mn pt) : VW (xv U T kd mn pt val) := by
  intro x hx
  have hx : U x := hx
  have d := D (T x) (fo_T F hx) (fo_pT F hx)
  refine ⟨fo_lt F hx, fo_T F hx, fo_TT F hx, d.1, ?_, ?_, ?_, ?_⟩
  · by_cases h : kd (T x) = 2
    · rw [xv_M2 h]; exact (d.2 h).1
    · rw [xv_M0 h]; omega
  · intro h
    exact xv_M0 h
  · intro k hk
    by_cases h : kd (T x) = 2
    · rw [xv_M2 h] at hk; exact (d.2 h).2 k hk
    · rw [xv_M0 h] at hk; omega
  · intro y hy e
    have e : T y = T x := e
    refine ⟨?_, ?_, ?_, fun k => ?_⟩
    · show kd (T y) = kd (T x); rw [e]
    · show val (T y) = val (T x); rw [e]
    · show (if kd (T y) = 2 then mn (T y) else 0) = (if kd (T x) = 2 then mn (T x) else 0); rw [e]
    · show pt (3 * T y + k) = pt (3 * T x + k); rw [e]
end
/-! the trail -/
noncomputable def uP (tr : Nat → Nat) (a b : Nat) (p : Nat → Nat) : Nat → Nat := fun x => @ite Nat (∃ j, a ≤ j ∧ j < b ∧ tr j = x ∧ x < 48) (Classical.propDecidable _) x (p x)
noncomputable def uK (tr : Nat → Nat) (a b : Nat) (kd : Nat → Nat) : Nat → Nat := fun x => @ite Nat (∃ j, a ≤ j ∧ j < b ∧ tr j = 100 + x) (Classical.propDecidable _) 0 (kd x)
section
variable {tr tr' p kd : Nat → Nat} {a b : Nat}
theorem uP_t {x : Nat} (h : ∃ j, a ≤ j ∧ j < b ∧ tr j = x ∧ x < 48) : uP tr a b p x = x := if_pos h
theorem uP_f {x : Nat} (h : ¬ ∃ j, a ≤ j ∧ j < b ∧ tr j = x ∧ x < 48) : uP tr a b p x = p x := if_neg h
theorem uK_t {x : Nat} (h : ∃ j, a ≤ j ∧ j < b ∧ tr j = 100 + x) : uK tr a b kd x = 0 := if_pos h
theorem uK_f {x : Nat} (h : ¬ ∃ j, a ≤ j ∧ j < b ∧ tr j = 100 + x) : uK tr a b kd x = kd x := if_neg h
theorem uP_0 (h : b ≤ a) : uP tr a b p = p := by
  funext x
  exact uP_f fun ⟨j, h1, h2, _⟩ => by omega
theorem uK_0 (h : b ≤ a) : uK tr a b kd = kd := by
  funext x
  exact uK_f fun ⟨j, h1, h2, _⟩ => by omega
theorem uP_c (h : ∀ j, j < b → tr' j = tr j) : uP tr' a b p = uP tr a b p := by
  funext x
  by_cases e : ∃ j, a ≤ j ∧ j < b ∧ tr j = x ∧ x < 48
  · rw [uP_t e]
    obtain ⟨j, h1, h2, h3⟩ := e
    exact uP_t ⟨j, h1, h2, by rw [h j h2]; exact h3⟩
  · rw [uP_f e]
    exact uP_f fun ⟨j, h1, h2, h3⟩ => e ⟨j, h1, h2, by rw [← h j h2]; exact h3⟩
theorem uK_c (h : ∀ j, j < b → tr' j = tr j) : uK tr' a b kd = uK tr a b kd := by
  funext x
  by_cases e : ∃ j, a ≤ j ∧ j < b ∧ tr j = 100 + x
  · rw [uK_t e]
    obtain ⟨j, h1, h2, h3⟩ := e
    exact uK_t ⟨j, h1, h2, by rw [h j h2]; exact h3⟩
  · rw [uK_f e]
    exact uK_f fun ⟨j, h1, h2, h3⟩ => e ⟨j, h1, h2, by rw [← h j h2]; exact h3⟩
/-- to a, by way of m -/
theorem uP_m {m : Nat} (h1 : a ≤ m) (h2 : m ≤ b) : uP tr a m (uP tr m b p) = uP tr a b p := by
  funext x
  by_cases e : ∃ j, a ≤ j ∧ j < m ∧ tr j = x ∧ x < 48
  · rw [uP_t e]
    obtain ⟨j, g1, g2, g3⟩ := e
    exact (uP_t ⟨j, g1, by omega, g3⟩).symm
  · rw [uP_f e]
    by_cases e2 : ∃ j, m ≤ j ∧ j < b ∧ tr j = x ∧ x < 48
    · rw [uP_t e2]
      obtain ⟨j, g1, g2, g3⟩ := e2
      exact (uP_t ⟨j, by omega, g2, g3⟩).symm
    · rw [uP_f e2]
      refine (uP_f ?_).symm
      intro ⟨j, g1, g2, g3⟩
      by_cases z : j < m
      · exact e ⟨j, g1, z, g3⟩
      · exact e2 ⟨j, by omega, g2, g3⟩
theorem uK_m {m : Nat} (h1 : a ≤ m) (h2 : m ≤ b) : uK tr a m (uK tr m b kd) = uK tr a b kd := by
  funext x
  by_cases e : ∃ j, a ≤ j ∧ j < m ∧ tr j = 100 + x
  · rw [uK_t e]
    obtain ⟨j, g1, g2, g3⟩ := e
    exact (uK_t ⟨j, g1, by omega, g3⟩).symm
  · rw [uK_f e]
    by_cases e2 : ∃ j, m ≤ j ∧ j < b ∧ tr j = 100 + x
    · rw [uK_t e2]
      obtain ⟨j, g1, g2, g3⟩ := e2
      exact (uK_t ⟨j, by omega, g2, g3⟩).symm
    · rw [uK_f e2]
      refine (uK_f ?_).symm
      intro ⟨j, g1, g2, g3⟩
      by_cases z : j < m
      · exact e ⟨j, g1, z, g3⟩
      · exact e2 ⟨j, by omega, g2, g3⟩
theorem uP_1 {x : Nat} (h : tr b = x) (hx : x < 48) : uP tr b (b + 1) p = un p x x := by
  funext z
  by_cases e : z = x
  · rw [e, un_s]
    exact uP_t ⟨b, by omega, by omega, h, hx⟩
  · rw [un_n e]
    refine uP_f fun ⟨j, h1, h2, h3, _⟩ => e ?_
    have : j = b := by omega
    rw [this] at h3
    rw [← h3, h]
theorem uP_1n (h : 100 ≤ tr b) : uP tr b (b + 1) p = p := by
  funext x
  refine uP_f fun ⟨j, h1, h2, h3, h4⟩ => ?_
  have : j = b := by omega
  rw [this] at h3; omega
theorem uK_1 {x : Nat} (h : tr b = 100 + x) : uK tr b (b + 1) kd = un kd x 0 := by
  funext z
  by_cases e : z = x
  · rw [e, un_s]
    exact uK_t ⟨b, by omega, by omega, h⟩
  · rw [un_n e]
    refine uK_f fun ⟨j, h1, h2, h3⟩ => e ?_
    have : j = b := by omega
    rw [this] at h3; omega
theorem uK_1n (h : tr b < 100) : uK tr b (b + 1) kd = kd := by
  funext x
  refine uK_f fun ⟨j, h1, h2, h3⟩ => ?_
  have : j = b := by omega
  rw [this] at h3; omega
end
/-- the trail's entries: different, of variables in use that are hung on others, or have a value -/
def TrOK (U : Nat → Prop) (p kd tr : Nat → Nat) (n : Nat) : Prop := (∀ j, j < n → (tr j < 48 ∧ U (tr j) ∧ p (tr j) ≠ tr j) ∨ ∃ x, tr j = 100 + x ∧ x < 48 ∧ U x ∧ kd x ≠ 0) ∧ (∀ i j, i < n → j < n → tr i = tr j → i = j)
theorem tr_le {U : Nat → Prop} {p kd tr : Nat → Nat} {n : Nat} (h : TrOK U p kd tr n) : n ≤ 96 := by
  refine inj_le n 96 (fun j => if tr j < 48 then tr j else tr j - 52) ?_ ?_
  · intro j hj
    show (if tr j < 48 then tr j else tr j - 52) < 96
    rcases h.1 j hj with ⟨a, _⟩ | ⟨x, a, b, _⟩
    · rw [if_pos a]; omega
    · rw [if_neg (by omega)]; omega
  · intro i j hi hj
    show (if tr i < 48 then tr i else tr i - 52) = (if tr j < 48 then tr j else tr j - 52) → i = j
    intro e
    apply h.2 i j hi hj
    have h1 : tr i < 48 ∨ (100 ≤ tr i ∧ tr i < 148) := by
      rcases h.1 i hi with ⟨a, _⟩ | ⟨x, a, b, _⟩
      · exact Or.inl a
      · exact Or.inr (by omega)
    have h2 : tr j < 48 ∨ (100 ≤ tr j ∧ tr j < 148) := by
      rcases h.1 j hj with ⟨a, _⟩ | ⟨x, a, b, _⟩
      · exact Or.inl a
      · exact Or.inr (by omega)
    by_cases e1 : tr i < 48
    · by_cases e2 : tr j < 48
      · rw [if_pos e1, if_pos e2] at e; exact e
      · rw [if_pos e1, if_neg e2] at e; omega
    · by_cases e2 : tr j < 48
      · rw [if_neg e1, if_pos e2] at e; omega
      · rw [if_neg e1, if_neg e2] at e; omega
theorem tr_hang {U : Nat → Prop} {p kd tr : Nat → Nat} {n x y : Nat} (h : TrOK U p kd tr n) (hx : U x) (h48 : x < 48) (px : p x = x) (ne : x ≠ y) : TrOK U (un p x y) kd (un tr n x) (n + 1) := by
  have hn : ∀ j, j < n → tr j ≠ x := by
    intro j hj e
    rcases h.1 j hj with ⟨_, _, c⟩ | ⟨z, a, _⟩
    · rw [e] at c; exact c px
    · omega
  refine ⟨fun j hj => ?_, fun i j hi hj e => ?_⟩
  · by_cases e : j = n
    · rw [e, un_s]
      exact Or.inl ⟨h48, hx, by rw [un_s]; exact Ne.symm ne⟩
    · rw [un_n e]
      rcases h.1 j (by omega) with ⟨a, b, c⟩ | z
      · exact Or.inl ⟨a, b, by rw [un_n (hn j (by omega))]; exact c⟩
      · exact Or.inr z
  · by_cases e1 : i = n
    · by_cases e2 : j = n
      · omega
      · rw [e1, un_s, un_n e2] at e; exact absurd e.symm (hn j (by omega))
    · by_cases e2 : j = n
      · rw [e2, un_s, un_n e1] at e; exact absurd e (hn i (by omega))
      · rw [un_n e1, un_n e2] at e; exact h.2 i j (by omega) (by omega) e
theorem tr_set {U : Nat → Prop} {p kd tr : Nat → Nat} {n x w : Nat} (h : TrOK U p kd tr n) (hx : U x) (h48 : x < 48) (kx : kd x = 0) (hw : w ≠ 0) : TrOK U p (un kd x w) (un tr n (100 + x)) (n + 1) := by
  have hn : ∀ j, j < n → tr j ≠ 100 + x := by
    intro j hj e
    rcases h.1 j hj with ⟨a, _⟩ | ⟨z, a, _, _, c⟩
    · omega
    · have : z = x := by omega
      rw [this] at c; exact c kx
  refine ⟨fun j hj => ?_, fun i j hi hj e => ?_⟩
  · by_cases e : j = n
    · rw [e, un_s]
      exact Or.inr ⟨x, rfl, h48, hx, by rw [un_s]; exact hw⟩
    · rw [un_n e]
      rcases h.1 j (by omega) with z | ⟨z, a, b, c, d⟩
      · exact Or.inl z
      · refine Or.inr ⟨z, a, b, c, ?_⟩
        rw [un_n (fun q => hn j (by omega) (by rw [a, q]))]; exact d
  · by_cases e1 : i = n
    · by_cases e2 : j = n
      · omega
      · rw [e1, un_s, un_n e2] at e; exact absurd e.symm (hn j (by omega))
    · by_cases e2 : j = n
      · rw [e2, un_s, un_n e1] at e; exact absurd e (hn i (by omega))
      · rw [un_n e1, un_n e2] at e; exact h.2 i j (by omega) (by omega) e
theorem tr_back {U : Nat → Prop} {p kd tr : Nat → Nat} {n a : Nat} (h : TrOK U p kd tr n) (ha : a ≤ n) : TrOK U (uP tr a n p) (uK tr a n kd) tr a := by
  refine ⟨fun j hj => ?_, fun i j hi hj => h.2 i j (by omega) (by omega)⟩
  rcases h.1 j (by omega) with ⟨x1, x2, x3⟩ | ⟨z, x1, x2, x3, x4⟩
  · refine Or.inl ⟨x1, x2, ?_⟩
    rw [uP_f fun ⟨i, g1, g2, g3, _⟩ => by have := h.2 i j g2 (by omega) g3; omega]
    exact x3
  · refine Or.inr ⟨z, x1, x2, x3, ?_⟩
    rw [uK_f fun ⟨i, g1, g2, g3⟩ => by have := h.2 i j g2 (by omega) (by rw [g3, x1]); omega]
    exact x4
/-- more lies on the trail; behind that, all was as it was -/
def Ext (U : Nat → Prop) (p kd tr : Nat → Nat) (n : Nat) (p' kd' tr' : Nat → Nat) (n' : Nat) : Prop := n ≤ n' ∧ (∀ j, j < n → tr' j = tr j) ∧ uP tr' n n' p' = p ∧ uK tr' n n' kd' = kd ∧ TrOK U p' kd' tr' n'
theorem ext_0 {U : Nat → Prop} {p kd tr : Nat → Nat} {n : Nat} (h : TrOK U p kd tr n) : Ext U p kd tr n p kd tr n := ⟨Nat.le_refl n, fun _ _ => rfl, uP_0 (Nat.le_refl n), uK_0 (Nat.le_refl n), h⟩
theorem ext_t {U : Nat → Prop} {p kd tr p' kd' tr' p'' kd'' tr'' : Nat → Nat} {n n' n'' : Nat} (h : Ext U p kd tr n p' kd' tr' n') (g : Ext U p' kd' tr' n' p'' kd'' tr'' n'') : Ext U p kd tr n p'' kd'' tr'' n'' := by
  refine ⟨Nat.le_trans h.1 g.1, fun j hj => by rw [g.2.1 j (by have := h.1; omega), h.2.1 j hj], ?_, ?_, g.2.2.2.2⟩
  · rw [← uP_m h.1 g.1, g.2.2.1, uP_c g.2.1, h.2.2.1]
  · rw [← uK_m h.1 g.1, g.2.2.2.1, uK_c g.2.1, h.2.2.2.1]
theorem un_self {p : Nat → Nat} {x v : Nat} (h : p x = v) : un p x v = p := by rw [← h]; exact un_id
theorem un_un {p : Nat → Nat} {x v w : Nat} : un (un p x v) x w = un p x w := by
  funext z
  by_cases e : z = x
  · rw [e, un_s, un_s]
  · rw [un_n e, un_n e, un_n e]
theorem ext_hang {U : Nat → Prop} {p kd tr : Nat → Nat} {n x y : Nat} (h : TrOK U p kd tr n) (hx : U x) (h48 : x < 48) (px : p x = x) (ne : x ≠ y) : Ext U p kd tr n (un p x y) kd (un tr n x) (n + 1) := by
  refine ⟨by omega, fun j hj => un_n (by omega), ?_, ?_, tr_hang h hx h48 px ne⟩
  · rw [uP_1 (x := x) un_s h48, un_un, un_self px]
  · exact uK_1n (by rw [un_s]; omega)
theorem ext_set {U : Nat → Prop} {p kd tr : Nat → Nat} {n x w : Nat} (h : TrOK U p kd tr n) (hx : U x) (h48 : x < 48) (kx : kd x = 0) (hw : w ≠ 0) : Ext U p kd tr n p (un kd x w) (un tr n (100 + x)) (n + 1) := by
  refine ⟨by omega, fun j hj => un_n (by omega), ?_, ?_, tr_set h hx h48 kx hw⟩
  · exact uP_1n (by rw [un_s]; omega)
  · rw [uK_1 (x := x) un_s, un_un, un_self kx]
/-- what lies further back isn't touched -/
theorem ext_P {U : Nat → Prop} {p kd tr p' kd' tr' : Nat → Nat} {n n' a : Nat} (h : Ext U p kd tr n p' kd' tr' n') (ha : a ≤ n) : uP tr' a n' p' = uP tr a n p := by
  rw [← uP_m ha h.1, h.2.2.1, uP_c h.2.1]
theorem ext_K {U : Nat → Prop} {p kd tr p' kd' tr' : Nat → Nat} {n n' a : Nat} (h : Ext U p kd tr n p' kd' tr' n') (ha : a ≤ n) : uK tr' a n' kd' = uK tr a n kd := by
  rw [← uK_m ha h.1, h.2.2.2.1, uK_c h.2.1]
end
section
/-! the component: the small methods' walks -/
section
variable {f_used : Int64} {f_roots : Int64} {f_asked : Int64} {f_trailed : Int32} {f_bound : Int32} {f_pairs : Int32} {f_drafted : Int32} {f_noted : Int32} {f_trials : Int32} {f_mets : Int32} {f_classes : Int32} {a_up : Nat → Int32} {a_kind : Nat → Int32} {a_many : Nat → Int32} {a_parts : Nat → Int32} {a_value : Nat → Int32} {a_trail : Nat → Int32} {a_left : Nat → Int32} {a_right : Nat → Int32} {a_draft : Nat → Int32} {a_stands : Nat → Int32} {a_testX : Nat → Int32} {a_testY : Nat → Int32} {a_triggerX : Nat → Int32} {a_triggerY : Nat → Int32} {a_ends : Nat → Int32} {a_notes : Nat → Int32} {a_oldUsed : Nat → Int64} {a_oldRoots : Nat → Int64} {a_oldAsked : Nat → Int64} {a_oldStands : Nat → Int32} {a_oldTestX : Nat → Int32} {a_oldTestY : Nat → Int32} {a_oldTriggerX : Nat → Int32} {a_oldTriggerY : Nat → Int32} {a_oldEnds : Nat → Int32} {a_oldTrailed : Nat → Int32} {a_oldNoted : Nat → Int32} {a_met : Nat → Int32} {a_classOf : Nat → Int32} {a_finer : Nat → Int32} {a_image : Nat → Int32} {a_seen : Nat → Int32} {a_stack : Nat → Int32} {a_deep : Nat → Int32} {a_company : Nat → Int64} {a_greeted : Nat → Int64}
variable {p kd mn pt tr T rk : Nat → Nat} {tn : Nat} {U : Nat → Prop}
theorem xw_top2 {post : Int32 → Prop} (F : Fo U p T rk) : ∀ n x, rk x < n → U x → post (nI (T x)) → wX_top_2 post f_used f_roots f_asked f_trailed f_bound f_pairs f_drafted f_noted f_trials f_mets f_classes (nA p) a_kind a_many a_parts a_value a_trail a_left a_right a_draft a_stands a_testX a_testY a_triggerX a_triggerY a_ends a_notes a_oldUsed a_oldRoots a_oldAsked a_oldStands a_oldTestX a_oldTestY a_oldTriggerX a_oldTriggerY a_oldEnds a_oldTrailed a_oldNoted a_met a_classOf a_finer a_image a_seen a_stack a_deep a_company a_greeted n (nI x) := by
  intro n
  induction n with
  | zero => intro x h; omega
  | succ n ih =>
    intro x h hx hp
    have hx48 := fo_lt F hx
    have hp48 := fo_lt F (fo_p F hx)
    refine And.intro (in_n hx48) ?_
    rw [cl_n (k := x), nA_e]
    by_cases e : p x = x
    · exact br_t (by rw [e]) (by rw [fo_top F hx e] at hp; exact hp)
    · refine br_f (fun z => e (nI_inj z)) ⟨in_n hx48, nm_e (ih (p x) ?_ (fo_p F hx) (by rw [fo_Tp F hx]; exact hp))⟩
      have := fo_rk F hx e
      omega
theorem xw_top {post : Int32 → Prop} (F : Fo U p T rk) {x : Nat} (hx : U x) (h : post (nI (T x))) : wpX_top post (f_used, f_roots, f_asked, f_trailed, f_bound, f_pairs, f_drafted, f_noted, f_trials, f_mets, f_classes, nA p, a_kind, a_many, a_parts, a_value, a_trail, a_left, a_right, a_draft, a_stands, a_testX, a_testY, a_triggerX, a_triggerY, a_ends, a_notes, a_oldUsed, a_oldRoots, a_oldAsked, a_oldStands, a_oldTestX, a_oldTestY, a_oldTriggerX, a_oldTriggerY, a_oldEnds, a_oldTrailed, a_oldNoted, a_met, a_classOf, a_finer, a_image, a_seen, a_stack, a_deep, a_company, a_greeted) (nI x) := Exists.intro (rk x + 1) (xw_top2 F _ x (by omega) hx h)
theorem xw_in_t {post : Int32 → Prop} {k N : Nat} (h : k < N) (hN : N < 2 ^ 31) (hp : post 1) : wpX_in post (nI k) (nI N) := And.intro (fun z => absurd z (nI_nn (by omega))) fun _ => br_f (nI_ge h hN) hp
theorem xw_in_f {post : Int32 → Prop} {v : Int32} {N : Nat} (h : ∀ k, k < N → v ≠ nI k) (hN : N < 2 ^ 31) (hp : post 0) : wpX_in post v (nI N) := by
  rcases pk_ix v hN with e | e | ⟨j, hj, e⟩
  · exact And.intro (fun _ => hp) fun z => absurd e z
  · exact And.intro (fun _ => hp) fun _ => br_t e hp
  · exact absurd e (h j hj)
theorem xw_us_t {post : Int32 → Prop} {x : Nat} (h48 : x < 48) (h : bL f_used x = true) (hp : post 1) : wpX_isUsed post (f_used, f_roots, f_asked, f_trailed, f_bound, f_pairs, f_drafted, f_noted, f_trials, f_mets, f_classes, a_up, a_kind, a_many, a_parts, a_value, a_trail, a_left, a_right, a_draft, a_stands, a_testX, a_testY, a_triggerX, a_triggerY, a_ends, a_notes, a_oldUsed, a_oldRoots, a_oldAsked, a_oldStands, a_oldTestX, a_oldTestY, a_oldTriggerX, a_oldTriggerY, a_oldEnds, a_oldTrailed, a_oldNoted, a_met, a_classOf, a_finer, a_image, a_seen, a_stack, a_deep, a_company, a_greeted) (nI x) := by
  unfold wpX_isUsed
  exact xw_in_t (N := 48) h48 (by decide) (br_f (by decide) (br_f (bt_n0 (by omega) h) hp))
theorem xw_us_f {post : Int32 → Prop} {v : Int32} (h : ∀ x, x < 48 → v = nI x → bL f_used x = false) (hp : post 0) : wpX_isUsed post (f_used, f_roots, f_asked, f_trailed, f_bound, f_pairs, f_drafted, f_noted, f_trials, f_mets, f_classes, a_up, a_kind, a_many, a_parts, a_value, a_trail, a_left, a_right, a_draft, a_stands, a_testX, a_testY, a_triggerX, a_triggerY, a_ends, a_notes, a_oldUsed, a_oldRoots, a_oldAsked, a_oldStands, a_oldTestX, a_oldTestY, a_oldTriggerX, a_oldTriggerY, a_oldEnds, a_oldTrailed, a_oldNoted, a_met, a_classOf, a_finer, a_image, a_seen, a_stack, a_deep, a_company, a_greeted) v := by
  unfold wpX_isUsed
  by_cases e : ∃ k, k < 48 ∧ v = nI k
  · obtain ⟨k, hk, rfl⟩ := e
    exact xw_in_t (N := 48) hk (by decide) (br_f (by decide) (br_t ((bt_0 _ (by omega)).2 (h k hk rfl)) hp))
  · exact xw_in_f (N := 48) (fun k hk z => e ⟨k, hk, z⟩) (by decide) (br_t rfl hp)
theorem xw_spare2 {post : Int32 → Prop} (hp : ∀ x, x ≤ 48 → (∀ y, y < x → bL f_used y = true) → (x < 48 → bL f_used x = false) → post (nI x)) : ∀ n x, x ≤ 48 → 48 - x < n → (∀ y, y < x → bL f_used y = true) → wX_spare_2 post f_used f_roots f_asked f_trailed f_bound f_pairs f_drafted f_noted f_trials f_mets f_classes a_up a_kind a_many a_parts a_value a_trail a_left a_right a_draft a_stands a_testX a_testY a_triggerX a_triggerY a_ends a_notes a_oldUsed a_oldRoots a_oldAsked a_oldStands a_oldTestX a_oldTestY a_oldTriggerX a_oldTriggerY a_oldEnds a_oldTrailed a_oldNoted a_met a_classOf a_finer a_image a_seen a_stack a_deep a_company a_greeted n (nI x) := by
  intro n
  induction n with
  | zero => intro x _ h; omega
  | succ n ih =>
    intro x hx hn hl
    by_cases e : x = 48
    · subst e
      exact wh_t (a := 48) (b := 48) (by omega) (hp 48 hx hl (by omega))
    · refine wh_f (a := 48) (b := x) (by omega) ?_
      by_cases hb : bL f_used x = true
      · refine br_f (bt_n0 (by omega) hb) (up1 (ih (x + 1) (by omega) (by omega) fun y hy => ?_))
        by_cases e2 : y = x
        · rw [e2]; exact hb
        · exact hl y (by omega)
      · exact br_t ((bt_0 _ (by omega)).2 (ts_nt hb)) (hp x hx hl fun _ => ts_nt hb)
theorem xw_spare {post : Int32 → Prop} (hp : ∀ x, x ≤ 48 → (∀ y, y < x → bL f_used y = true) → (x < 48 → bL f_used x = false) → post (nI x)) : wpX_spare post (f_used, f_roots, f_asked, f_trailed, f_bound, f_pairs, f_drafted, f_noted, f_trials, f_mets, f_classes, a_up, a_kind, a_many, a_parts, a_value, a_trail, a_left, a_right, a_draft, a_stands, a_testX, a_testY, a_triggerX, a_triggerY, a_ends, a_notes, a_oldUsed, a_oldRoots, a_oldAsked, a_oldStands, a_oldTestX, a_oldTestY, a_oldTriggerX, a_oldTriggerY, a_oldEnds, a_oldTrailed, a_oldNoted, a_met, a_classOf, a_finer, a_image, a_seen, a_stack, a_deep, a_company, a_greeted) := Exists.intro 49 (xw_spare2 hp 49 0 (by omega) (by omega) fun y hy => absurd hy (by omega))
theorem xw_take {post : SX → Prop} {x : Nat} (hx : x < 48) (h : post (f_used ||| ((1 : Int64) <<< ((nI x).toInt64 &&& 63)), f_roots, f_asked, nI tn, f_bound, f_pairs, f_drafted, f_noted, f_trials, f_mets, f_classes, nA (un p x x), nA (un kd x 0), nA mn, nA pt, a_value, nA tr, a_left, a_right, a_draft, a_stands, a_testX, a_testY, a_triggerX, a_triggerY, a_ends, a_notes, a_oldUsed, a_oldRoots, a_oldAsked, a_oldStands, a_oldTestX, a_oldTestY, a_oldTriggerX, a_oldTriggerY, a_oldEnds, a_oldTrailed, a_oldNoted, a_met, a_classOf, a_finer, a_image, a_seen, a_stack, a_deep, a_company, a_greeted)) : wpX_take post (f_used, f_roots, f_asked, nI tn, f_bound, f_pairs, f_drafted, f_noted, f_trials, f_mets, f_classes, nA p, nA kd, nA mn, nA pt, a_value, nA tr, a_left, a_right, a_draft, a_stands, a_testX, a_testY, a_triggerX, a_triggerY, a_ends, a_notes, a_oldUsed, a_oldRoots, a_oldAsked, a_oldStands, a_oldTestX, a_oldTestY, a_oldTriggerX, a_oldTriggerY, a_oldEnds, a_oldTrailed, a_oldNoted, a_met, a_classOf, a_finer, a_image, a_seen, a_stack, a_deep, a_company, a_greeted) (nI x) := by
  refine nm_e ⟨in_n hx, nmr (nA (un p x x)) ?_ ⟨in_n hx, nmr (nA (un kd x 0)) ?_ h⟩⟩
  · rw [vb_2 (by omega), cl_n (k := x), nA_u]
  · rw [vb_0, cl_n (k := x)]; exact nA_u kd x 0
theorem xw_hang {post : SX → Prop} {x y : Nat} (ht : tn < 128) (hx : x < 48) (hy : y < 48) (h : post (f_used, f_roots, f_asked, nI (tn + 1), f_bound, f_pairs, f_drafted, f_noted, f_trials, f_mets, f_classes, nA (un p x y), nA kd, nA mn, nA pt, a_value, nA (un tr tn x), a_left, a_right, a_draft, a_stands, a_testX, a_testY, a_triggerX, a_triggerY, a_ends, a_notes, a_oldUsed, a_oldRoots, a_oldAsked, a_oldStands, a_oldTestX, a_oldTestY, a_oldTriggerX, a_oldTriggerY, a_oldEnds, a_oldTrailed, a_oldNoted, a_met, a_classOf, a_finer, a_image, a_seen, a_stack, a_deep, a_company, a_greeted)) : wpX_hang post (f_used, f_roots, f_asked, nI tn, f_bound, f_pairs, f_drafted, f_noted, f_trials, f_mets, f_classes, nA p, nA kd, nA mn, nA pt, a_value, nA tr, a_left, a_right, a_draft, a_stands, a_testX, a_testY, a_triggerX, a_triggerY, a_ends, a_notes, a_oldUsed, a_oldRoots, a_oldAsked, a_oldStands, a_oldTestX, a_oldTestY, a_oldTriggerX, a_oldTriggerY, a_oldEnds, a_oldTrailed, a_oldNoted, a_met, a_classOf, a_finer, a_image, a_seen, a_stack, a_deep, a_company, a_greeted) (nI x) (nI y) := by
  refine up1 ⟨in_n ht, nmr (nA (un tr tn x)) ?_ ⟨in_n hx, nmr (nA (un p x y)) ?_ h⟩⟩
  · rw [vs_2 (by omega), cl_n (k := tn), nA_u]
  · rw [vb_2 (by omega), cl_n (k := x), nA_u]
theorem xw_set {post : SX → Prop} {x w : Nat} {v : Int32} (ht : tn < 128) (hx : x < 48) (hw : w < 128) (h : post (f_used, f_roots, f_asked, nI (tn + 1), f_bound, f_pairs, f_drafted, f_noted, f_trials, f_mets, f_classes, nA p, nA (un kd x w), nA (un mn x 0), nA pt, upd a_value x v, nA (un tr tn (100 + x)), a_left, a_right, a_draft, a_stands, a_testX, a_testY, a_triggerX, a_triggerY, a_ends, a_notes, a_oldUsed, a_oldRoots, a_oldAsked, a_oldStands, a_oldTestX, a_oldTestY, a_oldTriggerX, a_oldTriggerY, a_oldEnds, a_oldTrailed, a_oldNoted, a_met, a_classOf, a_finer, a_image, a_seen, a_stack, a_deep, a_company, a_greeted)) : wpX_set post (f_used, f_roots, f_asked, nI tn, f_bound, f_pairs, f_drafted, f_noted, f_trials, f_mets, f_classes, nA p, nA kd, nA mn, nA pt, a_value, nA tr, a_left, a_right, a_draft, a_stands, a_testX, a_testY, a_triggerX, a_triggerY, a_ends, a_notes, a_oldUsed, a_oldRoots, a_oldAsked, a_oldStands, a_oldTestX, a_oldTestY, a_oldTriggerX, a_oldTriggerY, a_oldEnds, a_oldTrailed, a_oldNoted, a_met, a_classOf, a_finer, a_image, a_seen, a_stack, a_deep, a_company, a_greeted) (nI x) (nI w) v := by
  refine up1 ⟨in_n ht, nmr (nA (un tr tn (100 + x))) ?_ ⟨in_n hx, nmr (nA (un kd x w)) ?_ ⟨in_n hx, nmr (upd a_value x v) ?_ ⟨in_n hx, nmr (nA (un mn x 0)) ?_ h⟩⟩⟩⟩
  · rw [aL_100, vs_2 (by omega), cl_n (k := tn), nA_u]
  · rw [vb_2 (by omega), cl_n (k := x), nA_u]
  · rw [cl_n (k := x)]
  · rw [vb_0, cl_n (k := x)]; exact nA_u mn x 0
theorem xw_pair {post : SX → Prop} {np x y : Nat} (hn : np < 400) (hx : x < 48) (hy : y < 48) (h : post (f_used, f_roots, f_asked, f_trailed, f_bound, nI (np + 1), f_drafted, f_noted, f_trials, f_mets, f_classes, a_up, a_kind, a_many, a_parts, a_value, a_trail, upd a_left np (nI x), upd a_right np (nI y), a_draft, a_stands, a_testX, a_testY, a_triggerX, a_triggerY, a_ends, a_notes, a_oldUsed, a_oldRoots, a_oldAsked, a_oldStands, a_oldTestX, a_oldTestY, a_oldTriggerX, a_oldTriggerY, a_oldEnds, a_oldTrailed, a_oldNoted, a_met, a_classOf, a_finer, a_image, a_seen, a_stack, a_deep, a_company, a_greeted)) : wpX_pair post (f_used, f_roots, f_asked, f_trailed, f_bound, nI np, f_drafted, f_noted, f_trials, f_mets, f_classes, a_up, a_kind, a_many, a_parts, a_value, a_trail, a_left, a_right, a_draft, a_stands, a_testX, a_testY, a_triggerX, a_triggerY, a_ends, a_notes, a_oldUsed, a_oldRoots, a_oldAsked, a_oldStands, a_oldTestX, a_oldTestY, a_oldTriggerX, a_oldTriggerY, a_oldEnds, a_oldTrailed, a_oldNoted, a_met, a_classOf, a_finer, a_image, a_seen, a_stack, a_deep, a_company, a_greeted) (nI x) (nI y) := by
  refine ⟨in_n hn, nmr (upd a_left np (nI x)) ?_ (up1 ⟨in_n hn, nmr (upd a_right np (nI y)) ?_ h⟩)⟩
  · rw [vb_2 (by omega), cl_n (k := np)]
  · rw [vb_2 (by omega), cl_n (k := np)]
theorem xw_back0 {post : SX → Prop} {a : Nat} (ht : ∀ j, j < tn → tr j < 48 ∨ (100 ≤ tr j ∧ tr j < 148)) (hb : tn ≤ 128) (ha : a ≤ tn) (hp : post (f_used, f_roots, f_asked, nI a, f_bound, f_pairs, f_drafted, f_noted, f_trials, f_mets, f_classes, nA (uP tr a tn p), nA (uK tr a tn kd), nA mn, nA pt, a_value, nA tr, a_left, a_right, a_draft, a_stands, a_testX, a_testY, a_triggerX, a_triggerY, a_ends, a_notes, a_oldUsed, a_oldRoots, a_oldAsked, a_oldStands, a_oldTestX, a_oldTestY, a_oldTriggerX, a_oldTriggerY, a_oldEnds, a_oldTrailed, a_oldNoted, a_met, a_classOf, a_finer, a_image, a_seen, a_stack, a_deep, a_company, a_greeted)) : ∀ n b, a ≤ b → b ≤ tn → b - a < n → wX_back_0 post (nI a) f_used f_roots f_asked f_bound f_pairs f_drafted f_noted f_trials f_mets f_classes n (nI b) (nA (uP tr b tn p)) (nA (uK tr b tn kd)) (nA mn) (nA pt) a_value (nA tr) a_left a_right a_draft a_stands a_testX a_testY a_triggerX a_triggerY a_ends a_notes a_oldUsed a_oldRoots a_oldAsked a_oldStands a_oldTestX a_oldTestY a_oldTriggerX a_oldTriggerY a_oldEnds a_oldTrailed a_oldNoted a_met a_classOf a_finer a_image a_seen a_stack a_deep a_company a_greeted := by
  intro n
  induction n with
  | zero => intro b _ _ h; omega
  | succ n ih =>
    intro b hab hbn hn
    by_cases e : b = a
    · subst e
      exact wh_t (a := b) (b := b) (by omega) hp
    · obtain ⟨d, rfl⟩ : ∃ d, b = d + 1 := ⟨b - 1, by omega⟩
      refine wh_f (a := d + 1) (b := a) (by omega) ?_
      rw [nI_pred]
      refine nm_e ⟨in_n (by omega), ?_⟩
      rw [cl_n (k := d)]
      refine nmr (nI (tr d)) rfl ?_
      have hd := ht d (by omega)
      have ih := ih d (by omega) (by omega) (by omega)
      rw [← uP_m (tr := tr) (p := p) (a := d) (m := d + 1) (b := tn) (by omega) hbn, ← uK_m (tr := tr) (kd := kd) (a := d) (m := d + 1) (b := tn) (by omega) hbn] at ih
      by_cases h : tr d < 48
      · refine wh_f (a := 100) (b := tr d) (by omega) ⟨in_n h, ?_⟩
        refine nmr (nA (uP tr d (d + 1) (uP tr (d + 1) tn p))) ?_ ?_
        · rw [vb_2 (by omega), cl_n (k := tr d), nA_u, uP_1 rfl h]
        · rw [uK_1n (by omega)] at ih
          exact ih
      · obtain ⟨x, hx⟩ : ∃ x, tr d = 100 + x := ⟨tr d - 100, by omega⟩
        have e1 : nI (tr d) - 100 = nI x := by
          rw [hx]
          have := pk_sub (a := 100 + x) (b := 100) (by omega)
          rw [show 100 + x - 100 = x by omega] at this
          exact this
        refine wh_t (a := 100) (b := tr d) (by omega) ?_
        rw [e1]
        refine ⟨in_n (by omega), nmr (nA (uK tr d (d + 1) (uK tr (d + 1) tn kd))) ?_ ?_⟩
        · rw [vb_0, cl_n (k := x), uK_1 hx]; exact nA_u _ x 0
        · rw [uP_1n (by omega)] at ih
          exact ih
theorem xw_back {post : SX → Prop} {a : Nat} (ht : TrOK U p kd tr tn) (ha : a ≤ tn) (hp : post (f_used, f_roots, f_asked, nI a, f_bound, f_pairs, f_drafted, f_noted, f_trials, f_mets, f_classes, nA (uP tr a tn p), nA (uK tr a tn kd), nA mn, nA pt, a_value, nA tr, a_left, a_right, a_draft, a_stands, a_testX, a_testY, a_triggerX, a_triggerY, a_ends, a_notes, a_oldUsed, a_oldRoots, a_oldAsked, a_oldStands, a_oldTestX, a_oldTestY, a_oldTriggerX, a_oldTriggerY, a_oldEnds, a_oldTrailed, a_oldNoted, a_met, a_classOf, a_finer, a_image, a_seen, a_stack, a_deep, a_company, a_greeted)) : wpX_back post (f_used, f_roots, f_asked, nI tn, f_bound, f_pairs, f_drafted, f_noted, f_trials, f_mets, f_classes, nA p, nA kd, nA mn, nA pt, a_value, nA tr, a_left, a_right, a_draft, a_stands, a_testX, a_testY, a_triggerX, a_triggerY, a_ends, a_notes, a_oldUsed, a_oldRoots, a_oldAsked, a_oldStands, a_oldTestX, a_oldTestY, a_oldTriggerX, a_oldTriggerY, a_oldEnds, a_oldTrailed, a_oldNoted, a_met, a_classOf, a_finer, a_image, a_seen, a_stack, a_deep, a_company, a_greeted) (nI a) := by
  have hb := tr_le ht
  refine Exists.intro (tn - a + 1) ?_
  have := xw_back0 (post := post) (a := a) (tn := tn) (tr := tr) (fun j hj => ?_) (by omega) ha hp (tn - a + 1) tn ha (Nat.le_refl _) (by omega)
  · rw [uP_0 (Nat.le_refl _), uK_0 (Nat.le_refl _)] at this
    exact this
  · rcases ht.1 j hj with ⟨z, _⟩ | ⟨x, e, z, _⟩
    · exact Or.inl z
    · exact Or.inr (by omega)
end
end
section
/-! the component's join: pure part -/
def Ar (a : Nat → Int32) (f : Nat → Nat) (n : Nat) : Prop := ∀ i, i < n → a i = nI (f i)
theorem ar_0 {a : Nat → Int32} {f : Nat → Nat} : Ar a f 0 := fun i h => absurd h (by omega)
theorem ar_push {a : Nat → Int32} {f : Nat → Nat} {n v : Nat} (h : Ar a f n) : Ar (upd a n (nI v)) (un f n v) (n + 1) := by
  intro i hi
  by_cases e : i = n
  · rw [e, pk_us, un_s]
  · rw [pk_un e, un_n e]; exact h i (by omega)
theorem ar_le {a : Nat → Int32} {f : Nat → Nat} {n m : Nat} (h : Ar a f n) (hm : m ≤ n) : Ar a f m := fun i hi => h i (by omega)
def Th (T : Nat → Nat) (x y : Nat) : Nat → Nat := fun z => if T z = x then y else T z
section
variable {T : Nat → Nat} {x y : Nat}
theorem th_t {z : Nat} (h : T z = x) : Th T x y z = y := if_pos h
theorem th_f {z : Nat} (h : ¬ T z = x) : Th T x y z = T z := if_neg h
theorem th_eq {z w : Nat} (h : T z = T w) : Th T x y z = Th T x y w := by
  show (if _ then _ else _) = (if _ then _ else _)
  rw [h]
theorem th_xy (hx : T x = x) (hy : T y = y) (ne : x ≠ y) : Th T x y x = y ∧ Th T x y y = y := ⟨th_t hx, by rw [th_f (by rw [hy]; exact Ne.symm ne), hy]⟩
theorem th_sd {R : Nat → Nat → Prop} (hR : Eqv R) {D : Nat → Prop} (hD : ∀ z w, D z → D w → T z = T w → R z w) (hx : D x) (hy : D y) (ex : T x = x) (ey : T y = y) (hxy : R x y) {z w : Nat} (hz : D z) (hw : D w) (e : Th T x y z = Th T x y w) : R z w := by
  by_cases h1 : T z = x
  · by_cases h2 : T w = x
    · exact hD z w hz hw (h1.trans h2.symm)
    · rw [th_t h1, th_f h2] at e
      exact hR.2.2 _ _ _ (hD z x hz hx (h1.trans ex.symm)) (hR.2.2 _ _ _ hxy (hD y w hy hw (ey.trans e)))
  · by_cases h2 : T w = x
    · rw [th_f h1, th_t h2] at e
      exact hR.2.2 _ _ _ (hD z y hz hy (e.trans ey.symm)) (hR.2.2 _ _ _ (hR.2.1 _ _ hxy) (hD x w hx hw (ex.trans h2.symm)))
    · rw [th_f h1, th_f h2] at e
      exact hD z w hz hw e
end
/-- what follows from what is the same so far and the pairs that are left -/
def EqC (U : Nat → Prop) (Tc : Nat → Nat) (np : Nat) (lf rt : Nat → Nat) (a b : Nat) : Prop := ∀ R, Eqv R → (∀ x y, U x → U y → Tc x = Tc y → R x y) → (∀ i, i < np → R (lf i) (rt i)) → R a b
def JInv (c : Vw) (S : Nat → Nat → Prop) (b0 b : Int32) (Tc : Nat → Nat) (np : Nat) (lf rt : Nat → Nat) : Prop :=
  (∀ i, i < np → cU c (lf i) ∧ cU c (rt i) ∧ CC c S (lf i) (rt i)) ∧
  (∀ x y, cU c x → cU c y → Tc x = Tc y → CC c S x y) ∧
  (∀ x y, cU c x → cU c y → cT c x = cT c y → Tc x = Tc y) ∧
  (∀ x, cU c x → cT c (Tc x) = Tc x) ∧
  (∀ a d, S a d → EqC (cU c) Tc np lf rt a d) ∧
  (∀ x, cU c x → cK c x ≠ 0 → Same c (Tc x) x ∧ ∀ k, k < cM c x → EqC (cU c) Tc np lf rt (cP c (Tc x) k) (cP c x k)) ∧
  (b = 0 → ∀ x y, cU c x → cU c y → Tc x = Tc y → cT c x = cT c y ∨ (cK c x ≠ 0 ∧ cK c y ≠ 0)) ∧
  (¬ b = 0 → ¬ b0 = 0 ∨ ∃ x y, cU c x ∧ cU c y ∧ Tc x = Tc y ∧ cK c x = 0 ∧ cT c x ≠ cT c y)
theorem ji_0 {c : Vw} (W : VW c) {S : Nat → Nat → Prop} {b0 : Int32} {np : Nat} {lf rt : Nat → Nat} (hU : ∀ i, i < np → cU c (lf i) ∧ cU c (rt i)) (hS : ∀ a d, S a d ↔ ∃ i, i < np ∧ lf i = a ∧ rt i = d) : JInv c S b0 b0 (cT c) np lf rt := by
  refine ⟨fun i hi => ⟨(hU i hi).1, (hU i hi).2, cc_S ((hS _ _).2 ⟨i, hi, rfl, rfl⟩)⟩, fun x y hx hy e => cc_T hx hy e, fun _ _ _ _ e => e, fun x hx => vw_TT W hx, ?_, ?_, fun _ x y _ _ e => Or.inl e, fun h => Or.inl h⟩
  · intro a d h R _ _ hL
    obtain ⟨i, hi, rfl, rfl⟩ := (hS a d).1 h
    exact hL i hi
  · intro x hx _
    refine ⟨same_T W (vw_T W hx) hx (vw_TT W hx), fun k _ R hR _ _ => ?_⟩
    rw [vw_eP W (vw_T W hx) hx (vw_TT W hx) k]
    exact hR.1 _
section
variable {c : Vw} {S : Nat → Nat → Prop} {b0 b : Int32} {Tc : Nat → Nat} {np : Nat} {lf rt : Nat → Nat}
theorem ji_eq (J : JInv c S b0 b Tc (np + 1) lf rt) (e : Tc (lf np) = Tc (rt np)) : JInv c S b0 b Tc np lf rt := by
  obtain ⟨j1, j2, j3, j4, j5, j6, j7, j8⟩ := J
  have key : ∀ a d, EqC (cU c) Tc (np + 1) lf rt a d → EqC (cU c) Tc np lf rt a d := by
    intro a d h R hR hT hL
    refine h R hR hT fun i hi => ?_
    by_cases z : i = np
    · rw [z]; exact hT _ _ (j1 np (by omega)).1 (j1 np (by omega)).2.1 e
    · exact hL i (by omega)
  exact ⟨fun i hi => j1 i (by omega), j2, j3, j4, fun a d h => key _ _ (j5 a d h), fun x hx hk => ⟨(j6 x hx hk).1, fun k hk' => key _ _ ((j6 x hx hk).2 k hk')⟩, j7, j8⟩
/-- the tops of the pair that is next -/
theorem ji_xy (hTU : ∀ x, cU c x → cU c (Tc x) ∧ Tc (Tc x) = Tc x) (J : JInv c S b0 b Tc (np + 1) lf rt) : CC c S (Tc (lf np)) (Tc (rt np)) := by
  obtain ⟨j1, j2, j3, j4, j5, j6, j7, j8⟩ := J
  have h := j1 np (by omega)
  have h1 := hTU _ h.1
  have h2 := hTU _ h.2.1
  exact cc_t (j2 _ _ h1.1 h.1 h1.2) (cc_t h.2.2 (j2 _ _ h.2.1 h2.1 h2.2.symm))
/-- a free one is hung on another one, in either way -/
theorem ji_free (hTU : ∀ x, cU c x → cU c (Tc x) ∧ Tc (Tc x) = Tc x) (J : JInv c S b0 b Tc (np + 1) lf rt) {x y : Nat} (hxy : (x = Tc (lf np) ∧ y = Tc (rt np)) ∨ (y = Tc (lf np) ∧ x = Tc (rt np))) (ne : x ≠ y) (hk : cK c x = 0) {b' : Int32} (hb : ¬ b' = 0) : JInv c S b0 b' (Th Tc x y) np lf rt := by
  have hcc := ji_xy hTU J
  obtain ⟨j1, j2, j3, j4, j5, j6, j7, j8⟩ := J
  have hl := j1 np (by omega)
  have h1 := hTU _ hl.1
  have h2 := hTU _ hl.2.1
  have hU : cU c x ∧ cU c y ∧ Tc x = x ∧ Tc y = y ∧ CC c S x y := by
    rcases hxy with ⟨rfl, rfl⟩ | ⟨rfl, rfl⟩
    · exact ⟨h1.1, h2.1, h1.2, h2.2, hcc⟩
    · exact ⟨h2.1, h1.1, h2.2, h1.2, cc_s hcc⟩
  obtain ⟨hx, hy, ex, ey, hcc⟩ := hU
  have hth := th_xy ex ey ne
  have hab : Th Tc x y (lf np) = Th Tc x y (rt np) := by
    rcases hxy with ⟨z1, z2⟩ | ⟨z1, z2⟩
    · rw [th_t z1.symm, th_f (by rw [← z2]; exact Ne.symm ne), ← z2]
    · rw [th_t (z := rt np) z2.symm, th_f (by rw [← z1]; exact Ne.symm ne), ← z1]
  have key : ∀ a d, EqC (cU c) Tc (np + 1) lf rt a d → EqC (cU c) (Th Tc x y) np lf rt a d := by
    intro a d h R hR hT hL
    refine h R hR (fun z w hz hw e => hT z w hz hw (th_eq e)) fun i hi => ?_
    by_cases z : i = np
    · rw [z]; exact hT _ _ hl.1 hl.2.1 hab
    · exact hL i (by omega)
  refine ⟨fun i hi => j1 i (by omega), fun z w hz hw e => th_sd cc_eqv (fun z w hz hw e => j2 z w hz hw e) hx hy ex ey hcc hz hw e, fun z w hz hw e => th_eq (j3 z w hz hw e), fun z hz => ?_, fun a d h => key _ _ (j5 a d h), fun z hz hkz => ?_, fun h => absurd h hb, fun _ => Or.inr ⟨x, y, hx, hy, hth.1.trans hth.2.symm, hk, ?_⟩⟩
  · by_cases e : Tc z = x
    · rw [th_t e, ← ey]; exact j4 y hy
    · rw [th_f e]; exact j4 z hz
  · have g := j6 z hz hkz
    have e : ¬ Tc z = x := fun e => hkz (by rw [← g.1.1, e]; exact hk)
    rw [th_f e]
    exact ⟨g.1, fun k hk => key _ _ (g.2 k hk)⟩
  · rw [← ex, ← ey, j4 x hx, j4 y hy, ex, ey]; exact ne
/-- two that have the same, but for parts -/
theorem ji_such (W : VW c) (hTU : ∀ x, cU c x → cU c (Tc x) ∧ Tc (Tc x) = Tc x) (J : JInv c S b0 b Tc (np + 1) lf rt) {x y : Nat} (hx' : x = Tc (lf np)) (hy' : y = Tc (rt np)) (ne : x ≠ y) (hkx : cK c x ≠ 0) (hs : Same c x y) {lf' rt' : Nat → Nat} (hlo : ∀ i, i < np → lf' i = lf i ∧ rt' i = rt i) (hhi : ∀ j, j < cM c x → lf' (np + j) = cP c x j ∧ rt' (np + j) = cP c y j) : JInv c S b0 b (Th Tc x y) (np + cM c x) lf' rt' := by
  have hcc := ji_xy hTU J
  obtain ⟨j1, j2, j3, j4, j5, j6, j7, j8⟩ := J
  have hl := j1 np (by omega)
  have h1 := hTU _ hl.1
  have h2 := hTU _ hl.2.1
  rw [← hx'] at h1 hcc
  rw [← hy'] at h2 hcc
  obtain ⟨hx, ex⟩ := h1
  obtain ⟨hy, ey⟩ := h2
  have hky : cK c y ≠ 0 := by rw [← hs.1]; exact hkx
  have hth := th_xy ex ey ne
  have hab : Th Tc x y (lf np) = Th Tc x y (rt np) := by
    rw [th_t hx'.symm, th_f (by rw [← hy']; exact Ne.symm ne), ← hy']
  have key : ∀ a d, EqC (cU c) Tc (np + 1) lf rt a d → EqC (cU c) (Th Tc x y) (np + cM c x) lf' rt' a d := by
    intro a d h R hR hT hL
    refine h R hR (fun z w hz hw e => hT z w hz hw (th_eq e)) fun i hi => ?_
    by_cases z : i = np
    · rw [z]; exact hT _ _ hl.1 hl.2.1 hab
    · have := hL i (by omega)
      rw [(hlo i (by omega)).1, (hlo i (by omega)).2] at this
      exact this
  refine ⟨fun i hi => ?_, fun z w hz hw e => th_sd cc_eqv (fun z w hz hw e => j2 z w hz hw e) hx hy ex ey hcc hz hw e, fun z w hz hw e => th_eq (j3 z w hz hw e), fun z hz => ?_, fun a d h => key _ _ (j5 a d h), fun z hz hkz => ?_, fun h z w hz hw e => ?_, fun h => ?_⟩
  · by_cases z : i < np
    · rw [(hlo i z).1, (hlo i z).2]; exact j1 i (by omega)
    · obtain ⟨j, rfl⟩ : ∃ j, i = np + j := ⟨i - np, by omega⟩
      have hj : j < cM c x := by omega
      rw [(hhi j hj).1, (hhi j hj).2]
      exact ⟨vw_P W hx hj, vw_P W hy (by rw [← hs.2.2]; exact hj), cc_p hx hy hcc (vw_k2 W hx hj) hs hj⟩
  · by_cases e : Tc z = x
    · rw [th_t e, ← ey]; exact j4 y hy
    · rw [th_f e]; exact j4 z hz
  · have g := j6 z hz hkz
    by_cases e : Tc z = x
    · rw [th_t e]
      rw [e] at g
      refine ⟨same_t (same_s hs) g.1, fun k hk R hR hT hL => ?_⟩
      have hk' : k < cM c x := by rw [g.1.2.2]; exact hk
      have q := hL (np + k) (by omega)
      rw [(hhi k hk').1, (hhi k hk').2] at q
      exact hR.2.2 _ _ _ (hR.2.1 _ _ q) (key _ _ (g.2 k hk) R hR hT hL)
    · rw [th_f e]
      exact ⟨g.1, fun k hk => key _ _ (g.2 k hk)⟩
  · have q : ∀ z, cU c z → (Tc z = x ∨ Tc z = y) → cK c z ≠ 0 := by
      intro z hz e
      rcases e with e | e
      · rcases j7 h z x hz hx (e.trans ex.symm) with e2 | e2
        · rw [vw_eK W hz hx e2]; exact hkx
        · exact e2.1
      · rcases j7 h z y hz hy (e.trans ey.symm) with e2 | e2
        · rw [vw_eK W hz hy e2]; exact hky
        · exact e2.1
    by_cases e1 : Tc z = x
    · by_cases e2 : Tc w = x
      · exact Or.inr ⟨q z hz (Or.inl e1), q w hw (Or.inl e2)⟩
      · rw [th_t e1, th_f e2] at e
        exact Or.inr ⟨q z hz (Or.inl e1), q w hw (Or.inr e.symm)⟩
    · by_cases e2 : Tc w = x
      · rw [th_f e1, th_t e2] at e
        exact Or.inr ⟨q z hz (Or.inr e), q w hw (Or.inl e2)⟩
      · rw [th_f e1, th_f e2] at e
        exact j7 h z w hz hw e
  · rcases j8 h with z | ⟨z, w, hz, hw, e, h0, hn⟩
    · exact Or.inl z
    · exact Or.inr ⟨z, w, hz, hw, th_eq e, h0, hn⟩
end
/-- what a join that ended well gives -/
def Sol (c : Vw) (S : Nat → Nat → Prop) (Tc : Nat → Nat) : Prop :=
  (∀ x y, cU c x → cU c y → (Tc x = Tc y ↔ CC c S x y)) ∧ ¬ Clash c (CC c S) ∧
  (∀ x, cU c x → cU c (Tc x) ∧ cT c (Tc x) = Tc x ∧ Tc (Tc x) = Tc x) ∧
  (∀ x, cU c x → cK c x ≠ 0 → Same c (Tc x) x ∧ ∀ k, k < cM c x → Tc (cP c (Tc x) k) = Tc (cP c x k))
theorem ji_sol {c : Vw} (W : VW c) {S : Nat → Nat → Prop} (hS : ∀ a d, S a d → cU c a ∧ cU c d) {b0 b : Int32} {Tc lf rt : Nat → Nat} (hTU : ∀ x, cU c x → cU c (Tc x) ∧ Tc (Tc x) = Tc x) (J : JInv c S b0 b Tc 0 lf rt) : Sol c S Tc := by
  obtain ⟨j1, j2, j3, j4, j5, j6, j7, j8⟩ := J
  have key : ∀ a d, EqC (cU c) Tc 0 lf rt a d → Tc a = Tc d := by
    intro a d h
    exact h (fun a d => Tc a = Tc d) ⟨fun _ => rfl, fun _ _ e => e.symm, fun _ _ _ e f => e.trans f⟩ (fun _ _ _ _ e => e) fun i hi => absurd hi (by omega)
  have p6 : ∀ x, cU c x → cK c x ≠ 0 → Same c (Tc x) x ∧ ∀ k, k < cM c x → Tc (cP c (Tc x) k) = Tc (cP c x k) := fun x hx hk => ⟨(j6 x hx hk).1, fun k hk' => key _ _ ((j6 x hx hk).2 k hk')⟩
  have p1 : ∀ x y, CC c S x y → Tc x = Tc y := by
    intro x y h
    refine cc_inU W j3 (fun a d h => ⟨(hS a d h).1, (hS a d h).2, key _ _ (j5 a d h)⟩) ?_ h
    intro x y hx hy e h2 hs k hk
    have a := p6 x hx (by rw [h2]; decide)
    have d := p6 y hy (by rw [← hs.1, h2]; decide)
    rw [← a.2 k hk, ← d.2 k (by rw [← hs.2.2]; exact hk), e]
  refine ⟨fun x y hx hy => ⟨j2 x y hx hy, p1 x y⟩, ?_, fun x hx => ⟨(hTU x hx).1, j4 x hx, (hTU x hx).2⟩, p6⟩
  intro ⟨x, y, hx, hy, h, kx, ky, n⟩
  have e := p1 x y h
  have a := (p6 x hx kx).1
  have d := (p6 y hy ky).1
  rw [e] at a
  exact n (same_t (same_s a) d)
end
section
/-! the component's join: walk -/
def Such (kd mn : Nat → Nat) (val : Nat → Int32) (x y : Nat) : Prop := nI (kd x) = nI (kd y) ∧ val x = val y ∧ (nI (kd x) = 1 ∨ nI (mn x) = nI (mn y))
theorem such_same {U : Nat → Prop} {p T rk kd mn pt : Nat → Nat} {val : Nat → Int32} (F : Fo U p T rk) (D : XD U p kd mn pt) {x y : Nat} (hx : U x) (hy : U y) (ex : T x = x) (ey : T y = y) (hk : kd x ≠ 0) : Such kd mn val x y ↔ Same (xv U T kd mn pt val) x y := by
  have dx := D x hx (fo_topI F hx ex)
  have dy := D y hy (fo_topI F hy ey)
  show _ ↔ (kd (T x) = kd (T y) ∧ val (T x) = val (T y) ∧ (if kd (T x) = 2 then mn (T x) else 0) = (if kd (T y) = 2 then mn (T y) else 0))
  rw [ex, ey]
  constructor
  · intro ⟨h1, h2, h3⟩
    have h1 : kd x = kd y := nI_inj h1
    refine ⟨h1, h2, ?_⟩
    by_cases e : kd x = 2
    · rw [if_pos e, if_pos (by omega)]
      have a := (dx.2 e).1
      have b := (dy.2 (by omega)).1
      rcases h3 with h3 | h3
      · have : kd x = 1 := nI_inj (b := 1) h3
        omega
      · exact nI_inj h3
    · rw [if_neg e, if_neg (by omega)]
  · intro ⟨h1, h2, h3⟩
    refine ⟨by rw [h1], h2, ?_⟩
    by_cases e : kd x = 2
    · rw [if_pos e, if_pos (by omega)] at h3
      exact Or.inr (by rw [h3])
    · have : kd x = 1 := by have := dx.1; omega
      exact Or.inl (by rw [this]; rfl)
section
variable {f_used : Int64} {f_roots : Int64} {f_asked : Int64} {f_trailed : Int32} {f_bound : Int32} {f_pairs : Int32} {f_drafted : Int32} {f_noted : Int32} {f_trials : Int32} {f_mets : Int32} {f_classes : Int32} {a_up : Nat → Int32} {a_kind : Nat → Int32} {a_many : Nat → Int32} {a_parts : Nat → Int32} {a_value : Nat → Int32} {a_trail : Nat → Int32} {a_left : Nat → Int32} {a_right : Nat → Int32} {a_draft : Nat → Int32} {a_stands : Nat → Int32} {a_testX : Nat → Int32} {a_testY : Nat → Int32} {a_triggerX : Nat → Int32} {a_triggerY : Nat → Int32} {a_ends : Nat → Int32} {a_notes : Nat → Int32} {a_oldUsed : Nat → Int64} {a_oldRoots : Nat → Int64} {a_oldAsked : Nat → Int64} {a_oldStands : Nat → Int32} {a_oldTestX : Nat → Int32} {a_oldTestY : Nat → Int32} {a_oldTriggerX : Nat → Int32} {a_oldTriggerY : Nat → Int32} {a_oldEnds : Nat → Int32} {a_oldTrailed : Nat → Int32} {a_oldNoted : Nat → Int32} {a_met : Nat → Int32} {a_classOf : Nat → Int32} {a_finer : Nat → Int32} {a_image : Nat → Int32} {a_seen : Nat → Int32} {a_stack : Nat → Int32} {a_deep : Nat → Int32} {a_company : Nat → Int64} {a_greeted : Nat → Int64}
variable {p kd mn pt tr T rk : Nat → Nat} {tn : Nat} {U : Nat → Prop}
theorem xw_isSuch {post : Int32 → Prop} {x y : Nat} (hx : x < 48) (hy : y < 48) (h1 : Such kd mn a_value x y → post 1) (h0 : ¬ Such kd mn a_value x y → post 0) : wpX_isSuch post (f_used, f_roots, f_asked, nI tn, f_bound, f_pairs, f_drafted, f_noted, f_trials, f_mets, f_classes, nA p, nA kd, nA mn, nA pt, a_value, nA tr, a_left, a_right, a_draft, a_stands, a_testX, a_testY, a_triggerX, a_triggerY, a_ends, a_notes, a_oldUsed, a_oldRoots, a_oldAsked, a_oldStands, a_oldTestX, a_oldTestY, a_oldTriggerX, a_oldTriggerY, a_oldEnds, a_oldTrailed, a_oldNoted, a_met, a_classOf, a_finer, a_image, a_seen, a_stack, a_deep, a_company, a_greeted) (nI x) (nI y) := by
  show vp_in (nI x) 48 ∧ _
  rw [cl_n (k := x), cl_n (k := y)]
  refine ⟨in_n hx, in_n hy, br_c (fun e1 => ⟨in_n hx, in_n hy, br_c (fun e2 => ⟨in_n hx, br_c (fun e3 => h1 ⟨e1, e2, Or.inl e3⟩) fun e3 => ⟨in_n hx, in_n hy, br_c (fun e4 => h1 ⟨e1, e2, Or.inr e4⟩) fun e4 => h0 fun z => z.2.2.elim e3 e4⟩⟩) fun e2 => h0 fun z => e2 z.2.1⟩) fun e1 => h0 fun z => e1 z.1⟩
theorem xw_join119 {post : Int32 → SX → Prop} {J0 : Int64 → Int64 → Int64 → Int32 → Int32 → Int32 → Int32 → Int32 → Int32 → Int32 → Int32 → (Nat → Int32) → (Nat → Int32) → (Nat → Int32) → (Nat → Int32) → (Nat → Int32) → (Nat → Int32) → (Nat → Int32) → (Nat → Int32) → (Nat → Int32) → (Nat → Int32) → (Nat → Int32) → (Nat → Int32) → (Nat → Int32) → (Nat → Int32) → (Nat → Int32) → (Nat → Int32) → (Nat → Int64) → (Nat → Int64) → (Nat → Int64) → (Nat → Int32) → (Nat → Int32) → (Nat → Int32) → (Nat → Int32) → (Nat → Int32) → (Nat → Int32) → (Nat → Int32) → (Nat → Int32) → (Nat → Int32) → (Nat → Int32) → (Nat → Int32) → (Nat → Int32) → (Nat → Int32) → (Nat → Int32) → (Nat → Int32) → (Nat → Int64) → (Nat → Int64) →  Prop} {x y np M : Nat} {lf0 rt0 : Nat → Nat} (hx : x < 48) (hy : y < 48) (hM : M = if kd x = 2 then mn x else 0) (hM3 : M ≤ 3) (hk2 : kd x ≤ 2) (hpx : ∀ j, j < M → pt (3 * x + j) < 48) (hpy : ∀ j, j < M → pt (3 * y + j) < 48) (hnp : np + M ≤ 400)
    (hJ : ∀ a_left a_right lf rt, Ar a_left lf (np + M) → Ar a_right rt (np + M) → (∀ j, j < M → lf (np + j) = pt (3 * x + j) ∧ rt (np + j) = pt (3 * y + j)) → (∀ i, i < np → lf i = lf0 i ∧ rt i = rt0 i) → J0 f_used f_roots f_asked (nI tn) f_bound (nI (np + M)) f_drafted f_noted f_trials f_mets f_classes (nA p) (nA kd) (nA mn) (nA pt) a_value (nA tr) a_left a_right a_draft a_stands a_testX a_testY a_triggerX a_triggerY a_ends a_notes a_oldUsed a_oldRoots a_oldAsked a_oldStands a_oldTestX a_oldTestY a_oldTriggerX a_oldTriggerY a_oldEnds a_oldTrailed a_oldNoted a_met a_classOf a_finer a_image a_seen a_stack a_deep a_company a_greeted) : ∀ n k a_left a_right lf rt, k ≤ M → M - k < n → Ar a_left lf (np + k) → Ar a_right rt (np + k) → (∀ j, j < k → lf (np + j) = pt (3 * x + j) ∧ rt (np + j) = pt (3 * y + j)) → (∀ i, i < np → lf i = lf0 i ∧ rt i = rt0 i) → wX_join_119 post J0 (nI x) (nI y) n (nI k) f_used f_roots f_asked (nI tn) f_bound (nI (np + k)) f_drafted f_noted f_trials f_mets f_classes (nA p) (nA kd) (nA mn) (nA pt) a_value (nA tr) a_left a_right a_draft a_stands a_testX a_testY a_triggerX a_triggerY a_ends a_notes a_oldUsed a_oldRoots a_oldAsked a_oldStands a_oldTestX a_oldTestY a_oldTriggerX a_oldTriggerY a_oldEnds a_oldTrailed a_oldNoted a_met a_classOf a_finer a_image a_seen a_stack a_deep a_company a_greeted := by
  intro n
  induction n with
  | zero => intro k _ _ _ _ _ h; omega
  | succ n ih =>
    intro k a_left a_right lf rt hk hn hl hr hq hlo
    show vp_in (nI x) 48 ∧ _
    rw [cl_n (k := x)]
    refine ⟨in_n hx, ?_⟩
    by_cases e2 : kd x = 2
    · have eM : mn x = M := by rw [hM, if_pos e2]
      have eM' : nA mn x = nI M := by rw [nA_e, eM]
      rw [eM']
      by_cases e : k = M
      · subst e
        exact wh_t (a := k) (b := k) (by omega) (hJ _ _ _ _ hl hr hq hlo)
      · have hk' : k < M := by omega
        refine wh_f (a := M) (b := k) (by omega) ⟨in_n hx, br_t (by rw [nA_e, e2]; rfl) ?_⟩
        rw [tri, tri, cl_n (k := 3 * x + k), cl_n (k := 3 * y + k)]
        refine ⟨in_n (by omega), in_n (by omega), ?_⟩
        refine xw_pair (x := pt (3 * x + k)) (y := pt (3 * y + k)) (by omega) (hpx k hk') (hpy k hk') (up1 ?_)
        refine ih (k + 1) _ _ (un lf (np + k) (pt (3 * x + k))) (un rt (np + k) (pt (3 * y + k))) (by omega) (by omega) (ar_push hl) (ar_push hr) ?_ ?_
        · intro j hj
          by_cases z : j = k
          · rw [z, un_s, un_s]; exact ⟨rfl, rfl⟩
          · rw [un_n (by omega), un_n (by omega)]; exact hq j (by omega)
        · intro i hi
          rw [un_n (by omega), un_n (by omega)]; exact hlo i hi
    · have eM : M = 0 := by rw [hM, if_neg e2]
      subst eM
      have : k = 0 := by omega
      subst this
      refine br_c (fun _ => hJ _ _ _ _ hl hr hq hlo) fun _ => ⟨in_n hx, br_f (fun z => e2 ?_) (hJ _ _ _ _ hl hr hq hlo)⟩
      exact nI_inj (b := 2) z
theorem xw_join0 {post : Int32 → SX → Prop} (F : Fo U p T rk) (D : XD U p kd mn pt) {S : Nat → Nat → Prop} {b0 : Int32}
    (Hok : ∀ b q Tc rkc tr' tn' al ar lf rt, Fo U q Tc rkc → JInv (xv U T kd mn pt a_value) S b0 b Tc 0 lf rt → Ext U p kd tr tn q kd tr' tn' → post 1 (f_used, f_roots, f_asked, nI tn', b, nI 0, f_drafted, f_noted, f_trials, f_mets, f_classes, nA q, nA kd, nA mn, nA pt, a_value, nA tr', al, ar, a_draft, a_stands, a_testX, a_testY, a_triggerX, a_triggerY, a_ends, a_notes, a_oldUsed, a_oldRoots, a_oldAsked, a_oldStands, a_oldTestX, a_oldTestY, a_oldTriggerX, a_oldTriggerY, a_oldEnds, a_oldTrailed, a_oldNoted, a_met, a_classOf, a_finer, a_image, a_seen, a_stack, a_deep, a_company, a_greeted))
    (Hno : ∀ b q tr' tn' al ar np, Clash (xv U T kd mn pt a_value) (CC (xv U T kd mn pt a_value) S) → Ext U p kd tr tn q kd tr' tn' → post 0 (f_used, f_roots, f_asked, nI tn', b, nI np, f_drafted, f_noted, f_trials, f_mets, f_classes, nA q, nA kd, nA mn, nA pt, a_value, nA tr', al, ar, a_draft, a_stands, a_testX, a_testY, a_triggerX, a_triggerY, a_ends, a_notes, a_oldUsed, a_oldRoots, a_oldAsked, a_oldStands, a_oldTestX, a_oldTestY, a_oldTriggerX, a_oldTriggerY, a_oldEnds, a_oldTrailed, a_oldNoted, a_met, a_classOf, a_finer, a_image, a_seen, a_stack, a_deep, a_company, a_greeted)) :
    ∀ n b q Tc rkc tr' tn' al ar lf rt np, np + 4 * (96 - tn') < n → np ≤ 3 + 2 * tn' → Fo U q Tc rkc → JInv (xv U T kd mn pt a_value) S b0 b Tc np lf rt → Ext U p kd tr tn q kd tr' tn' → Ar al lf np → Ar ar rt np → wX_join_0 post n f_used f_roots f_asked (nI tn') b (nI np) f_drafted f_noted f_trials f_mets f_classes (nA q) (nA kd) (nA mn) (nA pt) a_value (nA tr') al ar a_draft a_stands a_testX a_testY a_triggerX a_triggerY a_ends a_notes a_oldUsed a_oldRoots a_oldAsked a_oldStands a_oldTestX a_oldTestY a_oldTriggerX a_oldTriggerY a_oldEnds a_oldTrailed a_oldNoted a_met a_classOf a_finer a_image a_seen a_stack a_deep a_company a_greeted := by
  have W : VW (xv U T kd mn pt a_value) := xv_W F D
  intro n
  induction n with
  | zero => intro _ _ _ _ _ _ _ _ _ _ np h; omega
  | succ n ih =>
    intro b q Tc rkc tr' tn' al ar lf rt np hn hnp Fq J E hal har
    have hTU : ∀ x, U x → U (Tc x) ∧ Tc (Tc x) = Tc x := fun x hx => ⟨fo_T Fq hx, fo_TT Fq hx⟩
    have ht := tr_le E.2.2.2.2
    cases np with
    | zero => exact wh_t (a := 0) (b := 0) (by omega) (Hok _ _ _ _ _ _ _ _ _ _ Fq J E)
    | succ np =>
      have hl := J.1 np (by omega)
      have hlU : U (lf np) := hl.1
      have hrU : U (rt np) := hl.2.1
      have hcc := ji_xy (c := xv U T kd mn pt a_value) hTU J
      have jTT := J.2.2.2.1
      generalize hx' : Tc (lf np) = x at hcc
      generalize hy' : Tc (rt np) = y at hcc
      have hx : U x := hx' ▸ fo_T Fq hlU
      have hy : U y := hy' ▸ fo_T Fq hrU
      have hxc : Tc x = x := by rw [← hx']; exact fo_TT Fq hlU
      have hyc : Tc y = y := by rw [← hy']; exact fo_TT Fq hrU
      have hxT : T x = x := by rw [← hx']; exact jTT _ hlU
      have hyT : T y = y := by rw [← hy']; exact jTT _ hrU
      have hx48 := fo_lt F hx
      have hy48 := fo_lt F hy
      have dx := D x hx (fo_topI F hx hxT)
      have dy := D y hy (fo_topI F hy hyT)
      have qx : q x = x := fo_topI Fq hx hxc
      have qy : q y = y := fo_topI Fq hy hyc
      refine wh_f (a := np + 1) (b := 0) (by omega) (nmr (nI np) (nI_pred np) ?_)
      rw [nI_pred]
      refine ⟨in_n (by omega), ?_⟩
      rw [cl_n (k := np), hal np (by omega), har np (by omega)]
      refine xw_top Fq hlU ⟨in_n (by omega), xw_top Fq hrU ?_⟩
      rw [hx', hy']
      by_cases e : x = y
      · refine br_t (by rw [e]) ?_
        exact ih b q Tc rkc tr' tn' al ar lf rt np (by omega) (by omega) Fq (ji_eq J (by rw [hx', hy', e])) E (ar_le hal (by omega)) (ar_le har (by omega))
      · refine br_f (fun z => e (nI_inj z)) ⟨in_n hx48, ?_⟩
        by_cases kx : kd x = 0
        · refine br_t (by rw [cl_n (k := x), nA_e, kx]; rfl) ?_
          refine And.intro (in_n hx48) (br_t (by rw [cl_n (k := x), nA_e, kx]; rfl) ?_)
          have E1 := ext_hang E.2.2.2.2 hx hx48 qx e
          have ht1 := tr_le E1.2.2.2.2
          refine xw_hang (by omega) hx48 hy48 ?_
          exact ih 1 _ _ _ _ _ al ar lf rt np (by omega) (by omega) (fo_hang Fq hx hy hxc hyc e) (ji_free (c := xv U T kd mn pt a_value) hTU J (Or.inl ⟨hx'.symm, hy'.symm⟩) e (by rw [xv_K, hxT]; exact kx) (by decide)) (ext_t E E1) (ar_le hal (by omega)) (ar_le har (by omega))
        · have kx' : ¬ nA kd (nI x).toNatClampNeg = 0 := by
            rw [cl_n (k := x), nA_e]
            exact fun z => kx (nI_inj (b := 0) z)
          refine br_f kx' ⟨in_n hy48, ?_⟩
          by_cases ky : kd y = 0
          · refine br_t (by rw [cl_n (k := y), nA_e, ky]; rfl) ?_
            refine And.intro (in_n hx48) (br_f kx' ?_)
            have E1 := ext_hang E.2.2.2.2 hy hy48 qy (Ne.symm e)
            have ht1 := tr_le E1.2.2.2.2
            refine xw_hang (by omega) hy48 hx48 ?_
            exact ih 1 _ _ _ _ _ al ar lf rt np (by omega) (by omega) (fo_hang Fq hy hx hyc hxc (Ne.symm e)) (ji_free (c := xv U T kd mn pt a_value) hTU J (Or.inr ⟨hx'.symm, hy'.symm⟩) (Ne.symm e) (by rw [xv_K, hyT]; exact ky) (by decide)) (ext_t E E1) (ar_le hal (by omega)) (ar_le har (by omega))
          · have ky' : ¬ nA kd (nI y).toNatClampNeg = 0 := by
              rw [cl_n (k := y), nA_e]
              exact fun z => ky (nI_inj (b := 0) z)
            refine br_f ky' ?_
            have hss := such_same (val := a_value) F D hx hy hxT hyT kx
            refine xw_isSuch hx48 hy48 (fun hs => br_f (by decide) ?_) (fun hs => br_t rfl ?_)
            · have hs := hss.1 hs
              have E1 := ext_hang E.2.2.2.2 hx hx48 qx e
              have ht1 := tr_le E1.2.2.2.2
              have eM : cM (xv U T kd mn pt a_value) x = if kd x = 2 then mn x else 0 := by rw [xv_M, hxT]
              have eMy : cM (xv U T kd mn pt a_value) x = cM (xv U T kd mn pt a_value) y := hs.2.2
              have hM3 := vw_M W (x := x) hx
              have hPx : ∀ j, cP (xv U T kd mn pt a_value) x j = pt (3 * x + j) := fun j => by rw [xv_P, hxT]
              have hPy : ∀ j, cP (xv U T kd mn pt a_value) y j = pt (3 * y + j) := fun j => by rw [xv_P, hyT]
              refine xw_hang (by omega) hx48 hy48 (Exists.intro 4 ?_)
              refine xw_join119 (np := np) (M := cM (xv U T kd mn pt a_value) x) (lf0 := lf) (rt0 := rt) hx48 hy48 eM hM3 dx.1 (fun j hj => ?_) (fun j hj => ?_) (by omega) ?_ 4 0 al ar lf rt (by omega) (by omega) (ar_le hal (by omega)) (ar_le har (by omega)) (fun j hj => absurd hj (by omega)) (fun i hi => ⟨rfl, rfl⟩)
              · rw [← hPx]; exact vw_lt W (vw_P W (x := x) hx hj)
              · rw [← hPy]; exact vw_lt W (vw_P W (x := y) hy (by omega))
              · intro al' ar' lf' rt' hal' har' hq hlo
                refine ih b _ _ _ _ _ al' ar' lf' rt' _ (by omega) (by omega) (fo_hang Fq hx hy hxc hyc e) (ji_such W hTU J hx'.symm hy'.symm e (by rw [xv_K, hxT]; exact kx) hs hlo fun j hj => ?_) (ext_t E E1) hal' har'
                rw [hPx, hPy]; exact hq j hj
            · exact Hno _ _ _ _ _ _ _ ⟨x, y, hx, hy, hcc, by rw [xv_K, hxT]; exact kx, by rw [xv_K, hyT]; exact ky, fun z => hs (hss.2 z)⟩ E
/-- join, from some pairs on -/
theorem xw_join {post : Int32 → SX → Prop} (F : Fo U p T rk) (D : XD U p kd mn pt) {S : Nat → Nat → Prop} {np : Nat} {lf rt : Nat → Nat} (hl : Ar a_left lf np) (hr : Ar a_right rt np) (hn : np ≤ 3) (hU : ∀ i, i < np → U (lf i) ∧ U (rt i)) (hS : ∀ a d, S a d ↔ ∃ i, i < np ∧ lf i = a ∧ rt i = d) (E : TrOK U p kd tr tn)
    (Hok : ∀ b q Tc rkc tr' tn' al ar lf rt, Fo U q Tc rkc → JInv (xv U T kd mn pt a_value) S f_bound b Tc 0 lf rt → Ext U p kd tr tn q kd tr' tn' → post 1 (f_used, f_roots, f_asked, nI tn', b, nI 0, f_drafted, f_noted, f_trials, f_mets, f_classes, nA q, nA kd, nA mn, nA pt, a_value, nA tr', al, ar, a_draft, a_stands, a_testX, a_testY, a_triggerX, a_triggerY, a_ends, a_notes, a_oldUsed, a_oldRoots, a_oldAsked, a_oldStands, a_oldTestX, a_oldTestY, a_oldTriggerX, a_oldTriggerY, a_oldEnds, a_oldTrailed, a_oldNoted, a_met, a_classOf, a_finer, a_image, a_seen, a_stack, a_deep, a_company, a_greeted))
    (Hno : ∀ b q tr' tn' al ar np, Clash (xv U T kd mn pt a_value) (CC (xv U T kd mn pt a_value) S) → Ext U p kd tr tn q kd tr' tn' → post 0 (f_used, f_roots, f_asked, nI tn', b, nI np, f_drafted, f_noted, f_trials, f_mets, f_classes, nA q, nA kd, nA mn, nA pt, a_value, nA tr', al, ar, a_draft, a_stands, a_testX, a_testY, a_triggerX, a_triggerY, a_ends, a_notes, a_oldUsed, a_oldRoots, a_oldAsked, a_oldStands, a_oldTestX, a_oldTestY, a_oldTriggerX, a_oldTriggerY, a_oldEnds, a_oldTrailed, a_oldNoted, a_met, a_classOf, a_finer, a_image, a_seen, a_stack, a_deep, a_company, a_greeted)) : wpX_join post (f_used, f_roots, f_asked, nI tn, f_bound, nI np, f_drafted, f_noted, f_trials, f_mets, f_classes, nA p, nA kd, nA mn, nA pt, a_value, nA tr, a_left, a_right, a_draft, a_stands, a_testX, a_testY, a_triggerX, a_triggerY, a_ends, a_notes, a_oldUsed, a_oldRoots, a_oldAsked, a_oldStands, a_oldTestX, a_oldTestY, a_oldTriggerX, a_oldTriggerY, a_oldEnds, a_oldTrailed, a_oldNoted, a_met, a_classOf, a_finer, a_image, a_seen, a_stack, a_deep, a_company, a_greeted) :=
  Exists.intro (np + 4 * (96 - tn) + 1) (xw_join0 F D Hok Hno _ _ _ _ _ _ _ _ _ _ _ _ (by omega) (by omega) F (ji_0 (xv_W F D) hU hS) (ext_0 E) hl hr)
end
end
section
/-! the relation of a store, its tests, triggers, streams, notes on both sides -/
def MBits (used roots asked : Int64) (g : Nat → Int32) : Prop := (∀ x, uB used x → x < 48) ∧ (∀ x, uB roots x → uB used x) ∧ (∀ x, uB asked x → uB used x) ∧ (∀ x, x < 48 → g (432 + x) = nI (b01 (bL roots x)) ∧ g (480 + x) = nI (b01 (bL asked x)))
def MTest (used : Int64) (sd tx ty : Nat → Int32) (g : Nat → Int32) : Prop := ∀ k, k < 8 → g (528 + k) = tx k ∧ g (536 + k) = ty k ∧ g (544 + k) = sd k ∧ Sm (tx k) ∧ Sm (ty k) ∧ Sm (sd k) ∧ (sd k = 3 → (∃ x, tx k = nI x ∧ uB used x) ∧ (ty k = -1 ∨ ∃ y, ty k = nI y ∧ uB used y))
def MTrig (used : Int64) (gx gy : Nat → Int32) (g : Nat → Int32) : Prop := ∀ k, k < 8 → g (552 + k) = gx k ∧ g (560 + k) = gy k ∧ Sm (gx k) ∧ Sm (gy k) ∧ (gx k = -1 ∨ ∃ x y, gx k = nI x ∧ gy k = nI y ∧ uB used x ∧ uB used y)
def MEnd (used : Int64) (en : Nat → Int32) (g : Nat → Int32) : Prop := ∀ k, k < 4 → g (568 + k) = en k ∧ Sm (en k) ∧ (en k = -1 ∨ ∃ x, en k = nI x ∧ uB used x)
def MNote (N : Nat) (nt : Nat → Int32) (g : Nat → Int32) : Prop := g 572 = nI N ∧ ∀ k, k < N → k < 60 → g (573 + k) = nt k
def Core (used roots asked : Int64) (p kd mn pt : Nat → Nat) (val : Nat → Int32) (sd tx ty gx gy en : Nat → Int32) (N : Nat) (nt g : Nat → Int32) : Prop := (∃ T rk id, Fo (uB used) p T rk ∧ XD (uB used) p kd mn pt ∧ YR (xv (uB used) T kd mn pt val) id g) ∧ MBits used roots asked g ∧ MTest used sd tx ty g ∧ MTrig used gx gy g ∧ MEnd used en g ∧ MNote N nt g
theorem yr_cv {c c' : Vw} {id : Nat → Nat} {g : Nat → Int32} (W : VW c) (h : YR c id g) (hU : cU c' = cU c) (hT : ∀ x, cU c x → cT c' x = cT c x) (hK : ∀ x, cU c x → cK c' x = cK c x) (hV : ∀ x, cU c x → cK c x ≠ 0 → cV c' x = cV c x) (hM : ∀ x, cU c x → cM c' x = cM c x) (hP : ∀ x, cU c x → ∀ k, k < cM c x → cP c' x k = cP c x k) : YR c' id g := by
  obtain ⟨h1, h2, h3, h4, h5, h6⟩ := h
  refine ⟨h1, fun x hx hn => h2 x hx (by rw [← hU]; exact hn), fun x hx => ?_, fun x y hx hy => ?_, fun x hx hn => ?_, fun x hx hk => ?_⟩
  · rw [hU] at hx ⊢
    have := h3 x hx
    rw [hT x hx, hT _ this.2.2.1]; exact this
  · rw [hU] at hx hy
    rw [hT x hx, hT y hy]; exact h4 x y hx hy
  · rw [hU] at hx
    obtain ⟨a, b, d, e, f, i⟩ := h5 x hx hn
    unfold Tld
    rw [hK x hx, hM x hx, hV x hx a, hU]
    refine ⟨a, b, d, e, f, fun k hk => ?_⟩
    obtain ⟨q, q1, q2, q3⟩ := i k hk
    exact ⟨q, q1, q2, by rw [hT q q2, hP x hx k hk, hT _ (vw_P W hx hk)]; exact q3⟩
  · rw [hU] at hx
    rw [hK x hx] at hk
    obtain ⟨u, a, b, d⟩ := h6 x hx hk
    exact ⟨u, by rw [hU]; exact a, by rw [hT u a, hT x hx]; exact b, d⟩
theorem xv_cv {U : Nat → Prop} {p T rk kd mn pt kd' mn' pt' : Nat → Nat} {val val' : Nat → Int32} {id : Nat → Nat} {g : Nat → Int32} (F : Fo U p T rk) (D : XD U p kd mn pt) (hk : ∀ x, U x → kd' x = kd x) (hd : ∀ x, U x → kd x ≠ 0 → val' x = val x ∧ mn' x = mn x ∧ ∀ k, k < 3 → pt' (3 * x + k) = pt (3 * x + k)) (h : YR (xv U T kd mn pt val) id g) : YR (xv U T kd' mn' pt' val') id g := by
  have W : VW (xv U T kd mn pt val) := xv_W F D
  have hTU : ∀ x, U x → U (T x) := fun x hx => fo_T F hx
  have eM : ∀ x, U x → cM (xv U T kd' mn' pt' val') x = cM (xv U T kd mn pt val) x := by
    intro x hx
    by_cases e : kd (T x) = 2
    · rw [xv_M2 e, xv_M2 (by rw [hk _ (hTU x hx)]; exact e), (hd _ (hTU x hx) (by omega)).2.1]
    · rw [xv_M0 e, xv_M0 (by rw [hk _ (hTU x hx)]; exact e)]
  refine yr_cv W h rfl (fun x hx => rfl) (fun x hx => hk _ (hTU x hx)) (fun x hx h0 => (hd _ (hTU x hx) h0).1) eM fun x hx k hk' => ?_
  have k2 := vw_k2 W (x := x) hx hk'
  have m3 := vw_M W (x := x) hx
  exact (hd _ (hTU x hx) (by rw [xv_K] at k2; omega)).2.2 k (by omega)
theorem xd_cv {U : Nat → Prop} {p kd mn pt p' kd' mn' pt' : Nat → Nat} (D : XD U p kd mn pt) (hp : ∀ x, U x → p' x = p x) (hk : ∀ x, U x → kd' x = kd x) (hd : ∀ x, U x → kd x ≠ 0 → mn' x = mn x ∧ ∀ k, k < 3 → pt' (3 * x + k) = pt (3 * x + k)) : XD U p' kd' mn' pt' := by
  intro x hx e
  rw [hp x hx] at e
  have d := D x hx e
  rw [hk x hx]
  refine ⟨d.1, fun z => ?_⟩
  have g := hd x hx (by omega)
  have d2 := d.2 z
  rw [g.1]
  exact ⟨d2.1, fun k hk => by rw [g.2 k (by omega)]; exact d2.2 k hk⟩
theorem fo_cv {U : Nat → Prop} {p p' T rk : Nat → Nat} (F : Fo U p T rk) (hp : ∀ x, U x → p' x = p x) : Fo U p' T rk := by
  intro x hx
  have h := F x hx
  rw [hp x hx, hp _ h.2.2.1]
  exact h
theorem core_ag {used roots asked : Int64} {p kd mn pt p' kd' mn' pt' : Nat → Nat} {val val' sd tx ty gx gy en nt nt' g : Nat → Int32} {N : Nat} (h : Core used roots asked p kd mn pt val sd tx ty gx gy en N nt g) (hp : ∀ x, uB used x → p' x = p x) (hk : ∀ x, uB used x → kd' x = kd x) (hd : ∀ x, uB used x → kd x ≠ 0 → val' x = val x ∧ mn' x = mn x ∧ ∀ k, k < 3 → pt' (3 * x + k) = pt (3 * x + k)) (hn : ∀ k, k < N → k < 60 → nt' k = nt k) : Core used roots asked p' kd' mn' pt' val' sd tx ty gx gy en N nt' g := by
  obtain ⟨⟨T, rk, id, F, D, Y⟩, b, t, q, e, n⟩ := h
  exact ⟨⟨T, rk, id, fo_cv F hp, xd_cv D hp hk (fun x hx h0 => (hd x hx h0).2), xv_cv F D hk hd Y⟩, b, t, q, e, n.1, fun k h1 h2 => by rw [hn k h1 h2]; exact n.2 k h1 h2⟩
/-- the trials -/
def Levs (L : Nat) (used : Int64) (p kd mn pt : Nat → Nat) (val : Nat → Int32) (tr : Nat → Nat) (tn N : Nat) (nt : Nat → Int32) (oU oR oA : Nat → Int64) (oS oX oY oGX oGY oE oT oN sv : Nat → Int32) : Prop := ∃ ot on : Nat → Nat, ∀ m, m < L → oT m = nI (ot m) ∧ oN m = nI (on m) ∧ ot m ≤ tn ∧ on m ≤ N ∧ (∀ x, uB (oU m) x → uB used x) ∧ (∀ m', m' ≤ m → ot m' ≤ ot m ∧ on m' ≤ on m ∧ ∀ x, uB (oU m') x → uB (oU m) x) ∧ Core (oU m) (oR m) (oA m) (uP tr (ot m) tn p) (uK tr (ot m) tn kd) mn pt val (fun k => oS (8 * m + k)) (fun k => oX (8 * m + k)) (fun k => oY (8 * m + k)) (fun k => oGX (8 * m + k)) (fun k => oGY (8 * m + k)) (fun k => oE (4 * m + k)) (on m) nt (fun i => sv (633 * m + i)) ∧ TrOK (uB (oU m)) (uP tr (ot m) tn p) (uK tr (ot m) tn kd) tr (ot m)
theorem lev_gen {L : Nat} {used used' : Int64} {p kd mn pt p' kd' mn' pt' tr tr' : Nat → Nat} {val val' nt nt' : Nat → Int32} {tn tn' N N' : Nat} {oU oR oA : Nat → Int64} {oS oX oY oGX oGY oE oT oN sv : Nat → Int32} (h : Levs L used p kd mn pt val tr tn N nt oU oR oA oS oX oY oGX oGY oE oT oN sv) (hu : ∀ x, uB used x → uB used' x) (ht : tn ≤ tn') (htr : ∀ j, j < tn → tr' j = tr j) (hN : N ≤ N') (hp : ∀ t, t ≤ tn → ∀ x, uB used x → uP tr' t tn' p' x = uP tr t tn p x) (hk : ∀ t, t ≤ tn → ∀ x, uB used x → uK tr' t tn' kd' x = uK tr t tn kd x) (hd : ∀ x, uB used x → kd x ≠ 0 → val' x = val x ∧ mn' x = mn x ∧ ∀ k, k < 3 → pt' (3 * x + k) = pt (3 * x + k)) (hn : ∀ k, k < N → k < 60 → nt' k = nt k) : Levs L used' p' kd' mn' pt' val' tr' tn' N' nt' oU oR oA oS oX oY oGX oGY oE oT oN sv := by
  obtain ⟨ot, on, h⟩ := h
  refine ⟨ot, on, fun m hm => ?_⟩
  obtain ⟨a, b, d, e, f, i, j, q⟩ := h m hm
  refine ⟨a, b, by omega, by omega, fun x hx => hu x (f x hx), i, core_ag j (fun x hx => hp _ d x (f x hx)) (fun x hx => hk _ d x (f x hx)) (fun x hx h0 => ?_) fun k h1 h2 => hn k (by omega) h2, ⟨fun j hj => ?_, fun i j hi hj => by rw [htr i (by omega), htr j (by omega)]; exact q.2 i j hi hj⟩⟩
  rotate_left
  · rw [htr j (by omega)]
    rcases q.1 j hj with ⟨q1, q2, q3⟩ | ⟨x, q1, q2, q3, q4⟩
    · exact Or.inl ⟨q1, q2, by rw [hp _ d _ (f _ q2)]; exact q3⟩
    · exact Or.inr ⟨x, q1, q2, q3, by rw [hk _ d _ (f _ q3)]; exact q4⟩
  refine hd x (f x hx) fun z => h0 ?_
  by_cases q : ∃ j, ot m ≤ j ∧ j < tn ∧ tr j = 100 + x
  · exact uK_t q
  · rw [uK_f q]; exact z
/-- the state between the steps of a call -/
def Mid (L : Nat) (used roots asked : Int64) (p kd mn pt : Nat → Nat) (val : Nat → Int32) (tr : Nat → Nat) (tn : Nat) (sd tx ty gx gy en : Nat → Int32) (N : Nat) (nt : Nat → Int32) (oU oR oA : Nat → Int64) (oS oX oY oGX oGY oE oT oN : Nat → Int32) (g sv : Nat → Int32) : Prop := Core used roots asked p kd mn pt val sd tx ty gx gy en N nt g ∧ TrOK (uB used) p kd tr tn ∧ Levs L used p kd mn pt val tr tn N nt oU oR oA oS oX oY oGX oGY oE oT oN sv
section
variable {f_used : Int64} {f_roots : Int64} {f_asked : Int64} {f_trailed : Int32} {f_bound : Int32} {f_pairs : Int32} {f_drafted : Int32} {f_noted : Int32} {f_trials : Int32} {f_mets : Int32} {f_classes : Int32} {a_up : Nat → Int32} {a_kind : Nat → Int32} {a_many : Nat → Int32} {a_parts : Nat → Int32} {a_value : Nat → Int32} {a_trail : Nat → Int32} {a_left : Nat → Int32} {a_right : Nat → Int32} {a_draft : Nat → Int32} {a_stands : Nat → Int32} {a_testX : Nat → Int32} {a_testY : Nat → Int32} {a_triggerX : Nat → Int32} {a_triggerY : Nat → Int32} {a_ends : Nat → Int32} {a_notes : Nat → Int32} {a_oldUsed : Nat → Int64} {a_oldRoots : Nat → Int64} {a_oldAsked : Nat → Int64} {a_oldStands : Nat → Int32} {a_oldTestX : Nat → Int32} {a_oldTestY : Nat → Int32} {a_oldTriggerX : Nat → Int32} {a_oldTriggerY : Nat → Int32} {a_oldEnds : Nat → Int32} {a_oldTrailed : Nat → Int32} {a_oldNoted : Nat → Int32} {a_met : Nat → Int32} {a_classOf : Nat → Int32} {a_finer : Nat → Int32} {a_image : Nat → Int32} {a_seen : Nat → Int32} {a_stack : Nat → Int32} {a_deep : Nat → Int32} {a_company : Nat → Int64} {a_greeted : Nat → Int64}
variable {p kd mn pt tr T rk : Nat → Nat} {tn : Nat} {U : Nat → Prop}
theorem xw_isFree {post : Int32 → Prop} (F : Fo U p T rk) {x : Nat} (hx : U x) (hk : kd (T x) < 2 ^ 31) (h1 : kd (T x) = 0 → post 1) (h0 : ¬ kd (T x) = 0 → post 0) : wpX_isFree post (f_used, f_roots, f_asked, nI tn, f_bound, f_pairs, f_drafted, f_noted, f_trials, f_mets, f_classes, nA p, nA kd, nA mn, nA pt, a_value, nA tr, a_left, a_right, a_draft, a_stands, a_testX, a_testY, a_triggerX, a_triggerY, a_ends, a_notes, a_oldUsed, a_oldRoots, a_oldAsked, a_oldStands, a_oldTestX, a_oldTestY, a_oldTriggerX, a_oldTriggerY, a_oldEnds, a_oldTrailed, a_oldNoted, a_met, a_classOf, a_finer, a_image, a_seen, a_stack, a_deep, a_company, a_greeted) (nI x) := by
  unfold wpX_isFree
  have hT := fo_lt F (fo_T F hx)
  refine xw_top F hx ⟨in_n hT, ?_⟩
  rw [cl_n (k := T x), nA_e]
  exact br_c (fun e => h1 (nI_inj (b := 0) e)) fun e => h0 fun z => e (by rw [z]; rfl)
/-- one more note -/
def ntX (nt : Nat → Int32) (N : Nat) (v : Int32) : Nat → Int32 := if 60 ≤ N then nt else upd nt N v
def ntY (s : Nat → Int32) (N : Nat) (v : Int32) : Nat → Int32 := upd (if 60 ≤ N then s else upd s (573 + N) v) 572 (nI (N + 1))
theorem xw_note {post : SX → Prop} {N v : Nat} (hN : N + 1 < 2 ^ 31) (hv : v < 128) (h : post (f_used, f_roots, f_asked, f_trailed, f_bound, f_pairs, f_drafted, nI (N + 1), f_trials, f_mets, f_classes, a_up, a_kind, a_many, a_parts, a_value, a_trail, a_left, a_right, a_draft, a_stands, a_testX, a_testY, a_triggerX, a_triggerY, a_ends, ntX a_notes N (nI v), a_oldUsed, a_oldRoots, a_oldAsked, a_oldStands, a_oldTestX, a_oldTestY, a_oldTriggerX, a_oldTriggerY, a_oldEnds, a_oldTrailed, a_oldNoted, a_met, a_classOf, a_finer, a_image, a_seen, a_stack, a_deep, a_company, a_greeted)) : wpX_note post (f_used, f_roots, f_asked, f_trailed, f_bound, f_pairs, f_drafted, nI N, f_trials, f_mets, f_classes, a_up, a_kind, a_many, a_parts, a_value, a_trail, a_left, a_right, a_draft, a_stands, a_testX, a_testY, a_triggerX, a_triggerY, a_ends, a_notes, a_oldUsed, a_oldRoots, a_oldAsked, a_oldStands, a_oldTestX, a_oldTestY, a_oldTriggerX, a_oldTriggerY, a_oldEnds, a_oldTrailed, a_oldNoted, a_met, a_classOf, a_finer, a_image, a_seen, a_stack, a_deep, a_company, a_greeted) (nI v) := by
  by_cases e : 60 ≤ N
  · refine wh_t (a := 60) (b := N) e (up1 ?_)
    rw [ntX, if_pos e] at h
    exact h
  · refine wh_f (a := 60) (b := N) (by omega) ⟨in_n (by omega), nmr (upd a_notes N (nI v)) ?_ (up1 ?_)⟩
    · rw [vb_2 hv, cl_n (k := N)]
    · rw [ntX, if_neg e] at h
      exact h
end
section
variable {f_trials : Int32} {f_drafted : Int32} {f_found : Int32} {a_s : Nat → Int32} {a_saved : Nat → Int32} {a_draft : Nat → Int32} {a_who : Nat → Int32} {a_met : Nat → Int32} {a_stack : Nat → Int32} {a_fresh : Nat → Int32} {a_deep : Nat → Int32} {a_alike : Nat → Int64} {a_meets : Nat → Int64}
theorem yw_note {post : SY → Prop} {N : Nat} {v : Int32} (hN : N + 1 < 2 ^ 31) (hs : a_s 572 = nI N) (h : post (f_trials, f_drafted, f_found, ntY a_s N v, a_saved, a_draft, a_who, a_met, a_stack, a_fresh, a_deep, a_alike, a_meets)) : wpY_note post (f_trials, f_drafted, f_found, a_s, a_saved, a_draft, a_who, a_met, a_stack, a_fresh, a_deep, a_alike, a_meets) v := by
  show (60 ≤ a_s 572 → _) ∧ _
  rw [hs]
  by_cases e : 60 ≤ N
  · refine wh_t (a := 60) (b := N) e (nmr (ntY a_s N v) ?_ h)
    rw [ntY, if_pos e, hs, nI_1]
  · refine wh_f (a := 60) (b := N) (by omega) ?_
    rw [aL_573, cl_n (k := 573 + N)]
    refine ⟨in_n (by omega), nm_e (nmr (ntY a_s N v) ?_ h)⟩
    rw [ntY, if_neg e, pk_un (by omega), hs, nI_1]
end
theorem ntY_lo {s : Nat → Int32} {N : Nat} {v : Int32} {i : Nat} (h : i < 572 ∨ 633 ≤ i) : ntY s N v i = s i := by
  rw [ntY, pk_un (by omega)]
  by_cases e : 60 ≤ N
  · rw [if_pos e]
  · rw [if_neg e, pk_un (by omega)]
theorem note_m {N : Nat} {nt g g' : Nat → Int32} {v : Int32} (h : MNote N nt g) (hg : ∀ i, 572 ≤ i → i < 633 → g' i = g i) : MNote (N + 1) (ntX nt N v) (ntY g' N v) := by
  refine ⟨?_, fun k h1 h2 => ?_⟩
  · rw [ntY, pk_us]
  · rw [ntY, pk_un (by omega), ntX]
    by_cases e : 60 ≤ N
    · rw [if_pos e, if_pos e, hg _ (by omega) (by omega)]
      exact h.2 k (by omega) h2
    · rw [if_neg e, if_neg e]
      by_cases z : k = N
      · rw [z, pk_us, pk_us]
      · rw [pk_un (by omega), pk_un z, hg _ (by omega) (by omega)]
        exact h.2 k (by omega) h2
theorem ntX_lo {nt : Nat → Int32} {N k : Nat} {v : Int32} (h : k < N) : ntX nt N v k = nt k := by
  rw [ntX]
  by_cases e : 60 ≤ N
  · rw [if_pos e]
  · rw [if_neg e, pk_un (by omega)]
end
section
/-! how two variables stand to each other; what is needed -/
section
variable {f_used : Int64} {f_roots : Int64} {f_asked : Int64} {f_trailed : Int32} {f_bound : Int32} {f_pairs : Int32} {f_drafted : Int32} {f_noted : Int32} {f_trials : Int32} {f_mets : Int32} {f_classes : Int32} {a_up : Nat → Int32} {a_kind : Nat → Int32} {a_many : Nat → Int32} {a_parts : Nat → Int32} {a_value : Nat → Int32} {a_trail : Nat → Int32} {a_left : Nat → Int32} {a_right : Nat → Int32} {a_draft : Nat → Int32} {a_stands : Nat → Int32} {a_testX : Nat → Int32} {a_testY : Nat → Int32} {a_triggerX : Nat → Int32} {a_triggerY : Nat → Int32} {a_ends : Nat → Int32} {a_notes : Nat → Int32} {a_oldUsed : Nat → Int64} {a_oldRoots : Nat → Int64} {a_oldAsked : Nat → Int64} {a_oldStands : Nat → Int32} {a_oldTestX : Nat → Int32} {a_oldTestY : Nat → Int32} {a_oldTriggerX : Nat → Int32} {a_oldTriggerY : Nat → Int32} {a_oldEnds : Nat → Int32} {a_oldTrailed : Nat → Int32} {a_oldNoted : Nat → Int32} {a_met : Nat → Int32} {a_classOf : Nat → Int32} {a_finer : Nat → Int32} {a_image : Nat → Int32} {a_seen : Nat → Int32} {a_stack : Nat → Int32} {a_deep : Nat → Int32} {a_company : Nat → Int64} {a_greeted : Nat → Int64}
variable {p kd mn pt tr T rk : Nat → Nat} {tn : Nat} {U : Nat → Prop}
theorem xw_relation {post : Int32 → SX → Prop} (F : Fo U p T rk) (D : XD U p kd mn pt) (E : TrOK U p kd tr tn) {x y : Nat} (hx : U x) (hy : U y)
    (h1 : ∀ b tr' al ar, Alike (xv U T kd mn pt a_value) x y → (∀ j, j < tn → tr' j = tr j) → post 1 (f_used, f_roots, f_asked, nI tn, b, 0, f_drafted, f_noted, f_trials, f_mets, f_classes, nA p, nA kd, nA mn, nA pt, a_value, nA tr', al, ar, a_draft, a_stands, a_testX, a_testY, a_triggerX, a_triggerY, a_ends, a_notes, a_oldUsed, a_oldRoots, a_oldAsked, a_oldStands, a_oldTestX, a_oldTestY, a_oldTriggerX, a_oldTriggerY, a_oldEnds, a_oldTrailed, a_oldNoted, a_met, a_classOf, a_finer, a_image, a_seen, a_stack, a_deep, a_company, a_greeted))
    (h2 : ∀ b tr' al ar, ¬ Alike (xv U T kd mn pt a_value) x y → Clash (xv U T kd mn pt a_value) (CC (xv U T kd mn pt a_value) (fun a b => a = x ∧ b = y)) → (∀ j, j < tn → tr' j = tr j) → post 2 (f_used, f_roots, f_asked, nI tn, b, 0, f_drafted, f_noted, f_trials, f_mets, f_classes, nA p, nA kd, nA mn, nA pt, a_value, nA tr', al, ar, a_draft, a_stands, a_testX, a_testY, a_triggerX, a_triggerY, a_ends, a_notes, a_oldUsed, a_oldRoots, a_oldAsked, a_oldStands, a_oldTestX, a_oldTestY, a_oldTriggerX, a_oldTriggerY, a_oldEnds, a_oldTrailed, a_oldNoted, a_met, a_classOf, a_finer, a_image, a_seen, a_stack, a_deep, a_company, a_greeted))
    (h3 : ∀ b tr' al ar, ¬ Alike (xv U T kd mn pt a_value) x y → ¬ Clash (xv U T kd mn pt a_value) (CC (xv U T kd mn pt a_value) (fun a b => a = x ∧ b = y)) → (∀ j, j < tn → tr' j = tr j) → post 3 (f_used, f_roots, f_asked, nI tn, b, 0, f_drafted, f_noted, f_trials, f_mets, f_classes, nA p, nA kd, nA mn, nA pt, a_value, nA tr', al, ar, a_draft, a_stands, a_testX, a_testY, a_triggerX, a_triggerY, a_ends, a_notes, a_oldUsed, a_oldRoots, a_oldAsked, a_oldStands, a_oldTestX, a_oldTestY, a_oldTriggerX, a_oldTriggerY, a_oldEnds, a_oldTrailed, a_oldNoted, a_met, a_classOf, a_finer, a_image, a_seen, a_stack, a_deep, a_company, a_greeted)) : wpX_relation post (f_used, f_roots, f_asked, nI tn, f_bound, 0, f_drafted, f_noted, f_trials, f_mets, f_classes, nA p, nA kd, nA mn, nA pt, a_value, nA tr, a_left, a_right, a_draft, a_stands, a_testX, a_testY, a_triggerX, a_triggerY, a_ends, a_notes, a_oldUsed, a_oldRoots, a_oldAsked, a_oldStands, a_oldTestX, a_oldTestY, a_oldTriggerX, a_oldTriggerY, a_oldEnds, a_oldTrailed, a_oldNoted, a_met, a_classOf, a_finer, a_image, a_seen, a_stack, a_deep, a_company, a_greeted) (nI x) (nI y) := by
  have W : VW (xv U T kd mn pt a_value) := xv_W F D
  unfold wpX_relation
  refine xw_pair (np := 0) (by decide) (fo_lt F hx) (fo_lt F hy) ?_
  refine xw_join (np := 1) (lf := fun _ => x) (rt := fun _ => y) (S := fun a b => a = x ∧ b = y) F D (fun i hi => ?_) (fun i hi => ?_) (by decide) (fun i hi => ⟨hx, hy⟩) (fun a d => ?_) E ?_ ?_
  · rw [show i = 0 by omega]; exact pk_us
  · rw [show i = 0 by omega]; exact pk_us
  · exact ⟨fun ⟨e1, e2⟩ => ⟨0, by decide, e1.symm, e2.symm⟩, fun ⟨_, _, e1, e2⟩ => ⟨e1.symm, e2.symm⟩⟩
  · intro b q Tc rkc tr' tn' al ar lf rt Fq J Ex
    refine xw_back Ex.2.2.2.2 Ex.1 (br_f (by decide) ?_)
    rw [Ex.2.2.1, Ex.2.2.2.1]
    have hsol := ji_sol W (S := fun a b => a = x ∧ b = y) (Tc := Tc) (fun a d h => ⟨h.1 ▸ hx, h.2 ▸ hy⟩) (fun z hz => ⟨fo_T Fq hz, fo_TT Fq hz⟩) J
    obtain ⟨j1, j2, j3, j4, j5, j6, j7, j8⟩ := J
    have exy : Tc x = Tc y := (hsol.1 x y hx hy).2 (cc_S ⟨rfl, rfl⟩)
    by_cases hb : b = 0
    · refine br_t hb (h1 b tr' al ar ?_ Ex.2.1)
      have hss : ∀ z w, U z → U w → Tc z = Tc w → cK (xv U T kd mn pt a_value) z ≠ 0 → cK (xv U T kd mn pt a_value) w ≠ 0 → Same (xv U T kd mn pt a_value) z w ∧ ∀ k, k < cM (xv U T kd mn pt a_value) z → Tc (cP (xv U T kd mn pt a_value) z k) = Tc (cP (xv U T kd mn pt a_value) w k) := by
        intro z w hz hw e kz kw
        have a := hsol.2.2.2 z hz kz
        have d := hsol.2.2.2 w hw kw
        rw [e] at a
        have s1 := same_t (same_s a.1) d.1
        exact ⟨s1, fun k hk => (a.2 k hk).symm.trans (d.2 k (by rw [← s1.2.2]; exact hk))⟩
      refine al_of W (t := Tc) (fun z w hz hw e => ?_) (fun z w hz hw e k hk => ?_) hx hy exy
      · rcases j7 hb z w hz hw e with q | ⟨q1, q2⟩
        · exact Or.inl q
        · exact Or.inr ⟨q1, (hss z w hz hw e q1 q2).1⟩
      · rcases j7 hb z w hz hw e with q | ⟨q1, q2⟩
        · rw [vw_eP W hz hw q k]
        · exact (hss z w hz hw e q1 q2).2 k hk
    · refine br_f hb (h3 b tr' al ar ?_ hsol.2.1 Ex.2.1)
      intro hA
      rcases j8 hb with z | ⟨z, w, hz, hw, e, k0, ne⟩
      · exact z rfl
      · rcases al_cc W (S := fun a b => a = x ∧ b = y) (fun a d h => by rw [h.1, h.2]; exact hA) (j2 z w hz hw e) with q | q
        · exact ne (by rw [q])
        · exact ne (al_free q k0)
  · intro b q tr' tn' al ar np hC Ex
    refine xw_back Ex.2.2.2.2 Ex.1 (br_t rfl ?_)
    rw [Ex.2.2.1, Ex.2.2.2.1]
    refine h2 b tr' al ar (fun hA => ?_) hC Ex.2.1
    exact al_ncl W (S := fun a b => a = x ∧ b = y) (fun a d h => by rw [h.1, h.2]; exact hA) hC
end
/-- whether a variable is needed -/
def Need (T : Nat → Nat) (asked : Int64) (sd tx ty : Nat → Int32) (x : Nat) : Prop := (∃ k, uB asked k ∧ T k = T x) ∨ ∃ t y, t < 8 ∧ sd t = 3 ∧ ty t < 0 ∧ y < 48 ∧ tx t = nI y ∧ T y = T x
section
variable {f_used : Int64} {f_roots : Int64} {f_asked : Int64} {f_trailed : Int32} {f_bound : Int32} {f_pairs : Int32} {f_drafted : Int32} {f_noted : Int32} {f_trials : Int32} {f_mets : Int32} {f_classes : Int32} {a_up : Nat → Int32} {a_kind : Nat → Int32} {a_many : Nat → Int32} {a_parts : Nat → Int32} {a_value : Nat → Int32} {a_trail : Nat → Int32} {a_left : Nat → Int32} {a_right : Nat → Int32} {a_draft : Nat → Int32} {a_stands : Nat → Int32} {a_testX : Nat → Int32} {a_testY : Nat → Int32} {a_triggerX : Nat → Int32} {a_triggerY : Nat → Int32} {a_ends : Nat → Int32} {a_notes : Nat → Int32} {a_oldUsed : Nat → Int64} {a_oldRoots : Nat → Int64} {a_oldAsked : Nat → Int64} {a_oldStands : Nat → Int32} {a_oldTestX : Nat → Int32} {a_oldTestY : Nat → Int32} {a_oldTriggerX : Nat → Int32} {a_oldTriggerY : Nat → Int32} {a_oldEnds : Nat → Int32} {a_oldTrailed : Nat → Int32} {a_oldNoted : Nat → Int32} {a_met : Nat → Int32} {a_classOf : Nat → Int32} {a_finer : Nat → Int32} {a_image : Nat → Int32} {a_seen : Nat → Int32} {a_stack : Nat → Int32} {a_deep : Nat → Int32} {a_company : Nat → Int64} {a_greeted : Nat → Int64}
variable {p kd mn pt tr T rk : Nat → Nat} {tn : Nat} {U : Nat → Prop}
theorem xw_need51 {post : Int32 → Prop} {x : Nat} (F : Fo U p T rk) (hx : U x) (ht : ∀ k, k < 8 → a_stands k = 3 → ∃ y, a_testX k = nI y ∧ U y) (hn : ¬ ∃ k, uB f_asked k ∧ T k = T x) (h1 : Need T f_asked a_stands a_testX a_testY x → post 1) (h0 : ¬ Need T f_asked a_stands a_testX a_testY x → post 0) : ∀ n i, i ≤ 8 → 8 - i < n → (∀ t y, t < i → a_stands t = 3 → a_testY t < 0 → y < 48 → a_testX t = nI y → ¬ T y = T x) → wX_isNeeded_51 post (nI (T x)) f_used f_roots f_asked f_trailed f_bound f_pairs f_drafted f_noted f_trials f_mets f_classes (nA p) a_kind a_many a_parts a_value a_trail a_left a_right a_draft a_stands a_testX a_testY a_triggerX a_triggerY a_ends a_notes a_oldUsed a_oldRoots a_oldAsked a_oldStands a_oldTestX a_oldTestY a_oldTriggerX a_oldTriggerY a_oldEnds a_oldTrailed a_oldNoted a_met a_classOf a_finer a_image a_seen a_stack a_deep a_company a_greeted n (nI i) := by
  intro n
  induction n with
  | zero => intro i _ h; omega
  | succ n ih =>
    intro i hi hn' hl
    by_cases e : i = 8
    · subst e
      refine wh_t (a := 8) (b := 8) (by omega) (h0 fun z => ?_)
      rcases z with z | ⟨t, y, z1, z2, z3, z0, z4, z5⟩
      · exact hn z
      · exact hl t y z1 z2 z3 z0 z4 z5
    · refine wh_f (a := 8) (b := i) (by omega) ?_
      rw [cl_n (k := i)]
      have next : (∀ y, a_stands i = 3 → a_testY i < 0 → y < 48 → a_testX i = nI y → ¬ T y = T x) → wX_isNeeded_51 post (nI (T x)) f_used f_roots f_asked f_trailed f_bound f_pairs f_drafted f_noted f_trials f_mets f_classes (nA p) a_kind a_many a_parts a_value a_trail a_left a_right a_draft a_stands a_testX a_testY a_triggerX a_triggerY a_ends a_notes a_oldUsed a_oldRoots a_oldAsked a_oldStands a_oldTestX a_oldTestY a_oldTriggerX a_oldTriggerY a_oldEnds a_oldTrailed a_oldNoted a_met a_classOf a_finer a_image a_seen a_stack a_deep a_company a_greeted n (nI (i + 1)) := by
        intro q
        refine ih (i + 1) (by omega) (by omega) fun t y h => ?_
        by_cases z : t = i
        · rw [z]; exact q y
        · exact hl t y (by omega)
      refine ⟨in_n (by omega), br_c (fun z1 => ⟨in_n (by omega), br_c (fun z2 => up1 (next fun y _ q => absurd q (Int32.not_lt.mpr z2))) fun z2 => ⟨in_n (by omega), ?_⟩⟩) fun z1 => up1 (next fun y q => absurd q z1)⟩
      obtain ⟨y, ey, hy⟩ := ht i (by omega) z1
      rw [ey]
      have ly := fo_lt F (fo_T F hy)
      have lx := fo_lt F (fo_T F hx)
      have l48 := fo_lt F hy
      refine xw_top F hy (br_c (fun z3 => h1 (Or.inr ⟨i, y, by omega, z1, Int32.not_le.mp z2, l48, ey, nI_inj z3⟩)) fun z3 => up1 (next fun y' _ _ ly' ey' q => z3 ?_))
      have : y = y' := nI_inj (ey.symm.trans ey')
      rw [this, q]
theorem xw_need11 {post : Int32 → Prop} {x : Nat} (F : Fo U p T rk) (hx : U x) (hA : ∀ k, uB f_asked k → U k) (ht : ∀ k, k < 8 → a_stands k = 3 → ∃ y, a_testX k = nI y ∧ U y) (h1 : Need T f_asked a_stands a_testX a_testY x → post 1) (h0 : ¬ Need T f_asked a_stands a_testX a_testY x → post 0) : ∀ c n w, pc w = c → c < n → (∀ k, bL w k = true → bL f_asked k = true) → (∀ k, uB f_asked k → T k = T x → bL w k = true) → wX_isNeeded_11 post (nI (T x)) f_used f_roots f_asked f_trailed f_bound f_pairs f_drafted f_noted f_trials f_mets f_classes (nA p) a_kind a_many a_parts a_value a_trail a_left a_right a_draft a_stands a_testX a_testY a_triggerX a_triggerY a_ends a_notes a_oldUsed a_oldRoots a_oldAsked a_oldStands a_oldTestX a_oldTestY a_oldTriggerX a_oldTriggerY a_oldEnds a_oldTrailed a_oldNoted a_met a_classOf a_finer a_image a_seen a_stack a_deep a_company a_greeted n w := by
  intro c
  induction c with
  | zero =>
    intro n w hw hn hs hl
    obtain ⟨n, rfl⟩ : ∃ m, n = m + 1 := ⟨n - 1, by omega⟩
    have : w = 0 := by
      by_cases e : w = 0
      · exact e
      · obtain ⟨l, hl⟩ := low_ex e
        rw [pc_clr hl] at hw; omega
    refine br_t this (Exists.intro 9 (xw_need51 F hx ht ?_ h1 h0 9 0 (by omega) (by omega) fun t y h => absurd h (by omega)))
    intro ⟨k, a, b⟩
    have := hl k a b
    subst w
    rw [bL_0] at this
    exact absurd this (by decide)
  | succ c ih =>
    intro n w hw hn hs hl
    obtain ⟨n, rfl⟩ : ∃ m, n = m + 1 := ⟨n - 1, by omega⟩
    have e : ¬ w = 0 := fun z => by rw [z, pc_0] at hw; omega
    obtain ⟨l, hlow⟩ := low_ex e
    rw [pc_clr hlow] at hw
    have al : uB f_asked l := hs l hlow.2.1
    have lU := hA l al
    have ll := fo_lt F (fo_T F lU)
    have lx := fo_lt F (fo_T F hx)
    refine br_f e (xw_low hlow (xw_top F lU (br_c (fun z => h1 (Or.inl ⟨l, al, nI_inj z⟩)) fun z => nm_e (ih n _ (by omega) (by omega) (fun k hk => ?_) fun k hk ek => ?_))))
    · rw [low_clr hlow, Bool.and_eq_true] at hk
      exact hs k hk.1
    · rw [low_clr hlow, hl k hk ek, decide_eq_false]
      · rfl
      · intro q; rw [q] at ek; exact z (by rw [ek])
theorem xw_isNeeded {post : Int32 → Prop} {x : Nat} (F : Fo U p T rk) (hx : U x) (hA : ∀ k, uB f_asked k → U k) (ht : ∀ k, k < 8 → a_stands k = 3 → ∃ y, a_testX k = nI y ∧ U y) (h1 : Need T f_asked a_stands a_testX a_testY x → post 1) (h0 : ¬ Need T f_asked a_stands a_testX a_testY x → post 0) : wpX_isNeeded post (f_used, f_roots, f_asked, f_trailed, f_bound, f_pairs, f_drafted, f_noted, f_trials, f_mets, f_classes, nA p, a_kind, a_many, a_parts, a_value, a_trail, a_left, a_right, a_draft, a_stands, a_testX, a_testY, a_triggerX, a_triggerY, a_ends, a_notes, a_oldUsed, a_oldRoots, a_oldAsked, a_oldStands, a_oldTestX, a_oldTestY, a_oldTriggerX, a_oldTriggerY, a_oldEnds, a_oldTrailed, a_oldNoted, a_met, a_classOf, a_finer, a_image, a_seen, a_stack, a_deep, a_company, a_greeted) (nI x) := by
  unfold wpX_isNeeded
  exact xw_top F hx (Exists.intro (pc f_asked + 1) (xw_need11 F hx hA ht h1 h0 _ _ _ rfl (by omega) (fun _ h => h) fun _ h _ => h))
end
section
variable {f_trials : Int32} {f_drafted : Int32} {f_found : Int32} {a_s : Nat → Int32} {a_saved : Nat → Int32} {a_draft : Nat → Int32} {a_who : Nat → Int32} {a_met : Nat → Int32} {a_stack : Nat → Int32} {a_fresh : Nat → Int32} {a_deep : Nat → Int32} {a_alike : Nat → Int64} {a_meets : Nat → Int64}
variable {c : Vw} {id : Nat → Nat} {used asked : Int64} {sd tx ty : Nat → Int32}
theorem yw_need51 {post : Int32 → Prop} {x : Nat} (W : VW c) (hY : YR c id a_s) (hx : cU c x) (hcU : cU c = uB used) (ht : MTest used sd tx ty a_s) (hn : ¬ ∃ k, uB asked k ∧ cT c k = cT c x) (h1 : Need (cT c) asked sd tx ty x → post 1) (h0 : ¬ Need (cT c) asked sd tx ty x → post 0) : ∀ n i, i ≤ 8 → 8 - i < n → (∀ t y, t < i → sd t = 3 → ty t < 0 → y < 48 → tx t = nI y → ¬ cT c y = cT c x) → wY_isNeeded_51 post (nI x) f_trials f_drafted f_found a_s a_saved a_draft a_who a_met a_stack a_fresh a_deep a_alike a_meets n (nI i) := by
  intro n
  induction n with
  | zero => intro i _ h; omega
  | succ n ih =>
    intro i hi hn' hl
    have hx48 := vw_lt W hx
    by_cases e : i = 8
    · subst e
      refine wh_t (a := 8) (b := 8) (by omega) (h0 fun z => ?_)
      rcases z with z | ⟨t, y, z1, z2, z3, z0, z4, z5⟩
      · exact hn z
      · exact hl t y z1 z2 z3 z0 z4 z5
    · obtain ⟨g1, g2, g3, _, _, _, g4⟩ := ht i (by omega)
      refine wh_f (a := 8) (b := i) (by omega) ?_
      rw [aL_544, aL_536, aL_528, aL_0, cl_n (k := 544 + i), cl_n (k := 536 + i), cl_n (k := 528 + i), cl_n (k := x), g1, g2, g3]
      have next : (∀ y, sd i = 3 → ty i < 0 → y < 48 → tx i = nI y → ¬ cT c y = cT c x) → wY_isNeeded_51 post (nI x) f_trials f_drafted f_found a_s a_saved a_draft a_who a_met a_stack a_fresh a_deep a_alike a_meets n (nI (i + 1)) := by
        intro q
        refine ih (i + 1) (by omega) (by omega) fun t y h => ?_
        by_cases z : t = i
        · rw [z]; exact q y
        · exact hl t y (by omega)
      refine ⟨in_n (by omega), br_c (fun z1 => ⟨in_n (by omega), br_c (fun z2 => up1 (next fun y _ q => absurd q (Int32.not_lt.mpr z2))) fun z2 => ⟨in_n (by omega), ?_⟩⟩) fun z1 => up1 (next fun y q => absurd q z1)⟩
      obtain ⟨y, ey, hy⟩ := (g4 z1).1
      rw [← hcU] at hy
      have ly := vw_lt W hy
      have l1 := (hY.1 y ly).2
      have l2 := (hY.1 x hx48).2
      rw [ey, aL_0, cl_n (k := y), (hY.1 y ly).1, (hY.1 x hx48).1]
      have hid := hY.2.2.2.1 y x hy hx
      refine ⟨in_n (by omega), in_n (by omega), br_c (fun z3 => h1 (Or.inr ⟨i, y, by omega, z1, Int32.not_le.mp z2, ly, ey, hid.1 (nI_inj z3)⟩)) fun z3 => up1 (next fun y' _ _ ly' ey' q => z3 ?_)⟩
      have : y = y' := nI_inj (ey.symm.trans ey')
      rw [hid.2 (by rw [this]; exact q)]
theorem yw_need2 {post : Int32 → Prop} {x : Nat} (W : VW c) (hY : YR c id a_s) (hx : cU c x) (hcU : cU c = uB used) (hA : ∀ k, uB asked k → uB used k) (hA2 : ∀ k, k < 48 → a_s (480 + k) = nI (b01 (bL asked k))) (ht : MTest used sd tx ty a_s) (h1 : Need (cT c) asked sd tx ty x → post 1) (h0 : ¬ Need (cT c) asked sd tx ty x → post 0) : ∀ n i, i ≤ 48 → 48 - i < n → (∀ k, k < i → uB asked k → ¬ cT c k = cT c x) → wY_isNeeded_2 post (nI x) f_trials f_drafted f_found a_s a_saved a_draft a_who a_met a_stack a_fresh a_deep a_alike a_meets n (nI i) := by
  intro n
  induction n with
  | zero => intro i _ h; omega
  | succ n ih =>
    intro i hi hn' hl
    have hx48 := vw_lt W hx
    by_cases e : i = 48
    · subst e
      refine wh_t (a := 48) (b := 48) (by omega) (Exists.intro 9 (yw_need51 W hY hx hcU ht ?_ h1 h0 9 0 (by omega) (by omega) fun t y h => absurd h (by omega)))
      intro ⟨k, a, b⟩
      exact hl k (vw_lt W (by rw [hcU]; exact hA k a)) a b
    · have hi' : i < 48 := by omega
      have l1 := (hY.1 i hi').2
      have l2 := (hY.1 x hx48).2
      refine wh_f (a := 48) (b := i) (by omega) ?_
      rw [aL_0, aL_0, aL_480, cl_n (k := i), cl_n (k := x), cl_n (k := 480 + i), (hY.1 i hi').1, (hY.1 x hx48).1, hA2 i hi']
      have next : (uB asked i → ¬ cT c i = cT c x) → wY_isNeeded_2 post (nI x) f_trials f_drafted f_found a_s a_saved a_draft a_who a_met a_stack a_fresh a_deep a_alike a_meets n (nI (i + 1)) := by
        intro q
        refine ih (i + 1) (by omega) (by omega) fun k hk => ?_
        by_cases z : k = i
        · rw [z]; exact q
        · exact hl k (by omega)
      refine ⟨in_n (by omega), in_n (by omega), br_c (fun z1 => ⟨in_n (by omega), ?_⟩) fun z1 => up1 (next fun a q => z1 ?_)⟩
      · by_cases a : bL asked i = true
        · refine br_t (by rw [b01_t a]; rfl) (h1 (Or.inl ⟨i, a, ?_⟩))
          exact (hY.2.2.2.1 i x (by rw [hcU]; exact hA i a) hx).1 (nI_inj z1)
        · refine br_f (by rw [b01_f (ts_nt a)]; decide) (up1 (next fun q => absurd q a))
      · have := (hY.2.2.2.1 i x (by rw [hcU]; exact hA i a) hx).2 q
        rw [this]
theorem yw_isNeeded {post : Int32 → Prop} {x : Nat} (W : VW c) (hY : YR c id a_s) (hx : cU c x) (hcU : cU c = uB used) (hA : ∀ k, uB asked k → uB used k) (hA2 : ∀ k, k < 48 → a_s (480 + k) = nI (b01 (bL asked k))) (ht : MTest used sd tx ty a_s) (h1 : Need (cT c) asked sd tx ty x → post 1) (h0 : ¬ Need (cT c) asked sd tx ty x → post 0) : wpY_isNeeded post (f_trials, f_drafted, f_found, a_s, a_saved, a_draft, a_who, a_met, a_stack, a_fresh, a_deep, a_alike, a_meets) (nI x) := Exists.intro 49 (yw_need2 W hY hx hcU hA hA2 ht h1 h0 49 0 (by omega) (by omega) fun k h => absurd h (by omega))
end
end
section
/-! the reference's walks are determined: an outcome can be named ahead of what is asked of it -/
def Det {α : Type} (W : (α → Prop) → Prop) : Prop := ∀ post, W post → ∃ a, post a ∧ ∀ post' : α → Prop, post' a → W post'
section
variable {α β γ : Type}
theorem dt_f : Det (fun _ : α → Prop => False) := fun _ h => h.elim
theorem dt_p (a : α) : Det (fun post : α → Prop => post a) := fun _ h => ⟨a, h, fun _ h => h⟩
theorem dt_br {c : Prop} {A B : (α → Prop) → Prop} (a : Det A) (b : Det B) : Det (fun post => (c → A post) ∧ (¬ c → B post)) := by
  intro post h
  by_cases e : c
  · obtain ⟨o, h1, h2⟩ := a post (h.1 e)
    exact ⟨o, h1, fun q hq => ⟨fun _ => h2 q hq, fun z => absurd e z⟩⟩
  · obtain ⟨o, h1, h2⟩ := b post (h.2 e)
    exact ⟨o, h1, fun q hq => ⟨fun z => absurd z e, fun _ => h2 q hq⟩⟩
theorem dt_nm {e : β} {A : β → (α → Prop) → Prop} (a : Det (A e)) : Det (fun post => ∀ y, y = e → A y post) := by
  intro post h
  obtain ⟨o, h1, h2⟩ := a post (h e rfl)
  exact ⟨o, h1, fun q hq y hy => by rw [hy]; exact h2 q hq⟩
theorem dt_and {P : Prop} {A : (α → Prop) → Prop} (a : Det A) : Det (fun post => P ∧ A post) := by
  intro post h
  obtain ⟨o, h1, h2⟩ := a post h.2
  exact ⟨o, h1, fun q hq => ⟨h.1, h2 q hq⟩⟩
theorem dt_ex {A : Nat → (α → Prop) → Prop} (a : ∀ n, Det (A n)) : Det (fun post => ∃ n, A n post) := by
  intro post ⟨n, h⟩
  obtain ⟨o, h1, h2⟩ := a n post h
  exact ⟨o, h1, fun q hq => ⟨n, h2 q hq⟩⟩
theorem dt_call {V : (β → Prop) → Prop} (w : Det V) {A : β → (α → Prop) → Prop} (a : ∀ b, Det (A b)) : Det (fun post => V (fun b => A b post)) := by
  intro post h
  obtain ⟨o, h1, h2⟩ := w _ h
  obtain ⟨o', h3, h4⟩ := a o post h1
  exact ⟨o', h3, fun q hq => h2 _ (h4 q hq)⟩
theorem dt_call2 {V : (β → γ → Prop) → Prop} (w : Det (fun post : β × γ → Prop => V (fun b c => post (b, c)))) {A : β → γ → (α → Prop) → Prop} (a : ∀ b c, Det (A b c)) : Det (fun post => V (fun b c => A b c post)) := by
  intro post h
  obtain ⟨o, h1, h2⟩ := w (fun o => A o.1 o.2 post) h
  obtain ⟨o', h3, h4⟩ := a o.1 o.2 post h1
  exact ⟨o', h3, fun q hq => h2 (fun o => A o.1 o.2 q) (h4 q hq)⟩
end
theorem d_wY_join_39 (x1 : Int32) (x4 : Int32) (x5 : Int32) (x6 : Int32) (f_trials : Int32) (f_drafted : Int32) (f_found : Int32) : ∀ (n : Nat) (x7 : Int32) (a_s : (Nat → Int32)) (a_saved : (Nat → Int32)) (a_draft : (Nat → Int32)) (a_who : (Nat → Int32)) (a_met : (Nat → Int32)) (a_stack : (Nat → Int32)) (a_fresh : (Nat → Int32)) (a_deep : (Nat → Int32)) (a_alike : (Nat → Int64)) (a_meets : (Nat → Int64)), Det (fun post : SY → Prop => wY_join_39 post x1 x4 x5 x6 f_trials f_drafted f_found n x7 a_s a_saved a_draft a_who a_met a_stack a_fresh a_deep a_alike a_meets) := by
  intro n
  induction n with
  | zero => intros; exact dt_f
  | succ n ih =>
    intro x7 a_s a_saved a_draft a_who a_met a_stack a_fresh a_deep a_alike a_meets
    refine dt_br ?_ ?_
    · exact dt_p _
    · refine dt_and ?_
      refine dt_br ?_ ?_
      · refine dt_and ?_
        refine dt_nm ?_
        refine dt_nm ?_
        apply ih
      · refine dt_and ?_
        refine dt_br ?_ ?_
        · refine dt_and ?_
          refine dt_nm ?_
          refine dt_nm ?_
          apply ih
        · refine dt_nm ?_
          apply ih
theorem d_wpY_join (u : SY) (p0 : Int32) (p1 : Int32) (p2 : Int32) : Det (fun post : SY → Prop => wpY_join post u p0 p1 p2) := by
  obtain ⟨_, _, _, _, _, _, _, _, _, _, _, _, _⟩ := u
  unfold wpY_join
  refine dt_and ?_
  refine dt_nm ?_
  refine dt_and ?_
  refine dt_nm ?_
  refine dt_br ?_ ?_
  · refine dt_ex ?_
    intro _
    apply d_wY_join_39
  · refine dt_ex ?_
    intro _
    apply d_wY_join_39
theorem d_wpY_isOther (u : SY) (p0 : Int32) (p1 : Int32) : Det (fun post : Int32 → Prop => wpY_isOther post u p0 p1) := by
  obtain ⟨_, _, _, _, _, _, _, _, _, _, _, _, _⟩ := u
  unfold wpY_isOther
  refine dt_and ?_
  refine dt_and ?_
  refine dt_br ?_ ?_
  · refine dt_and ?_
    refine dt_and ?_
    refine dt_br ?_ ?_
    · refine dt_and ?_
      refine dt_and ?_
      refine dt_br ?_ ?_
      · refine dt_and ?_
        refine dt_and ?_
        refine dt_br ?_ ?_
        · exact dt_p _
        · exact dt_p _
      · exact dt_p _
    · exact dt_p _
  · exact dt_p _
theorem d_wY_bound_3 (f_trials : Int32) (f_drafted : Int32) (f_found : Int32) (a_s : Nat → Int32) (a_saved : Nat → Int32) (a_draft : Nat → Int32) (a_who : Nat → Int32) (a_met : Nat → Int32) (a_stack : Nat → Int32) (a_fresh : Nat → Int32) (a_deep : Nat → Int32) (a_alike : Nat → Int64) (a_meets : Nat → Int64) : ∀ (n : Nat) (x1 : Int32), Det (fun post : Int32 → Prop => wY_bound_3 post f_trials f_drafted f_found a_s a_saved a_draft a_who a_met a_stack a_fresh a_deep a_alike a_meets n x1) := by
  intro n
  induction n with
  | zero => intros; exact dt_f
  | succ n ih =>
    intro x1
    refine dt_br ?_ ?_
    · exact dt_p _
    · refine dt_and ?_
      refine dt_br ?_ ?_
      · refine dt_nm ?_
        apply ih
      · exact dt_p _
theorem d_wpY_bound (u : SY) : Det (fun post : Int32 → Prop => wpY_bound post u) := by
  obtain ⟨_, _, _, _, _, _, _, _, _, _, _, _, _⟩ := u
  unfold wpY_bound
  refine dt_ex ?_
  intro _
  apply d_wY_bound_3
theorem d_wY_joinParts_6 (x1 : Int32) (x2 : Int32) (x3 : Int32) : ∀ (n : Nat) (x4 : Int32) (x5 : Int32) (f_trials : Int32) (f_drafted : Int32) (f_found : Int32) (a_s : (Nat → Int32)) (a_saved : (Nat → Int32)) (a_draft : (Nat → Int32)) (a_who : (Nat → Int32)) (a_met : (Nat → Int32)) (a_stack : (Nat → Int32)) (a_fresh : (Nat → Int32)) (a_deep : (Nat → Int32)) (a_alike : (Nat → Int64)) (a_meets : (Nat → Int64)), Det (fun post : Int32 × SY → Prop => wY_joinParts_6 (fun r u => post (r, u)) x1 x2 x3 n x4 x5 f_trials f_drafted f_found a_s a_saved a_draft a_who a_met a_stack a_fresh a_deep a_alike a_meets) := by
  intro n
  induction n with
  | zero => intros; exact dt_f
  | succ n ih =>
    intro x4 x5 f_trials f_drafted f_found a_s a_saved a_draft a_who a_met a_stack a_fresh a_deep a_alike a_meets
    refine dt_and ?_
    refine dt_br ?_ ?_
    · refine dt_and ?_
      exact dt_p _
    · refine dt_and ?_
      refine dt_nm ?_
      refine dt_and ?_
      refine dt_nm ?_
      refine dt_and ?_
      refine dt_and ?_
      refine dt_br ?_ ?_
      · refine dt_nm ?_
        apply ih
      · refine dt_call (d_wpY_join _ _ _ _) ?_
        rintro ⟨_, _, _, _, _, _, _, _, _, _, _, _, _⟩
        refine dt_nm ?_
        apply ih
theorem d_wpY_joinParts (u : SY) (p0 : Int32) (p1 : Int32) (p2 : Int32) : Det (fun post : Int32 × SY → Prop => wpY_joinParts (fun r u => post (r, u)) u p0 p1 p2) := by
  obtain ⟨_, _, _, _, _, _, _, _, _, _, _, _, _⟩ := u
  unfold wpY_joinParts
  refine dt_ex ?_
  intro _
  apply d_wY_joinParts_6
theorem d_wY_close_16 {J7 : (Int32 × SY → Prop) → Int32 → Int32 → Int32 → Int32 → (Nat → Int32) → (Nat → Int32) → (Nat → Int32) → (Nat → Int32) → (Nat → Int32) → (Nat → Int32) → (Nat → Int32) → (Nat → Int32) → (Nat → Int64) → (Nat → Int64) → Prop} (hJ7 : ∀ z0 z1 z2 z3 z4 z5 z6 z7 z8 z9 z10 z11 z12 z13, Det (fun post : Int32 × SY → Prop => J7 post z0 z1 z2 z3 z4 z5 z6 z7 z8 z9 z10 z11 z12 z13)) (x1 : Int32) (x2 : Int32) : ∀ (n : Nat) (x3 : Int32) (x4 : Int32) (f_trials : Int32) (f_drafted : Int32) (f_found : Int32) (a_s : (Nat → Int32)) (a_saved : (Nat → Int32)) (a_draft : (Nat → Int32)) (a_who : (Nat → Int32)) (a_met : (Nat → Int32)) (a_stack : (Nat → Int32)) (a_fresh : (Nat → Int32)) (a_deep : (Nat → Int32)) (a_alike : (Nat → Int64)) (a_meets : (Nat → Int64)), Det (fun post : Int32 × SY → Prop => wY_close_16 (fun r u => post (r, u)) (J7 post) x1 x2 n x3 x4 f_trials f_drafted f_found a_s a_saved a_draft a_who a_met a_stack a_fresh a_deep a_alike a_meets) := by
  intro n
  induction n with
  | zero => intros; exact dt_f
  | succ n ih =>
    intro x3 x4 f_trials f_drafted f_found a_s a_saved a_draft a_who a_met a_stack a_fresh a_deep a_alike a_meets
    refine dt_br ?_ ?_
    · apply hJ7
    · refine dt_and ?_
      refine dt_nm ?_
      refine dt_and ?_
      refine dt_nm ?_
      refine dt_br ?_ ?_
      · refine dt_nm ?_
        apply ih
      · refine dt_and ?_
        refine dt_and ?_
        refine dt_br ?_ ?_
        · refine dt_and ?_
          refine dt_br ?_ ?_
          · refine dt_nm ?_
            apply ih
          · refine dt_and ?_
            refine dt_br ?_ ?_
            · refine dt_nm ?_
              apply ih
            · refine dt_call (d_wpY_isOther _ _ _) ?_
              intro _
              refine dt_br ?_ ?_
              · refine dt_call2 (V := fun q => wpY_joinParts q _ _ _ _) (d_wpY_joinParts _ _ _ _) ?_
                intro _
                rintro ⟨_, _, _, _, _, _, _, _, _, _, _, _, _⟩
                refine dt_nm ?_
                refine dt_nm ?_
                apply ih
              · exact dt_p _
        · refine dt_nm ?_
          apply ih
theorem d_wY_close_7 (x1 : Int32) (x2 : Int32) : ∀ (n : Nat) (x3 : Int32) (f_trials : Int32) (f_drafted : Int32) (f_found : Int32) (a_s : (Nat → Int32)) (a_saved : (Nat → Int32)) (a_draft : (Nat → Int32)) (a_who : (Nat → Int32)) (a_met : (Nat → Int32)) (a_stack : (Nat → Int32)) (a_fresh : (Nat → Int32)) (a_deep : (Nat → Int32)) (a_alike : (Nat → Int64)) (a_meets : (Nat → Int64)), Det (fun post : Int32 × SY → Prop => wY_close_7 (fun r u => post (r, u)) x1 x2 n x3 f_trials f_drafted f_found a_s a_saved a_draft a_who a_met a_stack a_fresh a_deep a_alike a_meets) := by
  intro n
  induction n with
  | zero => intros; exact dt_f
  | succ n ih =>
    intro x3 f_trials f_drafted f_found a_s a_saved a_draft a_who a_met a_stack a_fresh a_deep a_alike a_meets
    refine dt_br ?_ ?_
    · exact dt_p _
    · refine dt_ex ?_
      intro _
      apply d_wY_close_16
      · intros; apply ih
theorem d_wpY_close (u : SY) (p0 : Int32) : Det (fun post : Int32 × SY → Prop => wpY_close (fun r u => post (r, u)) u p0) := by
  obtain ⟨_, _, _, _, _, _, _, _, _, _, _, _, _⟩ := u
  unfold wpY_close
  refine dt_call (d_wpY_bound _) ?_
  intro _
  refine dt_ex ?_
  intro _
  apply d_wY_close_7
theorem d_wY_tryIds_2 (f_trials : Int32) (f_drafted : Int32) (f_found : Int32) : ∀ (n : Nat) (x1 : Int32) (a_s : (Nat → Int32)) (a_saved : (Nat → Int32)) (a_draft : (Nat → Int32)) (a_who : (Nat → Int32)) (a_met : (Nat → Int32)) (a_stack : (Nat → Int32)) (a_fresh : (Nat → Int32)) (a_deep : (Nat → Int32)) (a_alike : (Nat → Int64)) (a_meets : (Nat → Int64)), Det (fun post : SY → Prop => wY_tryIds_2 post f_trials f_drafted f_found n x1 a_s a_saved a_draft a_who a_met a_stack a_fresh a_deep a_alike a_meets) := by
  intro n
  induction n with
  | zero => intros; exact dt_f
  | succ n ih =>
    intro x1 a_s a_saved a_draft a_who a_met a_stack a_fresh a_deep a_alike a_meets
    refine dt_br ?_ ?_
    · exact dt_p _
    · refine dt_and ?_
      refine dt_and ?_
      refine dt_nm ?_
      refine dt_nm ?_
      apply ih
theorem d_wpY_tryIds (u : SY) : Det (fun post : SY → Prop => wpY_tryIds post u) := by
  obtain ⟨_, _, _, _, _, _, _, _, _, _, _, _, _⟩ := u
  unfold wpY_tryIds
  refine dt_ex ?_
  intro _
  apply d_wY_tryIds_2
theorem d_wY_keepTried_10 (x1 : Int32) (f_trials : Int32) (f_drafted : Int32) (f_found : Int32) : ∀ (n : Nat) (x2 : Int32) (a_s : (Nat → Int32)) (a_saved : (Nat → Int32)) (a_draft : (Nat → Int32)) (a_who : (Nat → Int32)) (a_met : (Nat → Int32)) (a_stack : (Nat → Int32)) (a_fresh : (Nat → Int32)) (a_deep : (Nat → Int32)) (a_alike : (Nat → Int64)) (a_meets : (Nat → Int64)), Det (fun post : Int32 × SY → Prop => wY_keepTried_10 (fun r u => post (r, u)) x1 f_trials f_drafted f_found n x2 a_s a_saved a_draft a_who a_met a_stack a_fresh a_deep a_alike a_meets) := by
  intro n
  induction n with
  | zero => intros; exact dt_f
  | succ n ih =>
    intro x2 a_s a_saved a_draft a_who a_met a_stack a_fresh a_deep a_alike a_meets
    refine dt_br ?_ ?_
    · refine dt_and ?_
      exact dt_p _
    · refine dt_br ?_ ?_
      · refine dt_and ?_
        exact dt_p _
      · refine dt_and ?_
        refine dt_and ?_
        refine dt_nm ?_
        refine dt_nm ?_
        apply ih
theorem d_wpY_keepTried (u : SY) : Det (fun post : Int32 × SY → Prop => wpY_keepTried (fun r u => post (r, u)) u) := by
  obtain ⟨_, _, _, _, _, _, _, _, _, _, _, _, _⟩ := u
  unfold wpY_keepTried
  refine dt_call2 (V := fun q => wpY_close q _ _) (d_wpY_close _ _) ?_
  intro _
  rintro ⟨_, _, _, _, _, _, _, _, _, _, _, _, _⟩
  refine dt_ex ?_
  intro _
  apply d_wY_keepTried_10
theorem d_wpY_tell (u : SY) (p0 : Int32) (p1 : Int32) : Det (fun post : Int32 × SY → Prop => wpY_tell (fun r u => post (r, u)) u p0 p1) := by
  obtain ⟨_, _, _, _, _, _, _, _, _, _, _, _, _⟩ := u
  unfold wpY_tell
  refine dt_call (d_wpY_tryIds _) ?_
  rintro ⟨_, _, _, _, _, _, _, _, _, _, _, _, _⟩
  refine dt_call (d_wpY_join _ _ _ _) ?_
  rintro ⟨_, _, _, _, _, _, _, _, _, _, _, _, _⟩
  refine dt_call2 (V := fun q => wpY_keepTried q _) (d_wpY_keepTried _) ?_
  intro _
  rintro ⟨_, _, _, _, _, _, _, _, _, _, _, _, _⟩
  refine dt_and ?_
  exact dt_p _
theorem d_wY_values_22 {J7 : (SY → Prop) → Int32 → (Nat → Int32) → (Nat → Int32) → (Nat → Int32) → (Nat → Int32) → (Nat → Int32) → (Nat → Int32) → (Nat → Int32) → (Nat → Int32) → (Nat → Int64) → (Nat → Int64) → Prop} (hJ7 : ∀ z0 z1 z2 z3 z4 z5 z6 z7 z8 z9 z10, Det (fun post : SY → Prop => J7 post z0 z1 z2 z3 z4 z5 z6 z7 z8 z9 z10)) (x1 : Int32) (x2 : Int32) (f_trials : Int32) (f_drafted : Int32) (f_found : Int32) : ∀ (n : Nat) (x3 : Int32) (a_s : (Nat → Int32)) (a_saved : (Nat → Int32)) (a_draft : (Nat → Int32)) (a_who : (Nat → Int32)) (a_met : (Nat → Int32)) (a_stack : (Nat → Int32)) (a_fresh : (Nat → Int32)) (a_deep : (Nat → Int32)) (a_alike : (Nat → Int64)) (a_meets : (Nat → Int64)), Det (fun post : SY → Prop => wY_values_22 post (J7 post) x1 x2 f_trials f_drafted f_found n x3 a_s a_saved a_draft a_who a_met a_stack a_fresh a_deep a_alike a_meets) := by
  intro n
  induction n with
  | zero => intros; exact dt_f
  | succ n ih =>
    intro x3 a_s a_saved a_draft a_who a_met a_stack a_fresh a_deep a_alike a_meets
    refine dt_br ?_ ?_
    · refine dt_nm ?_
      apply hJ7
    · refine dt_and ?_
      refine dt_and ?_
      refine dt_br ?_ ?_
      · refine dt_and ?_
        refine dt_br ?_ ?_
        · refine dt_nm ?_
          apply ih
        · refine dt_and ?_
          refine dt_nm ?_
          refine dt_nm ?_
          apply ih
      · refine dt_nm ?_
        apply ih
theorem d_wY_values_7 (x1 : Int32) (f_trials : Int32) (f_drafted : Int32) (f_found : Int32) : ∀ (n : Nat) (x2 : Int32) (a_s : (Nat → Int32)) (a_saved : (Nat → Int32)) (a_draft : (Nat → Int32)) (a_who : (Nat → Int32)) (a_met : (Nat → Int32)) (a_stack : (Nat → Int32)) (a_fresh : (Nat → Int32)) (a_deep : (Nat → Int32)) (a_alike : (Nat → Int64)) (a_meets : (Nat → Int64)), Det (fun post : SY → Prop => wY_values_7 post x1 f_trials f_drafted f_found n x2 a_s a_saved a_draft a_who a_met a_stack a_fresh a_deep a_alike a_meets) := by
  intro n
  induction n with
  | zero => intros; exact dt_f
  | succ n ih =>
    intro x2 a_s a_saved a_draft a_who a_met a_stack a_fresh a_deep a_alike a_meets
    refine dt_br ?_ ?_
    · exact dt_p _
    · refine dt_and ?_
      refine dt_nm ?_
      refine dt_ex ?_
      intro _
      apply d_wY_values_22
      · intros; apply ih
theorem d_wpY_values (u : SY) : Det (fun post : SY → Prop => wpY_values post u) := by
  obtain ⟨_, _, _, _, _, _, _, _, _, _, _, _, _⟩ := u
  unfold wpY_values
  refine dt_call (d_wpY_bound _) ?_
  intro _
  refine dt_ex ?_
  intro _
  apply d_wY_values_7
theorem d_wpY_areAlike (u : SY) (p0 : Int32) (p1 : Int32) : Det (fun post : Int32 → Prop => wpY_areAlike post u p0 p1) := by
  obtain ⟨_, _, _, _, _, _, _, _, _, _, _, _, _⟩ := u
  unfold wpY_areAlike
  refine dt_and ?_
  refine dt_br ?_ ?_
  · exact dt_p _
  · exact dt_p _
theorem d_wY_mayBe_60 (x3 : Int32) (x4 : Int32) (f_trials : Int32) (f_drafted : Int32) (f_found : Int32) (a_s : Nat → Int32) (a_saved : Nat → Int32) (a_draft : Nat → Int32) (a_who : Nat → Int32) (a_met : Nat → Int32) (a_stack : Nat → Int32) (a_fresh : Nat → Int32) (a_deep : Nat → Int32) (a_alike : Nat → Int64) (a_meets : Nat → Int64) : ∀ (n : Nat) (x5 : Int32), Det (fun post : Int32 → Prop => wY_mayBe_60 post x3 x4 f_trials f_drafted f_found a_s a_saved a_draft a_who a_met a_stack a_fresh a_deep a_alike a_meets n x5) := by
  intro n
  induction n with
  | zero => intros; exact dt_f
  | succ n ih =>
    intro x5
    refine dt_and ?_
    refine dt_br ?_ ?_
    · exact dt_p _
    · refine dt_and ?_
      refine dt_and ?_
      refine dt_call (d_wpY_areAlike _ _ _) ?_
      intro _
      refine dt_br ?_ ?_
      · exact dt_p _
      · refine dt_nm ?_
        apply ih
theorem d_wpY_mayBe (u : SY) (p0 : Int32) (p1 : Int32) : Det (fun post : Int32 → Prop => wpY_mayBe post u p0 p1) := by
  obtain ⟨_, _, _, _, _, _, _, _, _, _, _, _, _⟩ := u
  unfold wpY_mayBe
  refine dt_and ?_
  refine dt_and ?_
  refine dt_br ?_ ?_
  · exact dt_p _
  · refine dt_and ?_
    refine dt_nm ?_
    refine dt_and ?_
    refine dt_nm ?_
    refine dt_br ?_ ?_
    · exact dt_p _
    · refine dt_br ?_ ?_
      · exact dt_p _
      · refine dt_call (d_wpY_isOther _ _ _) ?_
        intro _
        refine dt_br ?_ ?_
        · refine dt_ex ?_
          intro _
          apply d_wY_mayBe_60
        · exact dt_p _
theorem d_wY_relate_42 {J34 : (SY → Prop) → Int32 → (Nat → Int32) → (Nat → Int32) → (Nat → Int32) → (Nat → Int32) → (Nat → Int32) → (Nat → Int32) → (Nat → Int32) → (Nat → Int32) → (Nat → Int64) → (Nat → Int64) → Prop} (hJ34 : ∀ z0 z1 z2 z3 z4 z5 z6 z7 z8 z9 z10, Det (fun post : SY → Prop => J34 post z0 z1 z2 z3 z4 z5 z6 z7 z8 z9 z10)) (x1 : Int32) (f_trials : Int32) (f_drafted : Int32) (f_found : Int32) : ∀ (n : Nat) (x2 : Int32) (x3 : Int32) (a_s : (Nat → Int32)) (a_saved : (Nat → Int32)) (a_draft : (Nat → Int32)) (a_who : (Nat → Int32)) (a_met : (Nat → Int32)) (a_stack : (Nat → Int32)) (a_fresh : (Nat → Int32)) (a_deep : (Nat → Int32)) (a_alike : (Nat → Int64)) (a_meets : (Nat → Int64)), Det (fun post : SY → Prop => wY_relate_42 post (J34 post) x1 f_trials f_drafted f_found n x2 x3 a_s a_saved a_draft a_who a_met a_stack a_fresh a_deep a_alike a_meets) := by
  intro n
  induction n with
  | zero => intros; exact dt_f
  | succ n ih =>
    intro x2 x3 a_s a_saved a_draft a_who a_met a_stack a_fresh a_deep a_alike a_meets
    refine dt_br ?_ ?_
    · apply hJ34
    · refine dt_and ?_
      refine dt_nm ?_
      refine dt_and ?_
      refine dt_nm ?_
      refine dt_br ?_ ?_
      · refine dt_nm ?_
        apply ih
      · refine dt_call (d_wpY_areAlike _ _ _) ?_
        intro _
        refine dt_br ?_ ?_
        · refine dt_nm ?_
          apply ih
        · refine dt_call (d_wpY_mayBe _ _ _) ?_
          intro _
          refine dt_br ?_ ?_
          · refine dt_and ?_
            refine dt_and ?_
            refine dt_nm ?_
            refine dt_and ?_
            refine dt_and ?_
            refine dt_nm ?_
            refine dt_nm ?_
            apply ih
          · refine dt_nm ?_
            apply ih
theorem d_wY_relate_34 (x1 : Int32) (f_trials : Int32) (f_drafted : Int32) (f_found : Int32) : ∀ (n : Nat) (x2 : Int32) (a_s : (Nat → Int32)) (a_saved : (Nat → Int32)) (a_draft : (Nat → Int32)) (a_who : (Nat → Int32)) (a_met : (Nat → Int32)) (a_stack : (Nat → Int32)) (a_fresh : (Nat → Int32)) (a_deep : (Nat → Int32)) (a_alike : (Nat → Int64)) (a_meets : (Nat → Int64)), Det (fun post : SY → Prop => wY_relate_34 post x1 f_trials f_drafted f_found n x2 a_s a_saved a_draft a_who a_met a_stack a_fresh a_deep a_alike a_meets) := by
  intro n
  induction n with
  | zero => intros; exact dt_f
  | succ n ih =>
    intro x2 a_s a_saved a_draft a_who a_met a_stack a_fresh a_deep a_alike a_meets
    refine dt_br ?_ ?_
    · exact dt_p _
    · refine dt_ex ?_
      intro _
      apply d_wY_relate_42
      · intros; apply ih
theorem d_wY_relate_6 (f_trials : Int32) (f_drafted : Int32) (f_found : Int32) : ∀ (n : Nat) (x1 : Int32) (a_s : (Nat → Int32)) (a_saved : (Nat → Int32)) (a_draft : (Nat → Int32)) (a_who : (Nat → Int32)) (a_met : (Nat → Int32)) (a_stack : (Nat → Int32)) (a_fresh : (Nat → Int32)) (a_deep : (Nat → Int32)) (a_alike : (Nat → Int64)) (a_meets : (Nat → Int64)), Det (fun post : SY → Prop => wY_relate_6 post f_trials f_drafted f_found n x1 a_s a_saved a_draft a_who a_met a_stack a_fresh a_deep a_alike a_meets) := by
  intro n
  induction n with
  | zero => intros; exact dt_f
  | succ n ih =>
    intro x1 a_s a_saved a_draft a_who a_met a_stack a_fresh a_deep a_alike a_meets
    refine dt_br ?_ ?_
    · refine dt_call (d_wpY_bound _) ?_
      intro _
      refine dt_ex ?_
      intro _
      apply d_wY_relate_34
    · refine dt_and ?_
      refine dt_nm ?_
      refine dt_nm ?_
      apply ih
theorem d_wpY_relate (u : SY) : Det (fun post : SY → Prop => wpY_relate post u) := by
  obtain ⟨_, _, _, _, _, _, _, _, _, _, _, _, _⟩ := u
  unfold wpY_relate
  refine dt_call (d_wpY_values _) ?_
  rintro ⟨_, _, _, _, _, _, _, _, _, _, _, _, _⟩
  refine dt_ex ?_
  intro _
  apply d_wY_relate_6
theorem d_wpY_judge (u : SY) (p0 : Int32) (p1 : Int32) : Det (fun post : Int32 × SY → Prop => wpY_judge (fun r u => post (r, u)) u p0 p1) := by
  obtain ⟨_, _, _, _, _, _, _, _, _, _, _, _, _⟩ := u
  unfold wpY_judge
  refine dt_call (d_wpY_areAlike _ _ _) ?_
  intro _
  refine dt_br ?_ ?_
  · refine dt_call (d_wpY_tryIds _) ?_
    rintro ⟨_, _, _, _, _, _, _, _, _, _, _, _, _⟩
    refine dt_call (d_wpY_join _ _ _ _) ?_
    rintro ⟨_, _, _, _, _, _, _, _, _, _, _, _, _⟩
    refine dt_call2 (V := fun q => wpY_close q _ _) (d_wpY_close _ _) ?_
    intro _
    rintro ⟨_, _, _, _, _, _, _, _, _, _, _, _, _⟩
    refine dt_br ?_ ?_
    · exact dt_p _
    · exact dt_p _
  · exact dt_p _
end
section
/-! settling: a test is decided -/
def JR (c : Vw) (x y r : Nat) : Prop := (r = 1 ∧ Alike c x y) ∨ (r = 2 ∧ ¬ Alike c x y ∧ Clash c (CC c (fun a b => a = x ∧ b = y))) ∨ (r = 3 ∧ ¬ Alike c x y ∧ ¬ Clash c (CC c (fun a b => a = x ∧ b = y)))
theorem jr_u {c : Vw} {x y r r' : Nat} (h : JR c x y r) (h' : JR c x y r') : r = r' := by
  rcases h with ⟨a, b⟩ | ⟨a, b, d⟩ | ⟨a, b, d⟩ <;> rcases h' with ⟨a', b'⟩ | ⟨a', b', d'⟩ | ⟨a', b', d'⟩ <;> first | omega | exact absurd b b' | exact absurd b' b | exact absurd d d' | exact absurd d' d
theorem jr_r {c : Vw} {x y r : Nat} (h : JR c x y r) : r = 1 ∨ r = 2 ∨ r = 3 := by
  rcases h with ⟨a, b⟩ | ⟨a, b, d⟩ | ⟨a, b, d⟩ <;> omega
def DR (c : Vw) (tx ty : Nat → Int32) (t r : Nat) : Prop := ∃ x, cU c x ∧ tx t = nI x ∧ ((ty t = -1 ∧ ((cK c x = 0 ∧ r = 3) ∨ (cK c x ≠ 0 ∧ r = 1))) ∨ ∃ y, cU c y ∧ ty t = nI y ∧ JR c x y r)
theorem dr_u {c : Vw} (W : VW c) {tx ty : Nat → Int32} {t r r' : Nat} (h : DR c tx ty t r) (h' : DR c tx ty t r') : r = r' := by
  obtain ⟨x, hx, ex, h⟩ := h
  obtain ⟨x', hx', ex', h'⟩ := h'
  have lx := vw_lt W hx
  have lx' := vw_lt W hx'
  have : x = x' := nI_inj (ex.symm.trans ex')
  subst this
  rcases h with ⟨a, h⟩ | ⟨y, hy, ey, h⟩
  · rcases h' with ⟨a', h'⟩ | ⟨y', hy', ey', h'⟩
    · rcases h with ⟨h1, h2⟩ | ⟨h1, h2⟩ <;> rcases h' with ⟨h3, h4⟩ | ⟨h3, h4⟩ <;> first | omega | exact absurd h1 h3 | exact absurd h3 h1
    · have := vw_lt W hy'
      exact absurd (ey'.symm.trans a) (nI_m1 (by omega))
  · have ly := vw_lt W hy
    rcases h' with ⟨a', h'⟩ | ⟨y', hy', ey', h'⟩
    · exact absurd (ey.symm.trans a') (nI_m1 (by omega))
    · have ly' := vw_lt W hy'
      have : y = y' := nI_inj (ey.symm.trans ey')
      subst this
      exact jr_u h h'
theorem dr_r {c : Vw} {tx ty : Nat → Int32} {t r : Nat} (h : DR c tx ty t r) : r = 1 ∨ r = 2 ∨ r = 3 := by
  obtain ⟨x, hx, ex, h⟩ := h
  rcases h with ⟨a, h⟩ | ⟨y, hy, ey, h⟩
  · omega
  · exact jr_r h
def sdD (sd : Nat → Int32) (t r : Nat) : Nat → Int32 := if r = 3 then sd else upd sd t (nI r)
def ND (N r : Nat) : Nat := if r = 3 then N else N + 1
def ntD (nt : Nat → Int32) (N t r : Nat) : Nat → Int32 := if r = 3 then nt else ntX nt N (nI (if r = 1 then t else 8 + t))
def sDf (s : Nat → Int32) (N t r : Nat) : Nat → Int32 := if r = 3 then s else ntY (upd s (544 + t) (nI r)) N (nI (if r = 1 then t else 8 + t))
section
variable {f_used : Int64} {f_roots : Int64} {f_asked : Int64} {f_trailed : Int32} {f_bound : Int32} {f_pairs : Int32} {f_drafted : Int32} {f_noted : Int32} {f_trials : Int32} {f_mets : Int32} {f_classes : Int32} {a_up : Nat → Int32} {a_kind : Nat → Int32} {a_many : Nat → Int32} {a_parts : Nat → Int32} {a_value : Nat → Int32} {a_trail : Nat → Int32} {a_left : Nat → Int32} {a_right : Nat → Int32} {a_draft : Nat → Int32} {a_stands : Nat → Int32} {a_testX : Nat → Int32} {a_testY : Nat → Int32} {a_triggerX : Nat → Int32} {a_triggerY : Nat → Int32} {a_ends : Nat → Int32} {a_notes : Nat → Int32} {a_oldUsed : Nat → Int64} {a_oldRoots : Nat → Int64} {a_oldAsked : Nat → Int64} {a_oldStands : Nat → Int32} {a_oldTestX : Nat → Int32} {a_oldTestY : Nat → Int32} {a_oldTriggerX : Nat → Int32} {a_oldTriggerY : Nat → Int32} {a_oldEnds : Nat → Int32} {a_oldTrailed : Nat → Int32} {a_oldNoted : Nat → Int32} {a_met : Nat → Int32} {a_classOf : Nat → Int32} {a_finer : Nat → Int32} {a_image : Nat → Int32} {a_seen : Nat → Int32} {a_stack : Nat → Int32} {a_deep : Nat → Int32} {a_company : Nat → Int64} {a_greeted : Nat → Int64}
variable {p kd mn pt tr T rk : Nat → Nat} {tn : Nat} {used : Int64}
theorem xw_dec46 {post : SX → Prop} {N t r : Nat} (hN : N + 1 < 2 ^ 31) (ht : t < 8) (hr : r = 1 ∨ r = 2 ∨ r = 3) (h : post (f_used, f_roots, f_asked, f_trailed, f_bound, f_pairs, f_drafted, nI (ND N r), f_trials, f_mets, f_classes, a_up, a_kind, a_many, a_parts, a_value, a_trail, a_left, a_right, a_draft, sdD a_stands t r, a_testX, a_testY, a_triggerX, a_triggerY, a_ends, ntD a_notes N t r, a_oldUsed, a_oldRoots, a_oldAsked, a_oldStands, a_oldTestX, a_oldTestY, a_oldTriggerX, a_oldTriggerY, a_oldEnds, a_oldTrailed, a_oldNoted, a_met, a_classOf, a_finer, a_image, a_seen, a_stack, a_deep, a_company, a_greeted)) : wX_decide_46 post (nI t) (nI r) f_used f_roots f_asked f_trailed f_bound f_pairs f_drafted (nI N) f_trials f_mets f_classes a_up a_kind a_many a_parts a_value a_trail a_left a_right a_draft a_stands a_testX a_testY a_triggerX a_triggerY a_ends a_notes a_oldUsed a_oldRoots a_oldAsked a_oldStands a_oldTestX a_oldTestY a_oldTriggerX a_oldTriggerY a_oldEnds a_oldTrailed a_oldNoted a_met a_classOf a_finer a_image a_seen a_stack a_deep a_company a_greeted := by
  have ht8 : (8 : Int32) + nI t = nI (8 + t) := aL_8 t
  rcases hr with rfl | rfl | rfl
  · refine And.intro (fun z => absurd z (by decide)) (fun _ => ⟨in_n ht, nmr (upd a_stands t (nI 1)) ?_ (br_t rfl ?_)⟩)
    · rw [vb_2 (by decide), cl_n (k := t)]
    · exact xw_note hN (by omega) h
  · refine And.intro (fun z => absurd z (by decide)) (fun _ => ⟨in_n ht, nmr (upd a_stands t (nI 2)) ?_ (br_f (by decide) ?_)⟩)
    · rw [vb_2 (by decide), cl_n (k := t)]
    · unfold wX_decide_74
      rw [ht8]
      exact xw_note hN (by omega) h
  · exact And.intro (fun _ => h) (fun z => absurd rfl z)
theorem xw_decide {post : SX → Prop} {s : Nat → Int32} (F : Fo (uB used) p T rk) (D : XD (uB used) p kd mn pt) (E : TrOK (uB used) p kd tr tn) {N t : Nat} (hN : N + 1 < 2 ^ 31) (ht : t < 8) (hT : MTest used a_stands a_testX a_testY s) (h3 : a_stands t = 3)
    (h : ∀ r b tr' al ar, DR (xv (uB used) T kd mn pt a_value) a_testX a_testY t r → (∀ j, j < tn → tr' j = tr j) → post (f_used, f_roots, f_asked, nI tn, b, 0, f_drafted, nI (ND N r), f_trials, f_mets, f_classes, nA p, nA kd, nA mn, nA pt, a_value, nA tr', al, ar, a_draft, sdD a_stands t r, a_testX, a_testY, a_triggerX, a_triggerY, a_ends, ntD a_notes N t r, a_oldUsed, a_oldRoots, a_oldAsked, a_oldStands, a_oldTestX, a_oldTestY, a_oldTriggerX, a_oldTriggerY, a_oldEnds, a_oldTrailed, a_oldNoted, a_met, a_classOf, a_finer, a_image, a_seen, a_stack, a_deep, a_company, a_greeted)) : wpX_decide post (f_used, f_roots, f_asked, nI tn, f_bound, 0, f_drafted, nI N, f_trials, f_mets, f_classes, nA p, nA kd, nA mn, nA pt, a_value, nA tr, a_left, a_right, a_draft, a_stands, a_testX, a_testY, a_triggerX, a_triggerY, a_ends, a_notes, a_oldUsed, a_oldRoots, a_oldAsked, a_oldStands, a_oldTestX, a_oldTestY, a_oldTriggerX, a_oldTriggerY, a_oldEnds, a_oldTrailed, a_oldNoted, a_met, a_classOf, a_finer, a_image, a_seen, a_stack, a_deep, a_company, a_greeted) (nI t) := by
  obtain ⟨_, _, _, _, _, _, g⟩ := hT t ht
  obtain ⟨⟨x, ex, hx⟩, hy⟩ := g h3
  have W : VW (xv (uB used) T kd mn pt a_value) := xv_W F D
  have kT := vw_K W (x := x) hx
  rw [xv_K] at kT
  show vp_in (nI t) 8 ∧ _
  rw [cl_n (k := t), ex]
  refine ⟨in_n ht, ?_⟩
  rcases hy with ey | ⟨y, ey, hy⟩
  · rw [ey]
    refine br_t m1_neg ⟨in_n ht, xw_isFree F hx (by omega) (fun e => br_f (by decide) (xw_dec46 (r := 3) hN ht (by omega) ?_)) (fun e => br_t rfl (xw_dec46 (r := 1) hN ht (by omega) ?_))⟩
    · exact h 3 _ _ _ _ ⟨x, hx, ex, Or.inl ⟨ey, Or.inl ⟨e, rfl⟩⟩⟩ fun _ _ => rfl
    · exact h 1 _ _ _ _ ⟨x, hx, ex, Or.inl ⟨ey, Or.inr ⟨e, rfl⟩⟩⟩ fun _ _ => rfl
  · have ly := vw_lt W (x := y) hy
    rw [ey]
    refine br_f (nI_nn (by omega)) ⟨in_n ht, in_n ht, xw_relation F D E hx hy ?_ ?_ ?_⟩
    · intro b tr' al ar hA ha
      exact xw_dec46 (r := 1) hN ht (by omega) (h 1 b tr' al ar ⟨x, hx, ex, Or.inr ⟨y, hy, ey, Or.inl ⟨rfl, hA⟩⟩⟩ ha)
    · intro b tr' al ar hA hC ha
      exact xw_dec46 (r := 2) hN ht (by omega) (h 2 b tr' al ar ⟨x, hx, ex, Or.inr ⟨y, hy, ey, Or.inr (Or.inl ⟨rfl, hA, hC⟩)⟩⟩ ha)
    · intro b tr' al ar hA hC ha
      exact xw_dec46 (r := 3) hN ht (by omega) (h 3 b tr' al ar ⟨x, hx, ex, Or.inr ⟨y, hy, ey, Or.inr (Or.inr ⟨rfl, hA, hC⟩)⟩⟩ ha)
end
section
variable {f_trials : Int32} {f_drafted : Int32} {f_found : Int32} {a_s : Nat → Int32} {a_saved : Nat → Int32} {a_draft : Nat → Int32} {a_who : Nat → Int32} {a_met : Nat → Int32} {a_stack : Nat → Int32} {a_fresh : Nat → Int32} {a_deep : Nat → Int32} {a_alike : Nat → Int64} {a_meets : Nat → Int64}
variable {c : Vw} {id : Nat → Nat} {used : Int64} {sd tx ty : Nat → Int32}
theorem ye_relate (W : VW c) (hY : YR c id a_s) : ∃ w A, Who c a_s w ∧ AlOK c A ∧ ∀ post : SY → Prop, post (f_trials, f_drafted, f_found, a_s, a_saved, a_draft, w, a_met, a_stack, a_fresh, a_deep, A, a_meets) → wpY_relate post (f_trials, f_drafted, f_found, a_s, a_saved, a_draft, a_who, a_met, a_stack, a_fresh, a_deep, a_alike, a_meets) := by
  obtain ⟨o, ⟨w, A, h1, h2, rfl⟩, h3⟩ := d_wpY_relate (f_trials, f_drafted, f_found, a_s, a_saved, a_draft, a_who, a_met, a_stack, a_fresh, a_deep, a_alike, a_meets) (fun o => ∃ w A, Who c a_s w ∧ AlOK c A ∧ o = (f_trials, f_drafted, f_found, a_s, a_saved, a_draft, w, a_met, a_stack, a_fresh, a_deep, A, a_meets)) (yw_relate W hY fun w A h1 h2 => ⟨w, A, h1, h2, rfl⟩)
  exact ⟨w, A, h1, h2, h3⟩
theorem ye_judge (W : VW c) (hY : YR c id a_s) (hA : AlOK c a_alike) {x y : Nat} (hx : cU c x) (hy : cU c y) : ∃ r s', JR c x y r ∧ (∀ i, i < 633 → s' i = a_s i) ∧ ∀ post : Int32 → SY → Prop, post (nI r) (f_trials, f_drafted, f_found, s', a_saved, a_draft, a_who, a_met, a_stack, a_fresh, a_deep, a_alike, a_meets) → wpY_judge post (f_trials, f_drafted, f_found, a_s, a_saved, a_draft, a_who, a_met, a_stack, a_fresh, a_deep, a_alike, a_meets) (nI x) (nI y) := by
  obtain ⟨⟨q, o⟩, ⟨r, s', h1, h2, h4⟩, h3⟩ := d_wpY_judge (f_trials, f_drafted, f_found, a_s, a_saved, a_draft, a_who, a_met, a_stack, a_fresh, a_deep, a_alike, a_meets) (nI x) (nI y) (fun o => ∃ r s', JR c x y r ∧ (∀ i, i < 633 → s' i = a_s i) ∧ o = (nI r, (f_trials, f_drafted, f_found, s', a_saved, a_draft, a_who, a_met, a_stack, a_fresh, a_deep, a_alike, a_meets))) (yw_judge W hY hA hx hy (fun a => ⟨1, a_s, Or.inl ⟨rfl, a⟩, fun _ _ => rfl, rfl⟩) (fun t a b => ⟨2, tz a_s t, Or.inr (Or.inl ⟨rfl, a, b⟩), fun i hi => tz_lo hi, rfl⟩) (fun t a b => ⟨3, tz a_s t, Or.inr (Or.inr ⟨rfl, a, b⟩), fun i hi => tz_lo hi, rfl⟩))
  refine ⟨r, s', h1, h2, fun post hp => h3 (fun o => post o.1 o.2) ?_⟩
  rw [h4]; exact hp
theorem yw_dec56 {post : SY → Prop} {N t r : Nat} (hN : N + 1 < 2 ^ 31) (hs : a_s 572 = nI N) (ht : t < 8) (hr : r = 1 ∨ r = 2 ∨ r = 3) (h : post (f_trials, f_drafted, f_found, sDf a_s N t r, a_saved, a_draft, a_who, a_met, a_stack, a_fresh, a_deep, a_alike, a_meets)) : wY_decide_56 post (nI t) (nI r) f_trials f_drafted f_found a_s a_saved a_draft a_who a_met a_stack a_fresh a_deep a_alike a_meets := by
  have ht8 : (8 : Int32) + nI t = nI (8 + t) := aL_8 t
  have h5 : (upd a_s (544 + t) (nI r)) 572 = nI N := by rw [pk_un (by omega)]; exact hs
  rcases hr with rfl | rfl | rfl
  · refine And.intro (fun z => absurd z (by decide)) (fun _ => ?_)
    rw [aL_544, cl_n (k := 544 + t)]
    exact ⟨in_n (by omega), nm_e (br_t rfl (yw_note hN h5 h))⟩
  · refine And.intro (fun z => absurd z (by decide)) (fun _ => ?_)
    rw [aL_544, cl_n (k := 544 + t), ht8]
    exact ⟨in_n (by omega), nm_e (br_f (by decide) (yw_note hN h5 h))⟩
  · exact And.intro (fun _ => h) (fun z => absurd rfl z)
theorem sDf_c {s s' : Nat → Int32} {N t r : Nat} (ht : t < 8) (h : ∀ i, i < 633 → s' i = s i) {i : Nat} (hi : i < 633) : sDf s' N t r i = sDf s N t r i := by
  unfold sDf
  by_cases e : r = 3
  · rw [if_pos e, if_pos e]; exact h i hi
  · rw [if_neg e, if_neg e]
    unfold ntY
    by_cases e2 : i = 572
    · rw [e2, pk_us, pk_us]
    · rw [pk_un e2, pk_un e2]
      have key : upd s' (544 + t) (nI r) i = upd s (544 + t) (nI r) i := by
        by_cases e4 : i = 544 + t
        · rw [e4, pk_us, pk_us]
        · rw [pk_un e4, pk_un e4]; exact h i hi
      by_cases e3 : 60 ≤ N
      · rw [if_pos e3, if_pos e3]; exact key
      · rw [if_neg e3, if_neg e3]
        by_cases e4 : i = 573 + N
        · rw [e4, pk_us, pk_us]
        · rw [pk_un e4, pk_un e4]; exact key
theorem ye_decide (W : VW c) (hcU : cU c = uB used) (hY : YR c id a_s) (hw : Who c a_s a_who) (hA : AlOK c a_alike) {N t : Nat} (hN : N + 1 < 2 ^ 31) (hs : a_s 572 = nI N) (ht : t < 8) (hT : MTest used sd tx ty a_s) (h3 : sd t = 3) : ∃ r s', DR c tx ty t r ∧ (∀ i, i < 633 → s' i = sDf a_s N t r i) ∧ ∀ post : SY → Prop, post (f_trials, f_drafted, f_found, s', a_saved, a_draft, a_who, a_met, a_stack, a_fresh, a_deep, a_alike, a_meets) → wpY_decide post (f_trials, f_drafted, f_found, a_s, a_saved, a_draft, a_who, a_met, a_stack, a_fresh, a_deep, a_alike, a_meets) (nI t) := by
  obtain ⟨g1, g2, g3, _, _, _, g⟩ := hT t ht
  obtain ⟨⟨x, ex, hx⟩, hy⟩ := g h3
  rw [← hcU] at hx
  have lx := vw_lt W hx
  have start : ∀ post : SY → Prop, (vp_in (nI x) 48 → ((ty t < 0 → (((0 ≤ (a_who x) → (wY_decide_56 post (nI t) 1 f_trials f_drafted f_found a_s a_saved a_draft a_who a_met a_stack a_fresh a_deep a_alike a_meets)) ∧ (¬ 0 ≤ (a_who x) → (wY_decide_56 post (nI t) 3 f_trials f_drafted f_found a_s a_saved a_draft a_who a_met a_stack a_fresh a_deep a_alike a_meets))))) ∧ (¬ ty t < 0 → wpY_judge (fun r u => wY_decide_56 post (nI t) r u.1 u.2.1 u.2.2.1 u.2.2.2.1 u.2.2.2.2.1 u.2.2.2.2.2.1 u.2.2.2.2.2.2.1 u.2.2.2.2.2.2.2.1 u.2.2.2.2.2.2.2.2.1 u.2.2.2.2.2.2.2.2.2.1 u.2.2.2.2.2.2.2.2.2.2.1 u.2.2.2.2.2.2.2.2.2.2.2.1 u.2.2.2.2.2.2.2.2.2.2.2.2) (f_trials, f_drafted, f_found, a_s, a_saved, a_draft, a_who, a_met, a_stack, a_fresh, a_deep, a_alike, a_meets) (nI x) (ty t)))) → wpY_decide post (f_trials, f_drafted, f_found, a_s, a_saved, a_draft, a_who, a_met, a_stack, a_fresh, a_deep, a_alike, a_meets) (nI t) := by
    intro post h
    have h := h (in_n lx)
    show vp_in (528 + nI t) 681 ∧ _
    rw [aL_528, aL_536, cl_n (k := 528 + t), cl_n (k := 536 + t), g1, g2, ex]
    refine ⟨in_n (by omega), nm_e ⟨in_n (by omega), ?_⟩⟩
    rw [cl_n (k := x)]
    exact ⟨fun z => ⟨in_n lx, h.1 z⟩, fun z => ⟨in_n (by omega), h.2 z⟩⟩
  rcases hy with ey | ⟨y, ey, hy⟩
  · by_cases k0 : cK c x = 0
    · refine ⟨3, a_s, ⟨x, hx, ex, Or.inl ⟨ey, Or.inl ⟨k0, rfl⟩⟩⟩, fun i _ => rfl, fun post hp => start post fun _ => ?_⟩
      rw [ey, hw.2.1 x hx k0]
      exact br_t m1_neg (br_f m1_n0 (yw_dec56 (r := 3) hN hs ht (by omega) hp))
    · obtain ⟨u, eu, hu, _⟩ := hw.1 x hx k0
      have lu := vw_lt W hu
      refine ⟨1, sDf a_s N t 1, ⟨x, hx, ex, Or.inl ⟨ey, Or.inr ⟨k0, rfl⟩⟩⟩, fun i _ => rfl, fun post hp => start post fun _ => ?_⟩
      rw [ey, eu]
      exact br_t m1_neg (br_t (nI_pos' (by omega)) (yw_dec56 (r := 1) hN hs ht (by omega) hp))
  · rw [← hcU] at hy
    have ly := vw_lt W hy
    obtain ⟨r, s', h1, h2, h4⟩ := ye_judge (f_trials := f_trials) (f_drafted := f_drafted) (f_found := f_found) (a_saved := a_saved) (a_draft := a_draft) (a_who := a_who) (a_met := a_met) (a_stack := a_stack) (a_fresh := a_fresh) (a_deep := a_deep) (a_meets := a_meets) W hY hA hx hy
    refine ⟨r, sDf s' N t r, ⟨x, hx, ex, Or.inr ⟨y, hy, ey, h1⟩⟩, fun i hi => sDf_c ht h2 hi, fun post hp => start post fun _ => ?_⟩
    rw [ey]
    exact br_f (nI_nn (by omega)) (h4 _ (yw_dec56 hN ((h2 572 (by decide)).trans hs) ht (jr_r h1) hp))
end
end
section
/-! settling: which trigger goes next -/
def TgV (c : Vw) (gx : Nat → Int32) (k : Nat) : Prop := ∃ x, cU c x ∧ gx k = nI x ∧ cK c x ≠ 0
def TgN (c : Vw) (asked : Int64) (sd tx ty gx : Nat → Int32) (k : Nat) : Prop := ∃ x, cU c x ∧ gx k = nI x ∧ cK c x = 0 ∧ Need (cT c) asked sd tx ty x
theorem tg_m1 {c : Vw} (W : VW c) {gx : Nat → Int32} {k : Nat} (h : gx k = -1) : ¬ TgV c gx k := by
  intro ⟨x, hx, e, _⟩
  have := vw_lt W hx
  exact nI_m1 (by omega) (e.symm.trans h)
theorem tn_m1 {c : Vw} (W : VW c) {asked : Int64} {sd tx ty gx : Nat → Int32} {k : Nat} (h : gx k = -1) : ¬ TgN c asked sd tx ty gx k := by
  intro ⟨x, hx, e, _⟩
  have := vw_lt W hx
  exact nI_m1 (by omega) (e.symm.trans h)
theorem tg_iff {c : Vw} (W : VW c) {gx : Nat → Int32} {k x : Nat} (hx : cU c x) (e : gx k = nI x) : TgV c gx k ↔ cK c x ≠ 0 := by
  constructor
  · intro ⟨y, hy, e', h⟩
    have := vw_lt W hx
    have := vw_lt W hy
    have : x = y := nI_inj (e.symm.trans e')
    rw [this]; exact h
  · intro h; exact ⟨x, hx, e, h⟩
theorem tn_iff {c : Vw} (W : VW c) {asked : Int64} {sd tx ty gx : Nat → Int32} {k x : Nat} (hx : cU c x) (e : gx k = nI x) : TgN c asked sd tx ty gx k ↔ cK c x = 0 ∧ Need (cT c) asked sd tx ty x := by
  constructor
  · intro ⟨y, hy, e', h⟩
    have := vw_lt W hx
    have := vw_lt W hy
    have : x = y := nI_inj (e.symm.trans e')
    rw [this]; exact h
  · intro h; exact ⟨x, hx, e, h⟩
section
variable {f_used : Int64} {f_roots : Int64} {f_asked : Int64} {f_trailed : Int32} {f_bound : Int32} {f_pairs : Int32} {f_drafted : Int32} {f_noted : Int32} {f_trials : Int32} {f_mets : Int32} {f_classes : Int32} {a_up : Nat → Int32} {a_kind : Nat → Int32} {a_many : Nat → Int32} {a_parts : Nat → Int32} {a_value : Nat → Int32} {a_trail : Nat → Int32} {a_left : Nat → Int32} {a_right : Nat → Int32} {a_draft : Nat → Int32} {a_stands : Nat → Int32} {a_testX : Nat → Int32} {a_testY : Nat → Int32} {a_triggerX : Nat → Int32} {a_triggerY : Nat → Int32} {a_ends : Nat → Int32} {a_notes : Nat → Int32} {a_oldUsed : Nat → Int64} {a_oldRoots : Nat → Int64} {a_oldAsked : Nat → Int64} {a_oldStands : Nat → Int32} {a_oldTestX : Nat → Int32} {a_oldTestY : Nat → Int32} {a_oldTriggerX : Nat → Int32} {a_oldTriggerY : Nat → Int32} {a_oldEnds : Nat → Int32} {a_oldTrailed : Nat → Int32} {a_oldNoted : Nat → Int32} {a_met : Nat → Int32} {a_classOf : Nat → Int32} {a_finer : Nat → Int32} {a_image : Nat → Int32} {a_seen : Nat → Int32} {a_stack : Nat → Int32} {a_deep : Nat → Int32} {a_company : Nat → Int64} {a_greeted : Nat → Int64}
variable {p kd mn pt tr T rk : Nat → Nat} {tn : Nat} {used : Int64} {s : Nat → Int32}
theorem xw_due40 {post : Int32 → Prop} (F : Fo (uB used) p T rk) (D : XD (uB used) p kd mn pt) (hA : ∀ k, uB f_asked k → uB used k) (ht : ∀ k, k < 8 → a_stands k = 3 → ∃ y, a_testX k = nI y ∧ uB used y) (hg : MTrig used a_triggerX a_triggerY s) (hV : ∀ j, j < 8 → ¬ TgV (xv (uB used) T kd mn pt a_value) a_triggerX j)
    (hB : ∀ k, k < 8 → TgN (xv (uB used) T kd mn pt a_value) f_asked a_stands a_testX a_testY a_triggerX k → (∀ j, j < k → ¬ TgN (xv (uB used) T kd mn pt a_value) f_asked a_stands a_testX a_testY a_triggerX j) → post (nI k)) (hC : (∀ j, j < 8 → ¬ TgN (xv (uB used) T kd mn pt a_value) f_asked a_stands a_testX a_testY a_triggerX j) → post (-1)) : ∀ n i, i ≤ 8 → 8 - i < n → (∀ j, j < i → ¬ TgN (xv (uB used) T kd mn pt a_value) f_asked a_stands a_testX a_testY a_triggerX j) → wX_due_40 post f_used f_roots f_asked (nI tn) f_bound f_pairs f_drafted f_noted f_trials f_mets f_classes (nA p) (nA kd) (nA mn) (nA pt) a_value (nA tr) a_left a_right a_draft a_stands a_testX a_testY a_triggerX a_triggerY a_ends a_notes a_oldUsed a_oldRoots a_oldAsked a_oldStands a_oldTestX a_oldTestY a_oldTriggerX a_oldTriggerY a_oldEnds a_oldTrailed a_oldNoted a_met a_classOf a_finer a_image a_seen a_stack a_deep a_company a_greeted n (nI i) := by
  have W : VW (xv (uB used) T kd mn pt a_value) := xv_W F D
  intro n
  induction n with
  | zero => intro i _ h; omega
  | succ n ih =>
    intro i hi hn hl
    by_cases e : i = 8
    · subst e
      exact wh_t (a := 8) (b := 8) (by omega) (hC hl)
    · refine wh_f (a := 8) (b := i) (by omega) ?_
      rw [cl_n (k := i)]
      have next : ¬ TgN (xv (uB used) T kd mn pt a_value) f_asked a_stands a_testX a_testY a_triggerX i → wX_due_40 post f_used f_roots f_asked (nI tn) f_bound f_pairs f_drafted f_noted f_trials f_mets f_classes (nA p) (nA kd) (nA mn) (nA pt) a_value (nA tr) a_left a_right a_draft a_stands a_testX a_testY a_triggerX a_triggerY a_ends a_notes a_oldUsed a_oldRoots a_oldAsked a_oldStands a_oldTestX a_oldTestY a_oldTriggerX a_oldTriggerY a_oldEnds a_oldTrailed a_oldNoted a_met a_classOf a_finer a_image a_seen a_stack a_deep a_company a_greeted n (nI (i + 1)) := by
        intro q
        refine ih (i + 1) (by omega) (by omega) fun j hj => ?_
        by_cases z : j = i
        · rw [z]; exact q
        · exact hl j (by omega)
      refine ⟨in_n (by omega), ?_⟩
      rcases (hg i (by omega)).2.2.2.2 with z | ⟨x, y, ex, _, hx, _⟩
      · rw [z]
        exact br_t m1_neg (up1 (next (tn_m1 W z)))
      · have lx := fo_lt F hx
        have k0 : cK (xv (uB used) T kd mn pt a_value) x = 0 := by
          have := mt (tg_iff W (x := x) hx ex).2 (hV i (by omega))
          exact Classical.not_not.1 this
        rw [ex]
        refine br_f (nI_nn (by omega)) ⟨in_n (by omega), xw_isNeeded F hx hA ht (fun q => br_f (by decide) (hB i (by omega) ((tn_iff W (x := x) hx ex).2 ⟨k0, q⟩) hl)) (fun q => br_t rfl (up1 (next fun z => q ((tn_iff W (x := x) hx ex).1 z).2)))⟩
theorem xw_due2 {post : Int32 → Prop} (F : Fo (uB used) p T rk) (D : XD (uB used) p kd mn pt) (hA : ∀ k, uB f_asked k → uB used k) (ht : ∀ k, k < 8 → a_stands k = 3 → ∃ y, a_testX k = nI y ∧ uB used y) (hg : MTrig used a_triggerX a_triggerY s)
    (hV : ∀ k, k < 8 → TgV (xv (uB used) T kd mn pt a_value) a_triggerX k → (∀ j, j < k → ¬ TgV (xv (uB used) T kd mn pt a_value) a_triggerX j) → post (nI k))
    (hB : (∀ j, j < 8 → ¬ TgV (xv (uB used) T kd mn pt a_value) a_triggerX j) → ∀ k, k < 8 → TgN (xv (uB used) T kd mn pt a_value) f_asked a_stands a_testX a_testY a_triggerX k → (∀ j, j < k → ¬ TgN (xv (uB used) T kd mn pt a_value) f_asked a_stands a_testX a_testY a_triggerX j) → post (nI k)) (hC : (∀ j, j < 8 → ¬ TgV (xv (uB used) T kd mn pt a_value) a_triggerX j) → (∀ j, j < 8 → ¬ TgN (xv (uB used) T kd mn pt a_value) f_asked a_stands a_testX a_testY a_triggerX j) → post (-1)) : ∀ n i, i ≤ 8 → 8 - i < n → (∀ j, j < i → ¬ TgV (xv (uB used) T kd mn pt a_value) a_triggerX j) → wX_due_2 post f_used f_roots f_asked (nI tn) f_bound f_pairs f_drafted f_noted f_trials f_mets f_classes (nA p) (nA kd) (nA mn) (nA pt) a_value (nA tr) a_left a_right a_draft a_stands a_testX a_testY a_triggerX a_triggerY a_ends a_notes a_oldUsed a_oldRoots a_oldAsked a_oldStands a_oldTestX a_oldTestY a_oldTriggerX a_oldTriggerY a_oldEnds a_oldTrailed a_oldNoted a_met a_classOf a_finer a_image a_seen a_stack a_deep a_company a_greeted n (nI i) := by
  have W : VW (xv (uB used) T kd mn pt a_value) := xv_W F D
  intro n
  induction n with
  | zero => intro i _ h; omega
  | succ n ih =>
    intro i hi hn hl
    by_cases e : i = 8
    · subst e
      exact wh_t (a := 8) (b := 8) (by omega) (Exists.intro 9 (xw_due40 F D hA ht hg hl (hB hl) (hC hl) 9 0 (by omega) (by omega) fun j hj => absurd hj (by omega)))
    · refine wh_f (a := 8) (b := i) (by omega) ?_
      rw [cl_n (k := i)]
      have next : ¬ TgV (xv (uB used) T kd mn pt a_value) a_triggerX i → wX_due_2 post f_used f_roots f_asked (nI tn) f_bound f_pairs f_drafted f_noted f_trials f_mets f_classes (nA p) (nA kd) (nA mn) (nA pt) a_value (nA tr) a_left a_right a_draft a_stands a_testX a_testY a_triggerX a_triggerY a_ends a_notes a_oldUsed a_oldRoots a_oldAsked a_oldStands a_oldTestX a_oldTestY a_oldTriggerX a_oldTriggerY a_oldEnds a_oldTrailed a_oldNoted a_met a_classOf a_finer a_image a_seen a_stack a_deep a_company a_greeted n (nI (i + 1)) := by
        intro q
        refine ih (i + 1) (by omega) (by omega) fun j hj => ?_
        by_cases z : j = i
        · rw [z]; exact q
        · exact hl j (by omega)
      refine ⟨in_n (by omega), ?_⟩
      rcases (hg i (by omega)).2.2.2.2 with z | ⟨x, y, ex, _, hx, _⟩
      · rw [z]
        exact br_t m1_neg (up1 (next (tg_m1 W z)))
      · have lx := fo_lt F hx
        have kT := vw_K W (x := x) hx
        rw [xv_K] at kT
        rw [ex]
        refine br_f (nI_nn (by omega)) ⟨in_n (by omega), xw_isFree F hx (by omega) (fun q => br_f (by decide) (up1 (next fun z => (tg_iff W (x := x) hx ex).1 z q))) (fun q => br_t rfl (hV i (by omega) ((tg_iff W (x := x) hx ex).2 q) hl))⟩
theorem xw_due {post : Int32 → Prop} (F : Fo (uB used) p T rk) (D : XD (uB used) p kd mn pt) (hA : ∀ k, uB f_asked k → uB used k) (ht : ∀ k, k < 8 → a_stands k = 3 → ∃ y, a_testX k = nI y ∧ uB used y) (hg : MTrig used a_triggerX a_triggerY s)
    (hV : ∀ k, k < 8 → TgV (xv (uB used) T kd mn pt a_value) a_triggerX k → (∀ j, j < k → ¬ TgV (xv (uB used) T kd mn pt a_value) a_triggerX j) → post (nI k))
    (hB : (∀ j, j < 8 → ¬ TgV (xv (uB used) T kd mn pt a_value) a_triggerX j) → ∀ k, k < 8 → TgN (xv (uB used) T kd mn pt a_value) f_asked a_stands a_testX a_testY a_triggerX k → (∀ j, j < k → ¬ TgN (xv (uB used) T kd mn pt a_value) f_asked a_stands a_testX a_testY a_triggerX j) → post (nI k)) (hC : (∀ j, j < 8 → ¬ TgV (xv (uB used) T kd mn pt a_value) a_triggerX j) → (∀ j, j < 8 → ¬ TgN (xv (uB used) T kd mn pt a_value) f_asked a_stands a_testX a_testY a_triggerX j) → post (-1)) : wpX_due post (f_used, f_roots, f_asked, nI tn, f_bound, f_pairs, f_drafted, f_noted, f_trials, f_mets, f_classes, nA p, nA kd, nA mn, nA pt, a_value, nA tr, a_left, a_right, a_draft, a_stands, a_testX, a_testY, a_triggerX, a_triggerY, a_ends, a_notes, a_oldUsed, a_oldRoots, a_oldAsked, a_oldStands, a_oldTestX, a_oldTestY, a_oldTriggerX, a_oldTriggerY, a_oldEnds, a_oldTrailed, a_oldNoted, a_met, a_classOf, a_finer, a_image, a_seen, a_stack, a_deep, a_company, a_greeted) :=
  Exists.intro 9 (xw_due2 F D hA ht hg hV hB hC 9 0 (by omega) (by omega) fun j hj => absurd hj (by omega))
end
section
variable {f_trials : Int32} {f_drafted : Int32} {f_found : Int32} {a_s : Nat → Int32} {a_saved : Nat → Int32} {a_draft : Nat → Int32} {a_who : Nat → Int32} {a_met : Nat → Int32} {a_stack : Nat → Int32} {a_fresh : Nat → Int32} {a_deep : Nat → Int32} {a_alike : Nat → Int64} {a_meets : Nat → Int64}
variable {c : Vw} {id : Nat → Nat} {used asked : Int64} {sd tx ty gx gy : Nat → Int32}
theorem yw_next0 {post : Int32 → Prop} (W : VW c) (hcU : cU c = uB used) (hw : Who c a_s a_who) (hg : MTrig used gx gy a_s) (hV : ∀ k, k < 8 → TgV c gx k → (∀ j, j < k → ¬ TgV c gx j) → post (nI k)) (hC : (∀ j, j < 8 → ¬ TgV c gx j) → post (-1)) : ∀ n i, i ≤ 8 → 8 - i < n → (∀ j, j < i → ¬ TgV c gx j) → wY_next_2 post 0 f_trials f_drafted f_found a_s a_saved a_draft a_who a_met a_stack a_fresh a_deep a_alike a_meets n (nI i) := by
  intro n
  induction n with
  | zero => intro i _ h; omega
  | succ n ih =>
    intro i hi hn hl
    by_cases e : i = 8
    · subst e
      exact wh_t (a := 8) (b := 8) (by omega) (hC hl)
    · obtain ⟨g1, g2, _, _, g⟩ := hg i (by omega)
      refine wh_f (a := 8) (b := i) (by omega) ?_
      rw [aL_552, cl_n (k := 552 + i), g1]
      have next : ¬ TgV c gx i → wY_next_2 post 0 f_trials f_drafted f_found a_s a_saved a_draft a_who a_met a_stack a_fresh a_deep a_alike a_meets n (nI (i + 1)) := by
        intro q
        refine ih (i + 1) (by omega) (by omega) fun j hj => ?_
        by_cases z : j = i
        · rw [z]; exact q
        · exact hl j (by omega)
      refine ⟨in_n (by omega), nm_e ?_⟩
      rcases g with z | ⟨x, y, ex, _, hx, _⟩
      · rw [z]
        exact br_t m1_neg (up1 (next (tg_m1 W z)))
      · rw [← hcU] at hx
        have lx := vw_lt W hx
        rw [ex, cl_n (k := x)]
        refine br_f (nI_nn (by omega)) ⟨in_n lx, ?_⟩
        by_cases k0 : cK c x = 0
        · rw [hw.2.1 x hx k0]
          exact br_f m1_n0 (br_f (by decide) (up1 (next fun z => (tg_iff W hx ex).1 z k0)))
        · obtain ⟨u, eu, hu, _⟩ := hw.1 x hx k0
          have lu := vw_lt W hu
          rw [eu]
          exact br_t (nI_pos' (by omega)) (br_t rfl (br_t rfl (br_f (by decide) (hV i (by omega) ((tg_iff W hx ex).2 k0) hl))))
theorem yw_next1 {post : Int32 → Prop} (W : VW c) (hY : YR c id a_s) (hcU : cU c = uB used) (hA : ∀ k, uB asked k → uB used k) (hA2 : ∀ k, k < 48 → a_s (480 + k) = nI (b01 (bL asked k))) (ht : MTest used sd tx ty a_s) (hw : Who c a_s a_who) (hg : MTrig used gx gy a_s) (hV : ∀ k, k < 8 → TgN c asked sd tx ty gx k → (∀ j, j < k → ¬ TgN c asked sd tx ty gx j) → post (nI k)) (hC : (∀ j, j < 8 → ¬ TgN c asked sd tx ty gx j) → post (-1)) : ∀ n i, i ≤ 8 → 8 - i < n → (∀ j, j < i → ¬ TgN c asked sd tx ty gx j) → wY_next_2 post 1 f_trials f_drafted f_found a_s a_saved a_draft a_who a_met a_stack a_fresh a_deep a_alike a_meets n (nI i) := by
  intro n
  induction n with
  | zero => intro i _ h; omega
  | succ n ih =>
    intro i hi hn hl
    by_cases e : i = 8
    · subst e
      exact wh_t (a := 8) (b := 8) (by omega) (hC hl)
    · obtain ⟨g1, g2, _, _, g⟩ := hg i (by omega)
      refine wh_f (a := 8) (b := i) (by omega) ?_
      rw [aL_552, cl_n (k := 552 + i), g1]
      have next : ¬ TgN c asked sd tx ty gx i → wY_next_2 post 1 f_trials f_drafted f_found a_s a_saved a_draft a_who a_met a_stack a_fresh a_deep a_alike a_meets n (nI (i + 1)) := by
        intro q
        refine ih (i + 1) (by omega) (by omega) fun j hj => ?_
        by_cases z : j = i
        · rw [z]; exact q
        · exact hl j (by omega)
      refine ⟨in_n (by omega), nm_e ?_⟩
      rcases g with z | ⟨x, y, ex, _, hx, _⟩
      · rw [z]
        exact br_t m1_neg (up1 (next (tn_m1 W z)))
      · rw [← hcU] at hx
        have lx := vw_lt W hx
        rw [ex, cl_n (k := x)]
        refine br_f (nI_nn (by omega)) ⟨in_n lx, ?_⟩
        by_cases k0 : cK c x = 0
        · rw [hw.2.1 x hx k0]
          refine br_f m1_n0 (br_t rfl (br_f (by decide) ?_))
          refine yw_isNeeded W hY hx hcU hA hA2 ht (fun q => br_f (by decide) (br_f (by decide) (hV i (by omega) ((tn_iff W hx ex).2 ⟨k0, q⟩) hl))) (fun q => br_t rfl (br_t rfl (up1 (next fun z => q ((tn_iff W hx ex).1 z).2))))
        · obtain ⟨u, eu, hu, _⟩ := hw.1 x hx k0
          have lu := vw_lt W hu
          rw [eu]
          exact br_t (nI_pos' (by omega)) (br_f (by decide) (up1 (next fun z => k0 ((tn_iff W hx ex).1 z).1)))
end
end
section
/-! joins on both sides give one view; zones of the reference's cells -/
theorem mb_ag {used roots asked : Int64} {g g' : Nat → Int32} (h : MBits used roots asked g) (e : ∀ i, 432 ≤ i → i < 528 → g' i = g i) : MBits used roots asked g' :=
  ⟨h.1, h.2.1, h.2.2.1, fun x hx => by rw [e _ (by omega) (by omega), e _ (by omega) (by omega)]; exact h.2.2.2 x hx⟩
theorem mt_ag {used : Int64} {sd tx ty g g' : Nat → Int32} (h : MTest used sd tx ty g) (e : ∀ i, 528 ≤ i → i < 552 → g' i = g i) : MTest used sd tx ty g' :=
  fun k hk => by rw [e _ (by omega) (by omega), e _ (by omega) (by omega), e _ (by omega) (by omega)]; exact h k hk
theorem mg_ag {used : Int64} {gx gy g g' : Nat → Int32} (h : MTrig used gx gy g) (e : ∀ i, 552 ≤ i → i < 568 → g' i = g i) : MTrig used gx gy g' :=
  fun k hk => by rw [e _ (by omega) (by omega), e _ (by omega) (by omega)]; exact h k hk
theorem me_ag {used : Int64} {en g g' : Nat → Int32} (h : MEnd used en g) (e : ∀ i, 568 ≤ i → i < 572 → g' i = g i) : MEnd used en g' :=
  fun k hk => by rw [e _ (by omega) (by omega)]; exact h k hk
theorem mn_ag {N : Nat} {nt g g' : Nat → Int32} (h : MNote N nt g) (e : ∀ i, 572 ≤ i → i < 633 → g' i = g i) : MNote N nt g' :=
  ⟨by rw [e _ (by omega) (by omega)]; exact h.1, fun k h1 h2 => by rw [e _ (by omega) (by omega)]; exact h.2 k h1 h2⟩
theorem who_ag {c : Vw} (W : VW c) {g g' w : Nat → Int32} (h : Who c g w) (e : ∀ i, i < 432 → g' i = g i) : Who c g' w :=
  ⟨fun v hv hk => by
    obtain ⟨u, a, b, d, n⟩ := h.1 v hv hk
    have := vw_lt W b
    exact ⟨u, a, b, d, by rw [e _ (by omega)]; exact n⟩, h.2.1, h.2.2⟩
theorem yr_join {c c' : Vw} (W : VW c) {id t : Nat → Nat} {g g' : Nat → Int32} {S : Nat → Nat → Prop} {Tc : Nat → Nat} (hY : YR c id g) (hs : Sol c S Tc) (hU : cU c' = cU c) (hT : ∀ x, cU c x → cT c' x = Tc x) (hK : ∀ x, cU c x → cK c' x = cK c (Tc x)) (hV : ∀ x, cU c x → cV c' x = cV c (Tc x)) (hM : ∀ x, cU c x → cM c' x = cM c (Tc x)) (hP : ∀ x, cU c x → ∀ k, cP c' x k = cP c (Tc x) k) (hl : Lst c t) (ht : ∀ x y, cU c x → cU c y → (t x = t y ↔ CC c S x y)) (hlo : ∀ x, x < 48 → g' x = nI (t x)) (hhi : ∀ i, 48 ≤ i → i < 432 → g' i = g i) : YR c' t g' := by
  obtain ⟨h1, h2, h3, h4, h5, h6⟩ := hY
  have tt : ∀ x y, cU c x → cU c y → (t x = t y ↔ Tc x = Tc y) := fun x y hx hy => (ht x y hx hy).trans (hs.1 x y hx hy).symm
  have tT : ∀ x y, cU c x → cU c y → cT c x = cT c y → Tc x = Tc y := fun x y hx hy e => (hs.1 x y hx hy).2 (cc_T hx hy e)
  refine ⟨fun x hx => ⟨hlo x hx, (hl x hx).1⟩, fun x hx hn => ?_, fun x hx => ?_, fun x y hx hy => ?_, fun x hx hn => ?_, fun x hx hk => ?_⟩
  · rw [hU] at hn
    have := h2 x hx hn
    rw [hhi _ (by omega) (by omega), hhi _ (by omega) (by omega)]
    exact ⟨(hl x hx).2.2 hn, this.2⟩
  · rw [hU] at hx ⊢
    have lx := vw_lt W hx
    have q := (hl x lx).2.1 hx
    rw [hhi _ (by omega) (by omega), hT x hx, hT _ q.2.1]
    exact ⟨(h3 x hx).1, q.1, q.2.1, (tt _ _ q.2.1 hx).1 q.2.2⟩
  · rw [hU] at hx hy
    rw [hT x hx, hT y hy]; exact tt x y hx hy
  · rw [hU] at hx
    have lx := vw_lt W hx
    rw [hhi _ (by omega) (by omega)] at hn
    obtain ⟨a, b, d, e, f, i⟩ := h5 x hx hn
    have ss := hs.2.2.2 x hx a
    have mx := vw_M W hx
    have uT := (hs.2.2.1 x hx).1
    unfold Tld
    rw [hK x hx, hM x hx, hV x hx, ss.1.1, ss.1.2.1, ss.1.2.2, hU, hhi _ (by omega) (by omega), hhi _ (by omega) (by omega), hhi _ (by omega) (by omega), hhi _ (by omega) (by omega)]
    refine ⟨a, b, d, e, f, fun k hk => ?_⟩
    obtain ⟨q, q1, q2, q3⟩ := i k hk
    refine ⟨q, by rw [hhi _ (by omega) (by omega)]; exact q1, q2, ?_⟩
    have pU := vw_P W uT (k := k) (by rw [ss.1.2.2]; exact hk)
    rw [hT q q2, hP x hx k, hT _ pU, ss.2 k hk]
    exact tT _ _ q2 (vw_P W hx hk) q3
  · rw [hU] at hx
    rw [hK x hx] at hk
    have uT := hs.2.2.1 x hx
    obtain ⟨u, a, b, d⟩ := h6 _ uT.1 hk
    have lu := vw_lt W a
    refine ⟨u, by rw [hU]; exact a, ?_, by rw [hhi _ (by omega) (by omega)]; exact d⟩
    rw [hT u a, hT x hx, tT _ _ a uT.1 b]
    exact uT.2.2
theorem yr_joinX {U : Nat → Prop} {p T rk kd mn pt : Nat → Nat} {val : Nat → Int32} (F : Fo U p T rk) (D : XD U p kd mn pt) {id t : Nat → Nat} {g g' : Nat → Int32} {S : Nat → Nat → Prop} {Tc : Nat → Nat} (hY : YR (xv U T kd mn pt val) id g) (hs : Sol (xv U T kd mn pt val) S Tc) (hl : Lst (xv U T kd mn pt val) t) (ht : ∀ x y, U x → U y → (t x = t y ↔ CC (xv U T kd mn pt val) S x y)) (hlo : ∀ x, x < 48 → g' x = nI (t x)) (hhi : ∀ i, 48 ≤ i → i < 432 → g' i = g i) : YR (xv U Tc kd mn pt val) t g' := by
  have e : ∀ x, U x → T (Tc x) = Tc x := fun x hx => (hs.2.2.1 x hx).2.1
  refine yr_join (xv_W F D) hY hs rfl (fun x hx => rfl) (fun x hx => ?_) (fun x hx => ?_) (fun x hx => ?_) (fun x hx k => ?_) hl ht hlo hhi
  · show kd (Tc x) = kd (T (Tc x)); rw [e x hx]
  · show val (Tc x) = val (T (Tc x)); rw [e x hx]
  · show (if kd (Tc x) = 2 then mn (Tc x) else 0) = (if kd (T (Tc x)) = 2 then mn (T (Tc x)) else 0); rw [e x hx]
  · show pt (3 * Tc x + k) = pt (3 * T (Tc x) + k); rw [e x hx]
theorem xd_join {U : Nat → Prop} {p T rk kd mn pt q rkc Tc : Nat → Nat} {val : Nat → Int32} (F : Fo U p T rk) (D : XD U p kd mn pt) {S : Nat → Nat → Prop} (Fq : Fo U q Tc rkc) (hs : Sol (xv U T kd mn pt val) S Tc) : XD U q kd mn pt := by
  intro x hx e
  have e1 := fo_top Fq hx e
  have e2 : T (Tc x) = Tc x := (hs.2.2.1 x hx).2.1
  rw [e1] at e2
  exact D x hx (fo_topI F hx e2)
/-- a free one can be made the same as any one -/
theorem cc_free {c : Vw} (W : VW c) {x y : Nat} (hx : cU c x) (hy : cU c y) (h0 : cK c x = 0) : ¬ Clash c (CC c (fun a b => a = x ∧ b = y)) := by
  intro ⟨z, w, hz, hw, h, kz, kw, n⟩
  have key : ∀ a, cU c a → cK c a ≠ 0 → ¬ cT c a = cT c x := fun a ha hk e => hk (by rw [vw_eK W ha hx e]; exact h0)
  have := cc_inU W (S := fun a b => a = x ∧ b = y) (t := fun a => if cT c a = cT c x then cT c y else cT c a) (fun a b ha hb e => by
      show (if _ then _ else _) = (if _ then _ else _)
      rw [e]) (fun a b h => by
      obtain ⟨rfl, rfl⟩ := h
      refine ⟨hx, hy, ?_⟩
      show (if _ then _ else _) = (if _ then _ else _)
      rw [if_pos rfl]
      by_cases e : cT c b = cT c a
      · rw [if_pos e]
      · rw [if_neg e]) (fun a b ha hb e h2 hs k hk => by
      have e : (if cT c a = cT c x then cT c y else cT c a) = (if cT c b = cT c x then cT c y else cT c b) := e
      rw [if_neg (key a ha (by omega)), if_neg (key b hb (by rw [← hs.1]; omega))] at e
      show (if _ then _ else _) = (if _ then _ else _)
      rw [vw_eP W ha hb e k]) h
  have this : (if cT c z = cT c x then cT c y else cT c z) = (if cT c w = cT c x then cT c y else cT c w) := this
  rw [if_neg (key z hz kz), if_neg (key w hw kw)] at this
  exact n (same_T W hz hw this)
section
variable {f_trials : Int32} {f_drafted : Int32} {f_found : Int32} {a_s : Nat → Int32} {a_saved : Nat → Int32} {a_draft : Nat → Int32} {a_who : Nat → Int32} {a_met : Nat → Int32} {a_stack : Nat → Int32} {a_fresh : Nat → Int32} {a_deep : Nat → Int32} {a_alike : Nat → Int64} {a_meets : Nat → Int64}
variable {c : Vw} {id : Nat → Nat}
theorem ye_tell (W : VW c) (hY : YR c id a_s) {x y : Nat} (hx : cU c x) (hy : cU c y) : ∃ r s', ((r = 1 ∧ ¬ Clash c (CC c (fun a b => a = x ∧ b = y)) ∧ ∃ t, Lst c t ∧ (∀ x' y', cU c x' → cU c y' → (t x' = t y' ↔ CC c (fun a b => a = x ∧ b = y) x' y')) ∧ (∀ i, i < 48 → s' i = nI (t i)) ∧ ∀ i, 48 ≤ i → i < 633 → s' i = a_s i) ∨ (r = 0 ∧ Clash c (CC c (fun a b => a = x ∧ b = y)) ∧ ∀ i, i < 633 → s' i = a_s i)) ∧ ∀ post : Int32 → SY → Prop, post (nI r) (f_trials, f_drafted, f_found, s', a_saved, a_draft, a_who, a_met, a_stack, a_fresh, a_deep, a_alike, a_meets) → wpY_tell post (f_trials, f_drafted, f_found, a_s, a_saved, a_draft, a_who, a_met, a_stack, a_fresh, a_deep, a_alike, a_meets) (nI x) (nI y) := by
  obtain ⟨⟨q, o⟩, ⟨r, s', h1, h4⟩, h3⟩ := d_wpY_tell (f_trials, f_drafted, f_found, a_s, a_saved, a_draft, a_who, a_met, a_stack, a_fresh, a_deep, a_alike, a_meets) (nI x) (nI y) (fun o => ∃ r s', ((r = 1 ∧ ¬ Clash c (CC c (fun a b => a = x ∧ b = y)) ∧ ∃ t, Lst c t ∧ (∀ x' y', cU c x' → cU c y' → (t x' = t y' ↔ CC c (fun a b => a = x ∧ b = y) x' y')) ∧ (∀ i, i < 48 → s' i = nI (t i)) ∧ ∀ i, 48 ≤ i → i < 633 → s' i = a_s i) ∨ (r = 0 ∧ Clash c (CC c (fun a b => a = x ∧ b = y)) ∧ ∀ i, i < 633 → s' i = a_s i)) ∧ o = (nI r, (f_trials, f_drafted, f_found, s', a_saved, a_draft, a_who, a_met, a_stack, a_fresh, a_deep, a_alike, a_meets)))
    (yw_tell W hY hx hy (fun t h1 h2 h3 => ⟨1, _, Or.inl ⟨rfl, h3, t, h1.1, h2, fun i hi => iz_lo hi, fun i h1 h2 => by rw [iz_hi (by omega), tz_lo h2]⟩, rfl⟩) (fun t h => ⟨0, _, Or.inr ⟨rfl, h, fun i hi => tz_lo hi⟩, rfl⟩))
  refine ⟨r, s', h1, fun post hp => h3 (fun o => post o.1 o.2) ?_⟩
  rw [h4]; exact hp
end
section
variable {f_used : Int64} {f_roots : Int64} {f_asked : Int64} {f_trailed : Int32} {f_bound : Int32} {f_pairs : Int32} {f_drafted : Int32} {f_noted : Int32} {f_trials : Int32} {f_mets : Int32} {f_classes : Int32} {a_up : Nat → Int32} {a_kind : Nat → Int32} {a_many : Nat → Int32} {a_parts : Nat → Int32} {a_value : Nat → Int32} {a_trail : Nat → Int32} {a_left : Nat → Int32} {a_right : Nat → Int32} {a_draft : Nat → Int32} {a_stands : Nat → Int32} {a_testX : Nat → Int32} {a_testY : Nat → Int32} {a_triggerX : Nat → Int32} {a_triggerY : Nat → Int32} {a_ends : Nat → Int32} {a_notes : Nat → Int32} {a_oldUsed : Nat → Int64} {a_oldRoots : Nat → Int64} {a_oldAsked : Nat → Int64} {a_oldStands : Nat → Int32} {a_oldTestX : Nat → Int32} {a_oldTestY : Nat → Int32} {a_oldTriggerX : Nat → Int32} {a_oldTriggerY : Nat → Int32} {a_oldEnds : Nat → Int32} {a_oldTrailed : Nat → Int32} {a_oldNoted : Nat → Int32} {a_met : Nat → Int32} {a_classOf : Nat → Int32} {a_finer : Nat → Int32} {a_image : Nat → Int32} {a_seen : Nat → Int32} {a_stack : Nat → Int32} {a_deep : Nat → Int32} {a_company : Nat → Int64} {a_greeted : Nat → Int64}
variable {p kd mn pt tr T rk : Nat → Nat} {tn : Nat} {U : Nat → Prop}
theorem xw_pull {post : SX → Prop} (F : Fo U p T rk) (D : XD U p kd mn pt) (E : TrOK U p kd tr tn) {N k x y : Nat} (hN : N + 1 < 2 ^ 31) (hk : k < 8) (ex : a_triggerX k = nI x) (ey : a_triggerY k = nI y) (hx : U x) (hy : U y)
    (hA : cK (xv U T kd mn pt a_value) x ≠ 0 → post (f_used, f_roots, f_asked, nI tn, f_bound, 0, f_drafted, nI N, f_trials, f_mets, f_classes, nA p, nA kd, nA mn, nA pt, a_value, nA tr, a_left, a_right, a_draft, a_stands, a_testX, a_testY, upd a_triggerX k (-1), a_triggerY, a_ends, a_notes, a_oldUsed, a_oldRoots, a_oldAsked, a_oldStands, a_oldTestX, a_oldTestY, a_oldTriggerX, a_oldTriggerY, a_oldEnds, a_oldTrailed, a_oldNoted, a_met, a_classOf, a_finer, a_image, a_seen, a_stack, a_deep, a_company, a_greeted))
    (hB : cK (xv U T kd mn pt a_value) x = 0 → ∀ b q Tc rkc tr' tn' al ar, Fo U q Tc rkc → Sol (xv U T kd mn pt a_value) (fun a b => a = x ∧ b = y) Tc → Ext U p kd tr tn q kd tr' tn' → post (f_used, f_roots, f_asked, nI tn', b, 0, f_drafted, nI (N + 1), f_trials, f_mets, f_classes, nA q, nA kd, nA mn, nA pt, a_value, nA tr', al, ar, a_draft, a_stands, a_testX, a_testY, upd a_triggerX k (-1), a_triggerY, a_ends, ntX a_notes N (nI (16 + k)), a_oldUsed, a_oldRoots, a_oldAsked, a_oldStands, a_oldTestX, a_oldTestY, a_oldTriggerX, a_oldTriggerY, a_oldEnds, a_oldTrailed, a_oldNoted, a_met, a_classOf, a_finer, a_image, a_seen, a_stack, a_deep, a_company, a_greeted)) : wpX_pull post (f_used, f_roots, f_asked, nI tn, f_bound, 0, f_drafted, nI N, f_trials, f_mets, f_classes, nA p, nA kd, nA mn, nA pt, a_value, nA tr, a_left, a_right, a_draft, a_stands, a_testX, a_testY, a_triggerX, a_triggerY, a_ends, a_notes, a_oldUsed, a_oldRoots, a_oldAsked, a_oldStands, a_oldTestX, a_oldTestY, a_oldTriggerX, a_oldTriggerY, a_oldEnds, a_oldTrailed, a_oldNoted, a_met, a_classOf, a_finer, a_image, a_seen, a_stack, a_deep, a_company, a_greeted) (nI k) := by
  have W : VW (xv U T kd mn pt a_value) := xv_W F D
  have kT := vw_K W (x := x) hx
  rw [xv_K] at kT
  show vp_in (nI k) 8 ∧ _
  rw [cl_n (k := k), ex, aL_16, vb_m1]
  refine ⟨in_n hk, nm_e (xw_isFree F hx (by omega) (fun e => ⟨in_n hk, nm_e (br_f (by decide) ?_)⟩) (fun e => ⟨in_n hk, nm_e (br_t rfl (hA e))⟩))⟩
  refine xw_note hN (by omega) ⟨in_n hk, ?_⟩
  rw [ey]
  refine xw_pair (np := 0) (by decide) (fo_lt F hx) (fo_lt F hy) ?_
  refine xw_join (np := 1) (lf := fun _ => x) (rt := fun _ => y) (S := fun a b => a = x ∧ b = y) F D (fun i hi => ?_) (fun i hi => ?_) (by decide) (fun i hi => ⟨hx, hy⟩) (fun a d => ?_) E ?_ ?_
  · rw [show i = 0 by omega]; exact pk_us
  · rw [show i = 0 by omega]; exact pk_us
  · exact ⟨fun ⟨e1, e2⟩ => ⟨0, by decide, e1.symm, e2.symm⟩, fun ⟨_, _, e1, e2⟩ => ⟨e1.symm, e2.symm⟩⟩
  · intro b q Tc rkc tr' tn' al ar lf rt Fq J Ex
    have hsol := ji_sol W (S := fun a b => a = x ∧ b = y) (Tc := Tc) (fun a d h => ⟨h.1 ▸ hx, h.2 ▸ hy⟩) (fun z hz => ⟨fo_T Fq hz, fo_TT Fq hz⟩) J
    exact hB e b q Tc rkc tr' tn' al ar Fq hsol Ex
  · intro b q tr' tn' al ar np hC Ex
    exact absurd hC (cc_free W hx hy e)
end
end
section
/-! settling, both sides turn by turn -/
def nWt (sd : Nat → Int32) : Nat := cnB (fun k => decide (sd k = 3)) 8
def nTg (gx : Nat → Int32) : Nat := cnB (fun k => decide (¬ gx k = -1)) 8
def SetI (B : Nat) (used roots asked : Int64) (c : Vw) (id : Nat → Nat) (sd tx ty gx gy en : Nat → Int32) (N : Nat) (nt s : Nat → Int32) : Prop := MBits used roots asked s ∧ MTest used sd tx ty s ∧ MTrig used gx gy s ∧ MEnd used en s ∧ MNote N nt s ∧ YR c id s ∧ N + (nWt sd + nTg gx) ≤ B
theorem nWt_le (sd : Nat → Int32) : nWt sd ≤ 8 := cnB_le _ 8
theorem nTg_le (gx : Nat → Int32) : nTg gx ≤ 8 := cnB_le _ 8
theorem nWt_d {sd : Nat → Int32} {t r : Nat} (ht : t < 8) (h : sd t = 3) (hr : r = 1 ∨ r = 2) : nWt sd = nWt (upd sd t (nI r)) + 1 := by
  refine cnB_one (x := t) 8 ht ?_ ?_ fun i _ hi => ?_
  · show decide (upd sd t (nI r) t = 3) = false
    rw [pk_us]
    rcases hr with rfl | rfl <;> decide
  · show decide (sd t = 3) = true
    rw [h]; rfl
  · show decide (upd sd t (nI r) i = 3) = decide (sd i = 3)
    rw [pk_un hi]
theorem nTg_d {gx : Nat → Int32} {k : Nat} (hk : k < 8) (h : ¬ gx k = -1) : nTg gx = nTg (upd gx k (-1)) + 1 := by
  refine cnB_one (x := k) 8 hk ?_ ?_ fun i _ hi => ?_
  · show decide (¬ upd gx k (-1) k = -1) = false
    rw [pk_us]; rfl
  · show decide (¬ gx k = -1) = true
    exact decide_eq_true h
  · show decide (¬ upd gx k (-1) i = -1) = decide (¬ gx i = -1)
    rw [pk_un hi]
theorem sDf_lo {s : Nat → Int32} {N t r i : Nat} (h : (i < 528 ∨ (552 ≤ i ∧ i < 572))) (ht : t < 8) : sDf s N t r i = s i := by
  unfold sDf
  by_cases e : r = 3
  · rw [if_pos e]
  · rw [if_neg e, ntY_lo (by omega), pk_un (by omega)]
theorem ND_le {N r : Nat} : N ≤ ND N r := by
  unfold ND
  by_cases e : r = 3
  · rw [if_pos e]; omega
  · rw [if_neg e]; omega
theorem ntD_lo {nt : Nat → Int32} {N t r k : Nat} (h : k < N) : ntD nt N t r k = nt k := by
  unfold ntD
  by_cases e : r = 3
  · rw [if_pos e]
  · rw [if_neg e, ntX_lo h]
section
variable {B : Nat} {used roots asked : Int64} {c : Vw} {id : Nat → Nat} {sd tx ty gx gy en nt s s' : Nat → Int32} {N : Nat}
theorem seti_dec (W : VW c) {t r : Nat} (h : (SetI B used roots asked c id sd tx ty gx gy en N nt s)) (ht : t < 8) (h3 : sd t = 3) (hr : r = 1 ∨ r = 2 ∨ r = 3) (e : ∀ i, i < 633 → s' i = sDf s N t r i) : (SetI B used roots asked c id (sdD sd t r) tx ty gx gy en (ND N r) (ntD nt N t r) s') := by
  obtain ⟨h1, h2, h4, h5, h6, h7, h8⟩ := h
  have lo : ∀ i, (i < 528 ∨ (552 ≤ i ∧ i < 572)) → s' i = s i := fun i hi => by rw [e i (by omega), sDf_lo hi ht]
  refine ⟨mb_ag h1 fun i a b => lo i (by omega), ?_, mg_ag h4 fun i a b => lo i (by omega), me_ag h5 fun i a b => lo i (by omega), ?_, yr_ag h7 (fun i hi => lo i (by omega)) W, ?_⟩
  · by_cases e3 : r = 3
    · have q : ∀ i, i < 633 → s' i = s i := fun i hi => by rw [e i hi, sDf, if_pos e3]
      rw [sdD, if_pos e3]
      exact mt_ag h2 fun i a b => q i (by omega)
    · rw [sdD, if_neg e3]
      have q : ∀ i, i < 572 → s' i = upd s (544 + t) (nI r) i := fun i hi => by rw [e i (by omega), sDf, if_neg e3, ntY_lo (by omega)]
      intro k hk
      obtain ⟨g1, g2, g3, g4, g5, g6, g7⟩ := h2 k hk
      rw [q _ (by omega), q _ (by omega), q _ (by omega), pk_un (by omega), pk_un (by omega)]
      by_cases z : k = t
      · subst z
        rw [pk_us, pk_us]
        refine ⟨g1, g2, rfl, g4, g5, sm_n (by omega), fun z => ?_⟩
        have : r = 3 := nI_inj (b := 3) z
        omega
      · rw [pk_un (by omega), pk_un z]
        exact ⟨g1, g2, g3, g4, g5, g6, g7⟩
  · by_cases e3 : r = 3
    · have q : ∀ i, i < 633 → s' i = s i := fun i hi => by rw [e i hi, sDf, if_pos e3]
      rw [ND, if_pos e3, ntD, if_pos e3]
      exact mn_ag h6 fun i a b => q i (by omega)
    · rw [ND, if_neg e3, ntD, if_neg e3]
      have q : ∀ i, i < 633 → s' i = ntY (upd s (544 + t) (nI r)) N (nI (if r = 1 then t else 8 + t)) i := fun i hi => by rw [e i hi, sDf, if_neg e3]
      exact mn_ag (note_m h6 fun i a b => pk_un (by omega)) fun i a b => q i (by omega)
  · by_cases e3 : r = 3
    · rw [ND, if_pos e3, sdD, if_pos e3]; exact h8
    · rw [ND, if_neg e3, sdD, if_neg e3]
      have := nWt_d (r := r) ht h3 (by omega)
      omega
theorem seti_trig (W : VW c) {k : Nat} (h : (SetI B used roots asked c id sd tx ty gx gy en N nt s)) (hk : k < 8) (hn : ¬ gx k = -1) : (SetI (B - 1) used roots asked c id sd tx ty (upd gx k (-1)) gy en N nt (upd s (552 + k) (-1))) := by
  obtain ⟨h1, h2, h4, h5, h6, h7, h8⟩ := h
  have hd := nTg_d hk hn
  refine ⟨mb_ag h1 fun i a b => pk_un (by omega), mt_ag h2 fun i a b => pk_un (by omega), fun j hj => ?_, me_ag h5 fun i a b => pk_un (by omega), mn_ag h6 fun i a b => pk_un (by omega), yr_ag h7 (fun i hi => pk_un (by omega)) W, by omega⟩
  obtain ⟨g1, g2, g3, g4, g5⟩ := h4 j hj
  rw [pk_un (j := 560 + j) (by omega)]
  by_cases z : j = k
  · subst z
    rw [pk_us, pk_us]
    exact ⟨rfl, g2, sm_m, g4, Or.inl rfl⟩
  · rw [pk_un (by omega), pk_un z]
    exact ⟨g1, g2, g3, g4, g5⟩
theorem seti_B {B' : Nat} (h : (SetI B used roots asked c id sd tx ty gx gy en N nt s)) (hB : B ≤ B') : (SetI B' used roots asked c id sd tx ty gx gy en N nt s) := ⟨h.1, h.2.1, h.2.2.1, h.2.2.2.1, h.2.2.2.2.1, h.2.2.2.2.2.1, Nat.le_trans h.2.2.2.2.2.2 hB⟩
theorem seti_note (W : VW c) {v : Int32} (h : (SetI B used roots asked c id sd tx ty gx gy en N nt s)) (hB : 0 < N + 1) : (SetI (B + 1) used roots asked c id sd tx ty gx gy en (N + 1) (ntX nt N v) (ntY s N v)) := by
  obtain ⟨h1, h2, h4, h5, h6, h7, h8⟩ := h
  exact ⟨mb_ag h1 fun i a b => ntY_lo (by omega), mt_ag h2 fun i a b => ntY_lo (by omega), mg_ag h4 fun i a b => ntY_lo (by omega), me_ag h5 fun i a b => ntY_lo (by omega), note_m h6 fun i a b => rfl, yr_ag h7 (fun i hi => ntY_lo (by omega)) W, by omega⟩
theorem seti_ids {c' : Vw} {id' : Nat → Nat} (h : (SetI B used roots asked c id sd tx ty gx gy en N nt s)) (hy : YR c' id' s') (e : ∀ i, 48 ≤ i → i < 633 → s' i = s i) : (SetI B used roots asked c' id' sd tx ty gx gy en N nt s') := by
  obtain ⟨h1, h2, h4, h5, h6, h7, h8⟩ := h
  exact ⟨mb_ag h1 fun i a b => e i (by omega) (by omega), mt_ag h2 fun i a b => e i (by omega) (by omega), mg_ag h4 fun i a b => e i (by omega) (by omega), me_ag h5 fun i a b => e i (by omega) (by omega), mn_ag h6 fun i a b => e i (by omega) (by omega), hy, h8⟩
end
section
variable {f_used : Int64} {f_roots : Int64} {f_asked : Int64} {f_trailed : Int32} {f_bound : Int32} {f_pairs : Int32} {f_drafted : Int32} {f_noted : Int32} {f_trials : Int32} {f_mets : Int32} {f_classes : Int32} {a_up : Nat → Int32} {a_kind : Nat → Int32} {a_many : Nat → Int32} {a_parts : Nat → Int32} {a_value : Nat → Int32} {a_trail : Nat → Int32} {a_left : Nat → Int32} {a_right : Nat → Int32} {a_draft : Nat → Int32} {a_stands : Nat → Int32} {a_testX : Nat → Int32} {a_testY : Nat → Int32} {a_triggerX : Nat → Int32} {a_triggerY : Nat → Int32} {a_ends : Nat → Int32} {a_notes : Nat → Int32} {a_oldUsed : Nat → Int64} {a_oldRoots : Nat → Int64} {a_oldAsked : Nat → Int64} {a_oldStands : Nat → Int32} {a_oldTestX : Nat → Int32} {a_oldTestY : Nat → Int32} {a_oldTriggerX : Nat → Int32} {a_oldTriggerY : Nat → Int32} {a_oldEnds : Nat → Int32} {a_oldTrailed : Nat → Int32} {a_oldNoted : Nat → Int32} {a_met : Nat → Int32} {a_classOf : Nat → Int32} {a_finer : Nat → Int32} {a_image : Nat → Int32} {a_seen : Nat → Int32} {a_stack : Nat → Int32} {a_deep : Nat → Int32} {a_company : Nat → Int64} {a_greeted : Nat → Int64}
variable {p kd mn pt tr T rk : Nat → Nat} {tn B L : Nat} {used roots asked : Int64} {id : Nat → Nat} {sd tx ty gx gy en nt s w sv : Nat → Int32} {N : Nat} {A : Nat → Int64}
theorem lev_tr {tr' : Nat → Nat} {N' : Nat} {nt' : Nat → Int32} (h : (Levs L used p kd mn pt a_value tr tn N nt a_oldUsed a_oldRoots a_oldAsked a_oldStands a_oldTestX a_oldTestY a_oldTriggerX a_oldTriggerY a_oldEnds a_oldTrailed a_oldNoted sv)) (ht : ∀ j, j < tn → tr' j = tr j) (hN : N ≤ N') (hn : ∀ k, k < N → k < 60 → nt' k = nt k) : (Levs L used p kd mn pt a_value tr' tn N' nt' a_oldUsed a_oldRoots a_oldAsked a_oldStands a_oldTestX a_oldTestY a_oldTriggerX a_oldTriggerY a_oldEnds a_oldTrailed a_oldNoted sv) :=
  lev_gen h (fun _ h => h) (Nat.le_refl _) ht hN (fun t _ x _ => by rw [uP_c ht]) (fun t _ x _ => by rw [uK_c ht]) (fun _ _ _ => ⟨rfl, rfl, fun _ _ => rfl⟩) hn
theorem lev_ext {U : Nat → Prop} {p' kd' tr' : Nat → Nat} {tn' N' : Nat} {nt' : Nat → Int32} (h : (Levs L used p kd mn pt a_value tr tn N nt a_oldUsed a_oldRoots a_oldAsked a_oldStands a_oldTestX a_oldTestY a_oldTriggerX a_oldTriggerY a_oldEnds a_oldTrailed a_oldNoted sv)) (ht : Ext U p kd tr tn p' kd' tr' tn') (hN : N ≤ N') (hn : ∀ k, k < N → k < 60 → nt' k = nt k) : (Levs L used p' kd' mn pt a_value tr' tn' N' nt' a_oldUsed a_oldRoots a_oldAsked a_oldStands a_oldTestX a_oldTestY a_oldTriggerX a_oldTriggerY a_oldEnds a_oldTrailed a_oldNoted sv) :=
  lev_gen h (fun _ h => h) ht.1 ht.2.1 hN (fun t ha x _ => by rw [ext_P ht ha]) (fun t ha x _ => by rw [ext_K ht ha]) (fun _ _ _ => ⟨rfl, rfl, fun _ _ => rfl⟩) hn
theorem tr_c {U : Nat → Prop} {tr' : Nat → Nat} (h : TrOK U p kd tr tn) (ht : ∀ j, j < tn → tr' j = tr j) : TrOK U p kd tr' tn :=
  ⟨fun j hj => by rw [ht j hj]; exact h.1 j hj, fun i j hi hj => by rw [ht i hi, ht j hj]; exact h.2 i j hi hj⟩
/-- where the reference stands, in its loop over the tests -/
def YT (f_trials f_drafted f_found : Int32) (a_s a_saved a_draft a_who a_met a_stack a_fresh a_deep : Nat → Int32) (a_alike a_meets : Nat → Int64) (i : Nat) (post : SY → Prop) : Prop := ∃ n n61, wY_settle_61 post (wY_settle_51 post n) n61 (nI i) f_trials f_drafted f_found a_s a_saved a_draft a_who a_met a_stack a_fresh a_deep a_alike a_meets
variable {yf1 yf2 yf3 : Int32} {y1 y2 y3 y4 y5 : Nat → Int32} {y6 : Nat → Int64}
theorem ls_tests {GY : (SY → Prop) → Prop} {post : SX → Prop} {J0 : Int64 → Int64 → Int64 → Int32 → Int32 → Int32 → Int32 → Int32 → Int32 → Int32 → Int32 → (Nat → Int32) → (Nat → Int32) → (Nat → Int32) → (Nat → Int32) → (Nat → Int32) → (Nat → Int32) → (Nat → Int32) → (Nat → Int32) → (Nat → Int32) → (Nat → Int32) → (Nat → Int32) → (Nat → Int32) → (Nat → Int32) → (Nat → Int32) → (Nat → Int32) → (Nat → Int32) → (Nat → Int64) → (Nat → Int64) → (Nat → Int64) → (Nat → Int32) → (Nat → Int32) → (Nat → Int32) → (Nat → Int32) → (Nat → Int32) → (Nat → Int32) → (Nat → Int32) → (Nat → Int32) → (Nat → Int32) → (Nat → Int32) → (Nat → Int32) → (Nat → Int32) → (Nat → Int32) → (Nat → Int32) → (Nat → Int32) → (Nat → Int64) → (Nat → Int64) →  Prop} (F : Fo (uB used) p T rk) (D : XD (uB used) p kd mn pt) (hA : AlOK (xv (uB used) T kd mn pt a_value) A) (hB : B < 2 ^ 30)
    (K : ∀ f_bound a_left a_right tr sd N nt s, (SetI B used roots asked (xv (uB used) T kd mn pt a_value) id sd tx ty gx gy en N nt s) → TrOK (uB used) p kd tr tn → (Levs L used p kd mn pt a_value tr tn N nt a_oldUsed a_oldRoots a_oldAsked a_oldStands a_oldTestX a_oldTestY a_oldTriggerX a_oldTriggerY a_oldEnds a_oldTrailed a_oldNoted sv) → Who (xv (uB used) T kd mn pt a_value) s w → (∀ post, YT yf1 yf2 yf3 s sv y1 w y2 y3 y4 y5 A y6 8 post → GY post) → wX_settle_2 post J0 1 (nI 8) used f_roots asked (nI tn) f_bound 0 f_drafted (nI N) f_trials f_mets f_classes (nA p) (nA kd) (nA mn) (nA pt) a_value (nA tr) a_left a_right a_draft sd tx ty gx gy a_ends nt a_oldUsed a_oldRoots a_oldAsked a_oldStands a_oldTestX a_oldTestY a_oldTriggerX a_oldTriggerY a_oldEnds a_oldTrailed a_oldNoted a_met a_classOf a_finer a_image a_seen a_stack a_deep a_company a_greeted) :
    ∀ d i f_bound a_left a_right tr sd N nt s, i + d = 8 → (SetI B used roots asked (xv (uB used) T kd mn pt a_value) id sd tx ty gx gy en N nt s) → TrOK (uB used) p kd tr tn → (Levs L used p kd mn pt a_value tr tn N nt a_oldUsed a_oldRoots a_oldAsked a_oldStands a_oldTestX a_oldTestY a_oldTriggerX a_oldTriggerY a_oldEnds a_oldTrailed a_oldNoted sv) → Who (xv (uB used) T kd mn pt a_value) s w → (∀ post, YT yf1 yf2 yf3 s sv y1 w y2 y3 y4 y5 A y6 i post → GY post) → wX_settle_2 post J0 (d + 1) (nI i) used f_roots asked (nI tn) f_bound 0 f_drafted (nI N) f_trials f_mets f_classes (nA p) (nA kd) (nA mn) (nA pt) a_value (nA tr) a_left a_right a_draft sd tx ty gx gy a_ends nt a_oldUsed a_oldRoots a_oldAsked a_oldStands a_oldTestX a_oldTestY a_oldTriggerX a_oldTriggerY a_oldEnds a_oldTrailed a_oldNoted a_met a_classOf a_finer a_image a_seen a_stack a_deep a_company a_greeted := by
  have W : VW (xv (uB used) T kd mn pt a_value) := xv_W F D
  intro d
  induction d with
  | zero =>
    intro i f_bound a_left a_right tr sd N nt s hi hI hT hL hw hG
    have : i = 8 := by omega
    subst this
    exact K f_bound a_left a_right tr sd N nt s hI hT hL hw hG
  | succ d ih =>
    intro i f_bound a_left a_right tr sd N nt s hi hI hT hL hw hG
    have h8 := hI.2.2.2.2.2.2
    have hY := hI.2.2.2.2.2.1
    have hg3 := (hI.2.1 i (by omega)).2.2.1
    refine wh_f (a := 8) (b := i) (by omega) ?_
    rw [cl_n (k := i)]
    refine ⟨in_n (by omega), ?_⟩
    by_cases e : sd i = 3
    · obtain ⟨r, s', hr, hs', hy⟩ := ye_decide (f_trials := yf1) (f_drafted := yf2) (f_found := yf3) (a_s := s) (a_saved := sv) (a_draft := y1) (a_who := w) (a_met := y2) (a_stack := y3) (a_fresh := y4) (a_deep := y5) (a_alike := A) (a_meets := y6) (N := N) W rfl hY hw hA (by omega) hI.2.2.2.2.1.1 (show i < 8 by omega) hI.2.1 e
      refine br_t e (xw_decide F D hT (by omega) (by omega) hI.2.1 e ?_)
      intro r' b tr' al ar hr' htr
      have : r' = r := dr_u W hr' hr
      subst this
      refine up1 (ih (i + 1) b al ar tr' _ _ _ s' (by omega) (seti_dec W hI (by omega) e (dr_r hr) hs') (tr_c hT htr) (lev_tr hL htr ND_le fun k hk _ => ntD_lo hk) (who_ag W hw fun j hj => by rw [hs' j (by omega), sDf_lo (by omega) (by omega)]) fun post hp => hG post ?_)
      obtain ⟨n, n61, hp⟩ := hp
      refine ⟨n, n61 + 1, wh_f (a := 8) (b := i) (by omega) ?_⟩
      rw [aL_544, cl_n (k := 544 + i), hg3]
      exact ⟨in_n (by omega), br_t e (hy _ (up1 hp))⟩
    · refine br_f e (up1 (ih (i + 1) f_bound a_left a_right tr sd N nt s (by omega) hI hT hL hw fun post hp => hG post ?_))
      obtain ⟨n, n61, hp⟩ := hp
      refine ⟨n, n61 + 1, wh_f (a := 8) (b := i) (by omega) ?_⟩
      rw [aL_544, cl_n (k := 544 + i), hg3]
      exact ⟨in_n (by omega), br_f e (up1 hp)⟩
end
end
section
/-! settling, both sides turn by turn: the rounds -/
section
variable {f_used : Int64} {f_roots : Int64} {f_asked : Int64} {f_trailed : Int32} {f_bound : Int32} {f_pairs : Int32} {f_drafted : Int32} {f_noted : Int32} {f_trials : Int32} {f_mets : Int32} {f_classes : Int32} {a_up : Nat → Int32} {a_kind : Nat → Int32} {a_many : Nat → Int32} {a_parts : Nat → Int32} {a_value : Nat → Int32} {a_trail : Nat → Int32} {a_left : Nat → Int32} {a_right : Nat → Int32} {a_draft : Nat → Int32} {a_stands : Nat → Int32} {a_testX : Nat → Int32} {a_testY : Nat → Int32} {a_triggerX : Nat → Int32} {a_triggerY : Nat → Int32} {a_ends : Nat → Int32} {a_notes : Nat → Int32} {a_oldUsed : Nat → Int64} {a_oldRoots : Nat → Int64} {a_oldAsked : Nat → Int64} {a_oldStands : Nat → Int32} {a_oldTestX : Nat → Int32} {a_oldTestY : Nat → Int32} {a_oldTriggerX : Nat → Int32} {a_oldTriggerY : Nat → Int32} {a_oldEnds : Nat → Int32} {a_oldTrailed : Nat → Int32} {a_oldNoted : Nat → Int32} {a_met : Nat → Int32} {a_classOf : Nat → Int32} {a_finer : Nat → Int32} {a_image : Nat → Int32} {a_seen : Nat → Int32} {a_stack : Nat → Int32} {a_deep : Nat → Int32} {a_company : Nat → Int64} {a_greeted : Nat → Int64}
variable {p kd mn pt tr T rk : Nat → Nat} {tn B L : Nat} {used roots asked : Int64} {id : Nat → Nat} {sd tx ty gx gy en nt s w sv : Nat → Int32} {N : Nat} {A : Nat → Int64}
variable {yf1 yf2 yf3 : Int32} {y1 y2 y3 y4 y5 : Nat → Int32} {y6 : Nat → Int64}
theorem seti_mid (F : Fo (uB used) p T rk) (D : XD (uB used) p kd mn pt) (hI : (SetI B used roots asked (xv (uB used) T kd mn pt a_value) id sd tx ty gx gy en N nt s)) (hT : TrOK (uB used) p kd tr tn) (hL : (Levs L used p kd mn pt a_value tr tn N nt a_oldUsed a_oldRoots a_oldAsked a_oldStands a_oldTestX a_oldTestY a_oldTriggerX a_oldTriggerY a_oldEnds a_oldTrailed a_oldNoted sv)) : (Mid L used roots asked p kd mn pt a_value tr tn sd tx ty gx gy en N nt a_oldUsed a_oldRoots a_oldAsked a_oldStands a_oldTestX a_oldTestY a_oldTriggerX a_oldTriggerY a_oldEnds a_oldTrailed a_oldNoted s sv) :=
  ⟨⟨⟨T, rk, id, F, D, hI.2.2.2.2.2.1⟩, hI.1, hI.2.1, hI.2.2.1, hI.2.2.2.1, hI.2.2.2.2.1⟩, hT, hL⟩
theorem least_u {P : Nat → Prop} {k j : Nat} (hk : P k) (hl : ∀ i, i < k → ¬ P i) (hj : P j) (hm : ∀ i, i < j → ¬ P i) : j = k := by
  by_cases h1 : j < k
  · exact absurd hj (hl j h1)
  · by_cases h2 : k < j
    · exact absurd hk (hm k h2)
    · omega
theorem ls_round {GY : (SY → Prop) → Prop} {post : SX → Prop} {n0 : Nat} (F : Fo (uB used) p T rk) (D : XD (uB used) p kd mn pt) (hB : B < 2 ^ 30)
    (ih : ∀ f_bound a_left a_right p T rk id tr tn gx sd N nt s w A, nTg gx < n0 → Fo (uB used) p T rk → XD (uB used) p kd mn pt → (SetI B used roots asked (xv (uB used) T kd mn pt a_value) id sd tx ty gx gy en N nt s) → TrOK (uB used) p kd tr tn → (Levs L used p kd mn pt a_value tr tn N nt a_oldUsed a_oldRoots a_oldAsked a_oldStands a_oldTestX a_oldTestY a_oldTriggerX a_oldTriggerY a_oldEnds a_oldTrailed a_oldNoted sv) → (∀ post, (∃ n, wY_settle_51 post n 1 yf1 yf2 yf3 s sv y1 w y2 y3 y4 y5 A y6) → GY post) → wX_settle_0 post n0 used f_roots asked (nI tn) f_bound 0 f_drafted (nI N) f_trials f_mets f_classes (nA p) (nA kd) (nA mn) (nA pt) a_value (nA tr) a_left a_right a_draft sd tx ty gx gy a_ends nt a_oldUsed a_oldRoots a_oldAsked a_oldStands a_oldTestX a_oldTestY a_oldTriggerX a_oldTriggerY a_oldEnds a_oldTrailed a_oldNoted a_met a_classOf a_finer a_image a_seen a_stack a_deep a_company a_greeted)
    (K : ∀ f_bound a_left a_right p tr tn gx sd N nt s w A, N ≤ B → (Mid L used roots asked p kd mn pt a_value tr tn sd tx ty gx gy en N nt a_oldUsed a_oldRoots a_oldAsked a_oldStands a_oldTestX a_oldTestY a_oldTriggerX a_oldTriggerY a_oldEnds a_oldTrailed a_oldNoted s sv) → (∀ post, post (yf1, yf2, yf3, s, sv, y1, w, y2, y3, y4, y5, A, y6) → GY post) → post (used, f_roots, asked, nI tn, f_bound, 0, f_drafted, nI N, f_trials, f_mets, f_classes, nA p, nA kd, nA mn, nA pt, a_value, nA tr, a_left, a_right, a_draft, sd, tx, ty, gx, gy, a_ends, nt, a_oldUsed, a_oldRoots, a_oldAsked, a_oldStands, a_oldTestX, a_oldTestY, a_oldTriggerX, a_oldTriggerY, a_oldEnds, a_oldTrailed, a_oldNoted, a_met, a_classOf, a_finer, a_image, a_seen, a_stack, a_deep, a_company, a_greeted))
    (hn0 : nTg gx ≤ n0) (hI : (SetI B used roots asked (xv (uB used) T kd mn pt a_value) id sd tx ty gx gy en N nt s)) (hT : TrOK (uB used) p kd tr tn) (hL : (Levs L used p kd mn pt a_value tr tn N nt a_oldUsed a_oldRoots a_oldAsked a_oldStands a_oldTestX a_oldTestY a_oldTriggerX a_oldTriggerY a_oldEnds a_oldTrailed a_oldNoted sv)) (hw : Who (xv (uB used) T kd mn pt a_value) s w) (hG : ∀ post, YT yf1 yf2 yf3 s sv y1 w y2 y3 y4 y5 A y6 8 post → GY post) : wX_settle_2 post (wX_settle_0 post n0) 1 (nI 8) used f_roots asked (nI tn) f_bound 0 f_drafted (nI N) f_trials f_mets f_classes (nA p) (nA kd) (nA mn) (nA pt) a_value (nA tr) a_left a_right a_draft sd tx ty gx gy a_ends nt a_oldUsed a_oldRoots a_oldAsked a_oldStands a_oldTestX a_oldTestY a_oldTriggerX a_oldTriggerY a_oldEnds a_oldTrailed a_oldNoted a_met a_classOf a_finer a_image a_seen a_stack a_deep a_company a_greeted := by
  have W : VW (xv (uB used) T kd mn pt a_value) := xv_W F D
  obtain ⟨h1, h2, h4, h5, h6, h7, h8⟩ := hI
  have hI : (SetI B used roots asked (xv (uB used) T kd mn pt a_value) id sd tx ty gx gy en N nt s) := ⟨h1, h2, h4, h5, h6, h7, h8⟩
  have hasked : ∀ k, uB asked k → uB used k := h1.2.2.1
  have htest : ∀ k, k < 8 → sd k = 3 → ∃ y, tx k = nI y ∧ uB used y := fun k hk h3 => ((h2 k hk).2.2.2.2.2.2 h3).1
  have h480 : ∀ k, k < 48 → s (480 + k) = nI (b01 (bL asked k)) := fun k hk => (h1.2.2.2 k hk).2
  have trigU : ∀ k, k < 8 → ∀ x, cU (xv (uB used) T kd mn pt a_value) x → gx k = nI x → ¬ gx k = -1 ∧ ∃ y, gy k = nI y ∧ uB used y := by
    intro k hk x hx ex
    have lx := vw_lt W hx
    have ne : ¬ gx k = -1 := by rw [ex]; exact nI_m1 (by omega)
    rcases (h4 k hk).2.2.2.2 with z | ⟨x', y, e1, e2, u1, u2⟩
    · exact absurd z ne
    · exact ⟨ne, y, e2, u2⟩
  refine wh_t (a := 8) (b := 8) (by omega) ?_
  by_cases hv : ∃ k, k < 8 ∧ TgV (xv (uB used) T kd mn pt a_value) gx k
  · obtain ⟨k, ⟨hk, hkv⟩, hkl⟩ := pk_least _ hv
    have hkl : ∀ j, j < k → ¬ TgV (xv (uB used) T kd mn pt a_value) gx j := fun j hj z => hkl j hj ⟨by omega, z⟩
    obtain ⟨x, hx, ex, kx⟩ := hkv
    obtain ⟨ne, y, ey, hy⟩ := trigU k hk x hx ex
    have hd := nTg_d hk ne
    refine xw_due F D hasked htest h4 (fun j hj jv jl => ?_) (fun hn => absurd ⟨x, hx, ex, kx⟩ (hn k hk)) (fun hn => absurd ⟨x, hx, ex, kx⟩ (hn k hk))
    have : j = k := least_u (P := TgV (xv (uB used) T kd mn pt a_value) gx) ⟨x, hx, ex, kx⟩ hkl jv jl
    subst this
    refine br_f (nI_nn (by omega)) (xw_pull F D hT (by omega) hk ex ey hx hy (fun _ => ?_) (fun z => absurd z kx))
    refine br_t (nI_pos' (by omega)) ?_
    refine ih f_bound a_left a_right p T rk id tr tn (upd gx j (-1)) sd N nt (upd s (552 + j) (-1)) w A (by omega) F D (seti_B (seti_trig W hI hk ne) (by omega)) hT hL fun post hp => hG post ?_
    obtain ⟨n, hp⟩ := hp
    refine ⟨n, 1, wh_t (a := 8) (b := 8) (by omega) (Exists.intro 9 (yw_next0 W rfl hw h4 (fun i hi iv il => ?_) (fun hn => absurd ⟨x, hx, ex, kx⟩ (hn j hk)) 9 0 (by omega) (by omega) fun i hi => absurd hi (by omega)))⟩
    have : i = j := least_u (P := TgV (xv (uB used) T kd mn pt a_value) gx) ⟨x, hx, ex, kx⟩ hkl iv il
    subst this
    refine br_t (nI_pos' (by omega)) (br_f (nI_nn (by omega)) (br_f (by decide) ?_))
    rw [aL_552, cl_n (k := 552 + i)]
    exact ⟨in_n (by omega), nm_e ⟨in_n (by omega), nm_e (br_f (nI_nn (by omega)) hp)⟩⟩
  · have hv : ∀ j, j < 8 → ¬ TgV (xv (uB used) T kd mn pt a_value) gx j := fun j hj z => hv ⟨j, hj, z⟩
    by_cases hn : ∃ k, k < 8 ∧ TgN (xv (uB used) T kd mn pt a_value) asked sd tx ty gx k
    · obtain ⟨k, ⟨hk, hkv⟩, hkl⟩ := pk_least _ hn
      have hkl : ∀ j, j < k → ¬ TgN (xv (uB used) T kd mn pt a_value) asked sd tx ty gx j := fun j hj z => hkl j hj ⟨by omega, z⟩
      have hkn := hkv
      obtain ⟨x, hx, ex, kx, nx⟩ := hkv
      obtain ⟨ne, y, ey, hy⟩ := trigU k hk x hx ex
      have hd := nTg_d hk ne
      refine xw_due F D hasked htest h4 (fun j hj jv => absurd jv (hv j hj)) (fun _ j hj jv jl => ?_) (fun _ hn => absurd hkn (hn k hk))
      have : j = k := least_u (P := TgN (xv (uB used) T kd mn pt a_value) asked sd tx ty gx) hkn hkl jv jl
      subst this
      -- the reference's side
      have hI1 : (SetI (B - 1) used roots asked (xv (uB used) T kd mn pt a_value) id sd tx ty (upd gx j (-1)) gy en N nt (upd s (552 + j) (-1))) := seti_trig W hI hk ne
      have hI2 : (SetI B used roots asked (xv (uB used) T kd mn pt a_value) id sd tx ty (upd gx j (-1)) gy en (N + 1) (ntX nt N (nI (16 + j))) (ntY (upd s (552 + j) (-1)) N (nI (16 + j)))) := seti_B (seti_note W (v := nI (16 + j)) hI1 (by omega)) (by omega)
      obtain ⟨r, s', hr, hyt⟩ := ye_tell (f_trials := yf1) (f_drafted := yf2) (f_found := yf3) (a_s := ntY (upd s (552 + j) (-1)) N (nI (16 + j))) (a_saved := sv) (a_draft := y1) (a_who := w) (a_met := y2) (a_stack := y3) (a_fresh := y4) (a_deep := y5) (a_alike := A) (a_meets := y6) W hI2.2.2.2.2.2.1 hx (y := y) hy
      have hnc := cc_free W hx (y := y) hy kx
      rcases hr with ⟨hr1, _, t, tl, tt, tlo, thi⟩ | ⟨_, hc, _⟩
      · refine br_f (nI_nn (by omega)) (xw_pull F D hT (by omega) hk ex ey hx hy (fun z => absurd kx z) (fun _ b q Tc rkc tr' tn' al ar Fq hsol Ex => ?_))
        refine br_t (nI_pos' (by omega)) ?_
        have hy' : YR (xv (uB used) Tc kd mn pt a_value) t s' := yr_joinX F D hI2.2.2.2.2.2.1 hsol tl tt tlo fun i h1 h2 => thi i h1 (by omega)
        refine ih b al ar q Tc rkc t tr' tn' (upd gx j (-1)) sd (N + 1) (ntX nt N (nI (16 + j))) s' w A (by omega) Fq (xd_join F D Fq hsol) (seti_ids hI2 hy' thi) Ex.2.2.2.2 (lev_ext hL Ex (by omega) fun k hk _ => ntX_lo hk) fun post hp => hG post ?_
        obtain ⟨n, hp⟩ := hp
        refine ⟨n, 1, wh_t (a := 8) (b := 8) (by omega) (Exists.intro 9 (yw_next0 W rfl hw h4 (fun i hi iv => absurd iv (hv i hi)) (fun _ => ?_) 9 0 (by omega) (by omega) fun i hi => absurd hi (by omega)))⟩
        refine br_f m1_n0 (Exists.intro 9 (yw_next1 W h7 rfl hasked h480 h2 hw h4 (fun i hi iv il => ?_) (fun hn => absurd hkn (hn j hk)) 9 0 (by omega) (by omega) fun i hi => absurd hi (by omega)))
        have : i = j := least_u (P := TgN (xv (uB used) T kd mn pt a_value) asked sd tx ty gx) hkn hkl iv il
        subst this
        refine br_f (nI_nn (by omega)) (br_f (by decide) ?_)
        rw [aL_552, aL_560, aL_16, cl_n (k := 552 + i), cl_n (k := 560 + i), (h4 i hk).1, ex]
        refine ⟨in_n (by omega), nm_e ⟨in_n (by omega), nm_e (br_t m1_neg (yw_note (N := N) (by omega) (by rw [pk_un (by omega)]; exact h6.1) ⟨in_n (by omega), ?_⟩))⟩⟩
        have e560 : ntY (upd s (552 + i) (-1)) N (nI (16 + i)) (560 + i) = nI y := by rw [ntY_lo (by omega), pk_un (by omega), (h4 i hk).2.1, ey]
        rw [e560]
        refine hyt _ ?_
        exact hp
      · exact absurd hc hnc
    · have hn : ∀ j, j < 8 → ¬ TgN (xv (uB used) T kd mn pt a_value) asked sd tx ty gx j := fun j hj z => hn ⟨j, hj, z⟩
      refine xw_due F D hasked htest h4 (fun j hj jv => absurd jv (hv j hj)) (fun _ j hj jv => absurd jv (hn j hj)) (fun _ _ => ?_)
      refine br_t m1_neg (br_f m1_n0 ?_)
      refine K f_bound a_left a_right p tr tn gx sd N nt s w A (by omega) (seti_mid F D hI hT hL) fun post hp => hG post ?_
      refine ⟨0, 1, wh_t (a := 8) (b := 8) (by omega) (Exists.intro 9 (yw_next0 W rfl hw h4 (fun i hi iv => absurd iv (hv i hi)) (fun _ => ?_) 9 0 (by omega) (by omega) fun i hi => absurd hi (by omega)))⟩
      refine br_f m1_n0 (Exists.intro 9 (yw_next1 W h7 rfl hasked h480 h2 hw h4 (fun i hi iv => absurd iv (hn i hi)) (fun _ => ?_) 9 0 (by omega) (by omega) fun i hi => absurd hi (by omega)))
      exact br_t m1_neg (br_t rfl hp)
theorem ls_settle0 {GY : (SY → Prop) → Prop} {post : SX → Prop} (hB : B < 2 ^ 30)
    (K : ∀ f_bound a_left a_right p tr tn gx sd N nt s w A, N ≤ B → (Mid L used roots asked p kd mn pt a_value tr tn sd tx ty gx gy en N nt a_oldUsed a_oldRoots a_oldAsked a_oldStands a_oldTestX a_oldTestY a_oldTriggerX a_oldTriggerY a_oldEnds a_oldTrailed a_oldNoted s sv) → (∀ post, post (yf1, yf2, yf3, s, sv, y1, w, y2, y3, y4, y5, A, y6) → GY post) → post (used, f_roots, asked, nI tn, f_bound, 0, f_drafted, nI N, f_trials, f_mets, f_classes, nA p, nA kd, nA mn, nA pt, a_value, nA tr, a_left, a_right, a_draft, sd, tx, ty, gx, gy, a_ends, nt, a_oldUsed, a_oldRoots, a_oldAsked, a_oldStands, a_oldTestX, a_oldTestY, a_oldTriggerX, a_oldTriggerY, a_oldEnds, a_oldTrailed, a_oldNoted, a_met, a_classOf, a_finer, a_image, a_seen, a_stack, a_deep, a_company, a_greeted)) :
    ∀ n0 f_bound a_left a_right p T rk id tr tn gx sd N nt s w A, nTg gx < n0 → Fo (uB used) p T rk → XD (uB used) p kd mn pt → (SetI B used roots asked (xv (uB used) T kd mn pt a_value) id sd tx ty gx gy en N nt s) → TrOK (uB used) p kd tr tn → (Levs L used p kd mn pt a_value tr tn N nt a_oldUsed a_oldRoots a_oldAsked a_oldStands a_oldTestX a_oldTestY a_oldTriggerX a_oldTriggerY a_oldEnds a_oldTrailed a_oldNoted sv) → (∀ post, (∃ n, wY_settle_51 post n 1 yf1 yf2 yf3 s sv y1 w y2 y3 y4 y5 A y6) → GY post) → wX_settle_0 post n0 used f_roots asked (nI tn) f_bound 0 f_drafted (nI N) f_trials f_mets f_classes (nA p) (nA kd) (nA mn) (nA pt) a_value (nA tr) a_left a_right a_draft sd tx ty gx gy a_ends nt a_oldUsed a_oldRoots a_oldAsked a_oldStands a_oldTestX a_oldTestY a_oldTriggerX a_oldTriggerY a_oldEnds a_oldTrailed a_oldNoted a_met a_classOf a_finer a_image a_seen a_stack a_deep a_company a_greeted := by
  intro n0
  induction n0 with
  | zero => intro _ _ _ _ _ _ _ _ _ gx _ _ _ _ _ _ h; omega
  | succ n0 ih =>
    intro f_bound a_left a_right p T rk id tr tn gx sd N nt s w A hn F D hI hT hL hG
    have W : VW (xv (uB used) T kd mn pt a_value) := xv_W F D
    obtain ⟨w', A', hw', hA', hrel⟩ := ye_relate (f_trials := yf1) (f_drafted := yf2) (f_found := yf3) (a_s := s) (a_saved := sv) (a_draft := y1) (a_who := w) (a_met := y2) (a_stack := y3) (a_fresh := y4) (a_deep := y5) (a_alike := A) (a_meets := y6) W hI.2.2.2.2.2.1
    refine Exists.intro 9 ?_
    refine ls_tests (GY := GY) (A := A') (w := w') (yf1 := yf1) (yf2 := yf2) (yf3 := yf3) (y1 := y1) (y2 := y2) (y3 := y3) (y4 := y4) (y5 := y5) (y6 := y6) F D hA' hB ?_ 8 0 f_bound a_left a_right tr sd N nt s (by omega) hI hT hL hw' ?_
    · intro f_bound a_left a_right tr sd N nt s hI hT hL hw hG
      exact ls_round F D hB ih K (by omega) hI hT hL hw hG
    · intro post ⟨n, n61, hp⟩
      exact hG post ⟨n + 1, br_f (by decide) (hrel _ ⟨n61, hp⟩)⟩
end
end
section
/-! settling as it is called; the relation -/
def t0 (L tn : Nat) : Nat := if L = 0 then 0 else tn
section
variable {f_used : Int64} {f_roots : Int64} {f_asked : Int64} {f_trailed : Int32} {f_bound : Int32} {f_pairs : Int32} {f_drafted : Int32} {f_noted : Int32} {f_trials : Int32} {f_mets : Int32} {f_classes : Int32} {a_up : Nat → Int32} {a_kind : Nat → Int32} {a_many : Nat → Int32} {a_parts : Nat → Int32} {a_value : Nat → Int32} {a_trail : Nat → Int32} {a_left : Nat → Int32} {a_right : Nat → Int32} {a_draft : Nat → Int32} {a_stands : Nat → Int32} {a_testX : Nat → Int32} {a_testY : Nat → Int32} {a_triggerX : Nat → Int32} {a_triggerY : Nat → Int32} {a_ends : Nat → Int32} {a_notes : Nat → Int32} {a_oldUsed : Nat → Int64} {a_oldRoots : Nat → Int64} {a_oldAsked : Nat → Int64} {a_oldStands : Nat → Int32} {a_oldTestX : Nat → Int32} {a_oldTestY : Nat → Int32} {a_oldTriggerX : Nat → Int32} {a_oldTriggerY : Nat → Int32} {a_oldEnds : Nat → Int32} {a_oldTrailed : Nat → Int32} {a_oldNoted : Nat → Int32} {a_met : Nat → Int32} {a_classOf : Nat → Int32} {a_finer : Nat → Int32} {a_image : Nat → Int32} {a_seen : Nat → Int32} {a_stack : Nat → Int32} {a_deep : Nat → Int32} {a_company : Nat → Int64} {a_greeted : Nat → Int64}
variable {p kd mn pt tr T rk : Nat → Nat} {tn B L : Nat} {used roots asked : Int64} {id : Nat → Nat} {sd tx ty gx gy en nt s w sv : Nat → Int32} {N : Nat} {A : Nat → Int64}
variable {yf1 yf2 yf3 : Int32} {y1 y2 y3 y4 y5 : Nat → Int32} {y6 : Nat → Int64}
def Act (sd gx : Nat → Int32) : Prop := ∃ k, k < 8 ∧ (sd k = 3 ∨ ¬ gx k = -1)
theorem yw_set4 {post : SY → Prop} (h2 : MTest used sd tx ty s) (h4 : MTrig used gx gy s) (h1 : Act sd gx → ∃ n, wY_settle_51 post n 1 yf1 yf2 yf3 s sv y1 w y2 y3 y4 y5 A y6) (h0 : ¬ Act sd gx → post (yf1, yf2, yf3, s, sv, y1, w, y2, y3, y4, y5, A, y6)) : ∀ n i r, i ≤ 8 → 8 - i < n → (r = 0 ∨ r = 1) → (r = 1 → Act sd gx) → (r = 0 → ∀ k, k < i → ¬ (sd k = 3 ∨ ¬ gx k = -1)) → wY_settle_4 post yf1 yf2 yf3 s sv y1 w y2 y3 y4 y5 A y6 n (nI r) (nI i) := by
  intro n
  induction n with
  | zero => intro i _ _ h; omega
  | succ n ih =>
    intro i r hi hn hr ha hb
    by_cases e : i = 8
    · subst e
      refine wh_t (a := 8) (b := 8) (by omega) ?_
      rcases hr with rfl | rfl
      · exact Exists.intro 1 (br_t rfl (h0 fun ⟨k, hk, z⟩ => hb rfl k hk z))
      · exact h1 (ha rfl)
    · obtain ⟨_, _, g3, _⟩ := h2 i (by omega)
      obtain ⟨g1, _, gs, _⟩ := h4 i (by omega)
      refine wh_f (a := 8) (b := i) (by omega) ?_
      rw [aL_544, aL_552, cl_n (k := 544 + i), cl_n (k := 552 + i), g3, g1]
      have q1 : nI r ||| 1 = nI 1 := by rcases hr with rfl | rfl <;> decide
      have q0 : nI r ||| 0 = nI r := by rcases hr with rfl | rfl <;> decide
      have yes : (sd i = 3 ∨ ¬ gx i = -1) → wY_settle_4 post yf1 yf2 yf3 s sv y1 w y2 y3 y4 y5 A y6 n (nI 1) (nI (i + 1)) := fun z => ih (i + 1) 1 (by omega) (by omega) (Or.inr rfl) (fun _ => ⟨i, by omega, z⟩) fun q => absurd q (by decide)
      refine ⟨in_n (by omega), br_c (fun z => nmr _ q1 (up1 (yes (Or.inl z)))) fun z => ⟨in_n (by omega), br_c (fun z2 => nmr _ q0 (up1 (ih (i + 1) r (by omega) (by omega) hr ha fun q k hk => ?_))) fun z2 => nmr _ q1 (up1 (yes (Or.inr fun q => z2 (by rw [q]; exact m1_neg))))⟩⟩
      by_cases z3 : k = i
      · rw [z3]
        intro z4
        rcases z4 with z4 | z4
        · exact z z4
        · exact z4 (sm_neg gs z2)
      · exact hb q k (by omega)
theorem xw_idle2 {post : SX → Prop} {J0 : Int64 → Int64 → Int64 → Int32 → Int32 → Int32 → Int32 → Int32 → Int32 → Int32 → Int32 → (Nat → Int32) → (Nat → Int32) → (Nat → Int32) → (Nat → Int32) → (Nat → Int32) → (Nat → Int32) → (Nat → Int32) → (Nat → Int32) → (Nat → Int32) → (Nat → Int32) → (Nat → Int32) → (Nat → Int32) → (Nat → Int32) → (Nat → Int32) → (Nat → Int32) → (Nat → Int32) → (Nat → Int64) → (Nat → Int64) → (Nat → Int64) → (Nat → Int32) → (Nat → Int32) → (Nat → Int32) → (Nat → Int32) → (Nat → Int32) → (Nat → Int32) → (Nat → Int32) → (Nat → Int32) → (Nat → Int32) → (Nat → Int32) → (Nat → Int32) → (Nat → Int32) → (Nat → Int32) → (Nat → Int32) → (Nat → Int32) → (Nat → Int64) → (Nat → Int64) →  Prop} (F : Fo (uB used) p T rk) (D : XD (uB used) p kd mn pt) (hM : MBits used roots asked s) (h4 : MTrig used gx gy s) (hn : ¬ Act sd gx) (hp : post (used, roots, asked, nI tn, f_bound, 0, f_drafted, nI N, nI L, f_mets, f_classes, nA p, nA kd, nA mn, nA pt, a_value, nA tr, a_left, a_right, a_draft, sd, tx, ty, gx, gy, en, nt, a_oldUsed, a_oldRoots, a_oldAsked, a_oldStands, a_oldTestX, a_oldTestY, a_oldTriggerX, a_oldTriggerY, a_oldEnds, a_oldTrailed, a_oldNoted, a_met, a_classOf, a_finer, a_image, a_seen, a_stack, a_deep, a_company, a_greeted)) : ∀ d i, i + d = 8 → wX_settle_2 post J0 (d + 1) (nI i) used roots asked (nI tn) f_bound 0 f_drafted (nI N) (nI L) f_mets f_classes (nA p) (nA kd) (nA mn) (nA pt) a_value (nA tr) a_left a_right a_draft sd tx ty gx gy en nt a_oldUsed a_oldRoots a_oldAsked a_oldStands a_oldTestX a_oldTestY a_oldTriggerX a_oldTriggerY a_oldEnds a_oldTrailed a_oldNoted a_met a_classOf a_finer a_image a_seen a_stack a_deep a_company a_greeted := by
  have W : VW (xv (uB used) T kd mn pt a_value) := xv_W F D
  have n1 : ∀ k, k < 8 → ¬ sd k = 3 := fun k hk z => hn ⟨k, hk, Or.inl z⟩
  have n2 : ∀ k, k < 8 → gx k = -1 := fun k hk => Classical.not_not.1 fun z => hn ⟨k, hk, Or.inr z⟩
  intro d
  induction d with
  | zero =>
    intro i hi
    have : i = 8 := by omega
    subst this
    refine wh_t (a := 8) (b := 8) (by omega) (xw_due F D hM.2.2.1 (fun k hk z => absurd z (n1 k hk)) h4 (fun k hk z => absurd z (tg_m1 W (n2 k hk))) (fun _ k hk z => absurd z (tn_m1 W (n2 k hk))) (fun _ _ => br_t m1_neg (br_f m1_n0 hp)))
  | succ d ih =>
    intro i hi
    refine wh_f (a := 8) (b := i) (by omega) ?_
    rw [cl_n (k := i)]
    exact ⟨in_n (by omega), br_f (n1 i (by omega)) (up1 (ih (i + 1) (by omega)))⟩
theorem xy_settle {GY : (SY → Prop) → Prop} {post : SX → Prop} (hM : (Mid L used roots asked p kd mn pt a_value tr tn sd tx ty gx gy en N nt a_oldUsed a_oldRoots a_oldAsked a_oldStands a_oldTestX a_oldTestY a_oldTriggerX a_oldTriggerY a_oldEnds a_oldTrailed a_oldNoted s sv)) (hN : N + 16 < 2 ^ 30) (HY : ∀ post, wpY_settle post (yf1, yf2, yf3, s, sv, y1, w, y2, y3, y4, y5, A, y6) → GY post)
    (K : ∀ f_bound a_left a_right p tr tn gx sd N' nt s w A, N' ≤ N + 16 → (Mid L used roots asked p kd mn pt a_value tr tn sd tx ty gx gy en N' nt a_oldUsed a_oldRoots a_oldAsked a_oldStands a_oldTestX a_oldTestY a_oldTriggerX a_oldTriggerY a_oldEnds a_oldTrailed a_oldNoted s sv) → (∀ post, post (yf1, yf2, yf3, s, sv, y1, w, y2, y3, y4, y5, A, y6) → GY post) → post (used, roots, asked, nI tn, f_bound, 0, f_drafted, nI N', nI L, f_mets, f_classes, nA p, nA kd, nA mn, nA pt, a_value, nA tr, a_left, a_right, a_draft, sd, tx, ty, gx, gy, en, nt, a_oldUsed, a_oldRoots, a_oldAsked, a_oldStands, a_oldTestX, a_oldTestY, a_oldTriggerX, a_oldTriggerY, a_oldEnds, a_oldTrailed, a_oldNoted, a_met, a_classOf, a_finer, a_image, a_seen, a_stack, a_deep, a_company, a_greeted)) : wpX_settle post (used, roots, asked, nI tn, f_bound, 0, f_drafted, nI N, nI L, f_mets, f_classes, nA p, nA kd, nA mn, nA pt, a_value, nA tr, a_left, a_right, a_draft, sd, tx, ty, gx, gy, en, nt, a_oldUsed, a_oldRoots, a_oldAsked, a_oldStands, a_oldTestX, a_oldTestY, a_oldTriggerX, a_oldTriggerY, a_oldEnds, a_oldTrailed, a_oldNoted, a_met, a_classOf, a_finer, a_image, a_seen, a_stack, a_deep, a_company, a_greeted) := by
  obtain ⟨⟨⟨T, rk, id, F, D, Y⟩, m1, m2, m3, m4, m5⟩, hT, hL⟩ := hM
  have a1 := nWt_le sd
  have a2 := nTg_le gx
  have hI : (SetI (N + 16) used roots asked (xv (uB used) T kd mn pt a_value) id sd tx ty gx gy en N nt s) := ⟨m1, m2, m3, m4, m5, Y, by omega⟩
  by_cases ha : Act sd gx
  · refine Exists.intro (nTg gx + 1) (ls_settle0 (GY := GY) (B := N + 16) (yf1 := yf1) (yf2 := yf2) (yf3 := yf3) (y1 := y1) (y2 := y2) (y3 := y3) (y4 := y4) (y5 := y5) (y6 := y6) hN ?_ _ f_bound a_left a_right p T rk id tr tn gx sd N nt s w A (by omega) F D hI hT hL fun post hp => HY post ?_)
    · intro f_bound a_left a_right p tr tn gx sd N' nt s w A h1 h2 h3
      exact K f_bound a_left a_right p tr tn gx sd N' nt s w A h1 h2 h3
    · exact Exists.intro 9 (yw_set4 m2 m3 (fun _ => hp) (fun z => absurd ha z) 9 0 0 (by omega) (by omega) (Or.inl rfl) (fun z => absurd z (by decide)) fun _ k hk => absurd hk (by omega))
  · refine Exists.intro 1 (Exists.intro 9 (xw_idle2 F D m1 m3 ha ?_ 8 0 (by omega)))
    refine K f_bound a_left a_right p tr tn gx sd N nt s w A (by omega) ⟨⟨⟨T, rk, id, F, D, Y⟩, m1, m2, m3, m4, m5⟩, hT, hL⟩ fun post hp => HY post ?_
    exact Exists.intro 9 (yw_set4 m2 m3 (fun z => absurd z ha) (fun _ => hp) 9 0 0 (by omega) (by omega) (Or.inl rfl) (fun z => absurd z (by decide)) fun _ k hk => absurd hk (by omega))
theorem mid_t0 (h : (Mid L used roots asked p kd mn pt a_value tr tn sd tx ty gx gy en N nt a_oldUsed a_oldRoots a_oldAsked a_oldStands a_oldTestX a_oldTestY a_oldTriggerX a_oldTriggerY a_oldEnds a_oldTrailed a_oldNoted s sv)) : (Mid L used roots asked p kd mn pt a_value tr (t0 L tn) sd tx ty gx gy en N nt a_oldUsed a_oldRoots a_oldAsked a_oldStands a_oldTestX a_oldTestY a_oldTriggerX a_oldTriggerY a_oldEnds a_oldTrailed a_oldNoted s sv) := by
  by_cases e : L = 0
  · obtain ⟨a, b, c⟩ := h
    rw [t0, if_pos e]
    refine ⟨a, ⟨fun j hj => absurd hj (by omega), fun i j hi => absurd hi (by omega)⟩, (fun _ => 0), (fun _ => 0), fun m hm => ?_⟩
    omega
  · rw [t0, if_neg e]; exact h
theorem mid_tr {tr' : Nat → Nat} (h : (Mid L used roots asked p kd mn pt a_value tr tn sd tx ty gx gy en N nt a_oldUsed a_oldRoots a_oldAsked a_oldStands a_oldTestX a_oldTestY a_oldTriggerX a_oldTriggerY a_oldEnds a_oldTrailed a_oldNoted s sv)) (ht : ∀ j, j < tn → tr' j = tr j) : (Mid L used roots asked p kd mn pt a_value tr' tn sd tx ty gx gy en N nt a_oldUsed a_oldRoots a_oldAsked a_oldStands a_oldTestX a_oldTestY a_oldTriggerX a_oldTriggerY a_oldEnds a_oldTrailed a_oldNoted s sv) := ⟨h.1, tr_c h.2.1 ht, lev_tr h.2.2 ht (Nat.le_refl _) fun _ _ _ => rfl⟩
theorem xy_again {GY : (SY → Prop) → Prop} {post : SX → Prop} (hM : (Mid L used roots asked p kd mn pt a_value tr tn sd tx ty gx gy en N nt a_oldUsed a_oldRoots a_oldAsked a_oldStands a_oldTestX a_oldTestY a_oldTriggerX a_oldTriggerY a_oldEnds a_oldTrailed a_oldNoted s sv)) (hL : L ≤ 3) (hN : N + 16 < 2 ^ 30) (HY : ∀ post, wpY_settle post (yf1, yf2, yf3, s, sv, y1, w, y2, y3, y4, y5, A, y6) → GY post)
    (K : ∀ f_bound a_left a_right p tr tn gx sd N' nt s w A, N' ≤ N + 16 → (L = 0 → tn = 0) → (Mid L used roots asked p kd mn pt a_value tr tn sd tx ty gx gy en N' nt a_oldUsed a_oldRoots a_oldAsked a_oldStands a_oldTestX a_oldTestY a_oldTriggerX a_oldTriggerY a_oldEnds a_oldTrailed a_oldNoted s sv) → (∀ post, post (yf1, yf2, yf3, s, sv, y1, w, y2, y3, y4, y5, A, y6) → GY post) → post (used, roots, asked, nI tn, f_bound, 0, f_drafted, nI N', nI L, f_mets, f_classes, nA p, nA kd, nA mn, nA pt, a_value, nA tr, a_left, a_right, a_draft, sd, tx, ty, gx, gy, en, nt, a_oldUsed, a_oldRoots, a_oldAsked, a_oldStands, a_oldTestX, a_oldTestY, a_oldTriggerX, a_oldTriggerY, a_oldEnds, a_oldTrailed, a_oldNoted, a_met, a_classOf, a_finer, a_image, a_seen, a_stack, a_deep, a_company, a_greeted)) : wpX_again post (used, roots, asked, nI tn, f_bound, 0, f_drafted, nI N, nI L, f_mets, f_classes, nA p, nA kd, nA mn, nA pt, a_value, nA tr, a_left, a_right, a_draft, sd, tx, ty, gx, gy, en, nt, a_oldUsed, a_oldRoots, a_oldAsked, a_oldStands, a_oldTestX, a_oldTestY, a_oldTriggerX, a_oldTriggerY, a_oldEnds, a_oldTrailed, a_oldNoted, a_met, a_classOf, a_finer, a_image, a_seen, a_stack, a_deep, a_company, a_greeted) := by
  unfold wpX_again
  refine xy_settle hM hN HY ?_
  intro f_bound a_left a_right p tr tn gx sd N' nt s w A h1 h2 h3
  by_cases e : L = 0
  · refine br_t (by rw [e]; rfl) ?_
    have := mid_t0 h2
    rw [t0, if_pos e] at this
    exact K f_bound a_left a_right p tr 0 gx sd N' nt s w A h1 (fun _ => rfl) this h3
  · exact br_f (fun z => e (nI_inj (b := 0) z)) (K f_bound a_left a_right p tr tn gx sd N' nt s w A h1 (fun z => absurd z e) h2 h3)
theorem xw_fin21 {post : Int32 → SX → Prop} {r : Nat} (hr : r = 0 ∨ r = 1) (hL : L ≤ 3) (h : post (if r = 0 then 2 else 1) (used, roots, asked, nI (t0 L tn), f_bound, 0, f_drafted, nI N, nI L, f_mets, f_classes, nA p, nA kd, nA mn, nA pt, a_value, nA tr, a_left, a_right, a_draft, sd, tx, ty, gx, gy, en, nt, a_oldUsed, a_oldRoots, a_oldAsked, a_oldStands, a_oldTestX, a_oldTestY, a_oldTriggerX, a_oldTriggerY, a_oldEnds, a_oldTrailed, a_oldNoted, a_met, a_classOf, a_finer, a_image, a_seen, a_stack, a_deep, a_company, a_greeted)) : wX_finishes_21 post (nI r) used roots asked (nI tn) f_bound 0 f_drafted (nI N) (nI L) f_mets f_classes (nA p) (nA kd) (nA mn) (nA pt) a_value (nA tr) a_left a_right a_draft sd tx ty gx gy en nt a_oldUsed a_oldRoots a_oldAsked a_oldStands a_oldTestX a_oldTestY a_oldTriggerX a_oldTriggerY a_oldEnds a_oldTrailed a_oldNoted a_met a_classOf a_finer a_image a_seen a_stack a_deep a_company a_greeted := by
  by_cases e : L = 0
  · rw [t0, if_pos e] at h
    refine And.intro (fun _ => ?_) (fun z => absurd (by rw [e]; rfl) z)
    rcases hr with rfl | rfl
    · exact br_t rfl h
    · exact br_f (by decide) h
  · rw [t0, if_neg e] at h
    refine And.intro (fun z => absurd (nI_inj (b := 0) z) e) (fun _ => ?_)
    rcases hr with rfl | rfl
    · exact br_t rfl h
    · exact br_f (by decide) h
theorem xw_fin_no {post : Int32 → SX → Prop} {q tr' : Nat → Nat} {tn' : Nat} {fp : Int32} {U : Nat → Prop} (E : Ext U p kd tr tn q kd tr' tn') (hL : L ≤ 3) (h : post 2 (used, roots, asked, nI (t0 L tn), f_bound, 0, f_drafted, nI N, nI L, f_mets, f_classes, nA p, nA kd, nA mn, nA pt, a_value, nA tr', a_left, a_right, a_draft, sd, tx, ty, gx, gy, en, nt, a_oldUsed, a_oldRoots, a_oldAsked, a_oldStands, a_oldTestX, a_oldTestY, a_oldTriggerX, a_oldTriggerY, a_oldEnds, a_oldTrailed, a_oldNoted, a_met, a_classOf, a_finer, a_image, a_seen, a_stack, a_deep, a_company, a_greeted)) : wpX_finishes post (used, roots, asked, nI tn', f_bound, fp, f_drafted, nI N, nI L, f_mets, f_classes, nA q, nA kd, nA mn, nA pt, a_value, nA tr', a_left, a_right, a_draft, sd, tx, ty, gx, gy, en, nt, a_oldUsed, a_oldRoots, a_oldAsked, a_oldStands, a_oldTestX, a_oldTestY, a_oldTriggerX, a_oldTriggerY, a_oldEnds, a_oldTrailed, a_oldNoted, a_met, a_classOf, a_finer, a_image, a_seen, a_stack, a_deep, a_company, a_greeted) 0 (nI tn) := by
  refine And.intro (fun _ => xw_back E.2.2.2.2 E.1 ?_) (fun z => absurd rfl z)
  rw [E.2.2.1, E.2.2.2.1]
  exact xw_fin21 (r := 0) (Or.inl rfl) hL h
theorem xy_fin_yes {GY : (SY → Prop) → Prop} {post : Int32 → SX → Prop} {fp v : Int32} (hM : (Mid L used roots asked p kd mn pt a_value tr tn sd tx ty gx gy en N nt a_oldUsed a_oldRoots a_oldAsked a_oldStands a_oldTestX a_oldTestY a_oldTriggerX a_oldTriggerY a_oldEnds a_oldTrailed a_oldNoted s sv)) (hL : L ≤ 3) (hN : N + 16 < 2 ^ 30) (HY : ∀ post, wpY_settle post (yf1, yf2, yf3, s, sv, y1, w, y2, y3, y4, y5, A, y6) → GY post)
    (K : ∀ f_bound a_left a_right p tr tn gx sd N' nt s w A, N' ≤ N + 16 → (L = 0 → tn = 0) → (Mid L used roots asked p kd mn pt a_value tr tn sd tx ty gx gy en N' nt a_oldUsed a_oldRoots a_oldAsked a_oldStands a_oldTestX a_oldTestY a_oldTriggerX a_oldTriggerY a_oldEnds a_oldTrailed a_oldNoted s sv) → (∀ post, post (yf1, yf2, yf3, s, sv, y1, w, y2, y3, y4, y5, A, y6) → GY post) → post 1 (used, roots, asked, nI tn, f_bound, 0, f_drafted, nI N', nI L, f_mets, f_classes, nA p, nA kd, nA mn, nA pt, a_value, nA tr, a_left, a_right, a_draft, sd, tx, ty, gx, gy, en, nt, a_oldUsed, a_oldRoots, a_oldAsked, a_oldStands, a_oldTestX, a_oldTestY, a_oldTriggerX, a_oldTriggerY, a_oldEnds, a_oldTrailed, a_oldNoted, a_met, a_classOf, a_finer, a_image, a_seen, a_stack, a_deep, a_company, a_greeted)) : wpX_finishes post (used, roots, asked, nI tn, f_bound, fp, f_drafted, nI N, nI L, f_mets, f_classes, nA p, nA kd, nA mn, nA pt, a_value, nA tr, a_left, a_right, a_draft, sd, tx, ty, gx, gy, en, nt, a_oldUsed, a_oldRoots, a_oldAsked, a_oldStands, a_oldTestX, a_oldTestY, a_oldTriggerX, a_oldTriggerY, a_oldEnds, a_oldTrailed, a_oldNoted, a_met, a_classOf, a_finer, a_image, a_seen, a_stack, a_deep, a_company, a_greeted) 1 v := by
  refine And.intro (fun z => absurd z (by decide)) (fun _ => xy_settle hM hN HY ?_)
  intro f_bound a_left a_right p tr tn gx sd N' nt s w A h1 h2 h3
  refine xw_fin21 (r := 1) (Or.inr rfl) hL ?_
  refine K f_bound a_left a_right p tr (t0 L tn) gx sd N' nt s w A h1 (fun z => ?_) (mid_t0 h2) h3
  rw [t0, if_pos z]
end
/-- what stands between the calls -/
def RelF (k L dn N tn : Nat) (a_draft y1 : Nat → Int32) (dr : Nat → Nat) : Prop := L ≤ 3 ∧ (L = 0 → tn = 0) ∧ N ≤ 4 * k ∧ dn ≤ 3 ∧ ∀ j, j < 3 → a_draft j = nI (dr j) ∧ y1 j = nI (dr j) ∧ dr j < 48
def i_Rel (k : Nat) (u : SX) (v : SY) : Prop := ∃ f_bound : Int32, ∃ f_mets : Int32, ∃ f_classes : Int32, ∃ a_value : Nat → Int32, ∃ a_left : Nat → Int32, ∃ a_right : Nat → Int32, ∃ a_draft : Nat → Int32, ∃ a_oldUsed : Nat → Int64, ∃ a_oldRoots : Nat → Int64, ∃ a_oldAsked : Nat → Int64, ∃ a_oldStands : Nat → Int32, ∃ a_oldTestX : Nat → Int32, ∃ a_oldTestY : Nat → Int32, ∃ a_oldTriggerX : Nat → Int32, ∃ a_oldTriggerY : Nat → Int32, ∃ a_oldEnds : Nat → Int32, ∃ a_oldTrailed : Nat → Int32, ∃ a_oldNoted : Nat → Int32, ∃ a_met : Nat → Int32, ∃ a_classOf : Nat → Int32, ∃ a_finer : Nat → Int32, ∃ a_image : Nat → Int32, ∃ a_seen : Nat → Int32, ∃ a_stack : Nat → Int32, ∃ a_deep : Nat → Int32, ∃ a_company : Nat → Int64, ∃ a_greeted : Nat → Int64, ∃ used : Int64, ∃ roots : Int64, ∃ asked : Int64, ∃ p : Nat → Nat, ∃ kd : Nat → Nat, ∃ mn : Nat → Nat, ∃ pt : Nat → Nat, ∃ tr : Nat → Nat, ∃ tn : Nat, ∃ sd : Nat → Int32, ∃ tx : Nat → Int32, ∃ ty : Nat → Int32, ∃ gx : Nat → Int32, ∃ gy : Nat → Int32, ∃ en : Nat → Int32, ∃ N : Nat, ∃ nt : Nat → Int32, ∃ L : Nat, ∃ dn : Nat, ∃ dr : Nat → Nat, ∃ yf3 : Int32, ∃ s : Nat → Int32, ∃ sv : Nat → Int32, ∃ y1 : Nat → Int32, ∃ w : Nat → Int32, ∃ y2 : Nat → Int32, ∃ y3 : Nat → Int32, ∃ y4 : Nat → Int32, ∃ y5 : Nat → Int32, ∃ A : Nat → Int64, ∃ y6 : Nat → Int64, u = (used, roots, asked, nI tn, f_bound, 0, nI dn, nI N, nI L, f_mets, f_classes, nA p, nA kd, nA mn, nA pt, a_value, nA tr, a_left, a_right, a_draft, sd, tx, ty, gx, gy, en, nt, a_oldUsed, a_oldRoots, a_oldAsked, a_oldStands, a_oldTestX, a_oldTestY, a_oldTriggerX, a_oldTriggerY, a_oldEnds, a_oldTrailed, a_oldNoted, a_met, a_classOf, a_finer, a_image, a_seen, a_stack, a_deep, a_company, a_greeted) ∧ v = (nI L, nI dn, yf3, s, sv, y1, w, y2, y3, y4, y5, A, y6) ∧ (Mid L used roots asked p kd mn pt a_value tr tn sd tx ty gx gy en N nt a_oldUsed a_oldRoots a_oldAsked a_oldStands a_oldTestX a_oldTestY a_oldTriggerX a_oldTriggerY a_oldEnds a_oldTrailed a_oldNoted s sv) ∧ RelF k L dn N tn a_draft y1 dr
theorem rel_mk {k : Nat} {f_bound : Int32} {f_mets : Int32} {f_classes : Int32} {a_value : Nat → Int32} {a_left : Nat → Int32} {a_right : Nat → Int32} {a_draft : Nat → Int32} {a_oldUsed : Nat → Int64} {a_oldRoots : Nat → Int64} {a_oldAsked : Nat → Int64} {a_oldStands : Nat → Int32} {a_oldTestX : Nat → Int32} {a_oldTestY : Nat → Int32} {a_oldTriggerX : Nat → Int32} {a_oldTriggerY : Nat → Int32} {a_oldEnds : Nat → Int32} {a_oldTrailed : Nat → Int32} {a_oldNoted : Nat → Int32} {a_met : Nat → Int32} {a_classOf : Nat → Int32} {a_finer : Nat → Int32} {a_image : Nat → Int32} {a_seen : Nat → Int32} {a_stack : Nat → Int32} {a_deep : Nat → Int32} {a_company : Nat → Int64} {a_greeted : Nat → Int64} {used : Int64} {roots : Int64} {asked : Int64} {p : Nat → Nat} {kd : Nat → Nat} {mn : Nat → Nat} {pt : Nat → Nat} {tr : Nat → Nat} {tn : Nat} {sd : Nat → Int32} {tx : Nat → Int32} {ty : Nat → Int32} {gx : Nat → Int32} {gy : Nat → Int32} {en : Nat → Int32} {N : Nat} {nt : Nat → Int32} {L : Nat} {dn : Nat} {dr : Nat → Nat} {yf3 : Int32} {s : Nat → Int32} {sv : Nat → Int32} {y1 : Nat → Int32} {w : Nat → Int32} {y2 : Nat → Int32} {y3 : Nat → Int32} {y4 : Nat → Int32} {y5 : Nat → Int32} {A : Nat → Int64} {y6 : Nat → Int64} (h : (Mid L used roots asked p kd mn pt a_value tr tn sd tx ty gx gy en N nt a_oldUsed a_oldRoots a_oldAsked a_oldStands a_oldTestX a_oldTestY a_oldTriggerX a_oldTriggerY a_oldEnds a_oldTrailed a_oldNoted s sv)) (h2 : RelF k L dn N tn a_draft y1 dr) : i_Rel k (used, roots, asked, nI tn, f_bound, 0, nI dn, nI N, nI L, f_mets, f_classes, nA p, nA kd, nA mn, nA pt, a_value, nA tr, a_left, a_right, a_draft, sd, tx, ty, gx, gy, en, nt, a_oldUsed, a_oldRoots, a_oldAsked, a_oldStands, a_oldTestX, a_oldTestY, a_oldTriggerX, a_oldTriggerY, a_oldEnds, a_oldTrailed, a_oldNoted, a_met, a_classOf, a_finer, a_image, a_seen, a_stack, a_deep, a_company, a_greeted) (nI L, nI dn, yf3, s, sv, y1, w, y2, y3, y4, y5, A, y6) := ⟨f_bound, f_mets, f_classes, a_value, a_left, a_right, a_draft, a_oldUsed, a_oldRoots, a_oldAsked, a_oldStands, a_oldTestX, a_oldTestY, a_oldTriggerX, a_oldTriggerY, a_oldEnds, a_oldTrailed, a_oldNoted, a_met, a_classOf, a_finer, a_image, a_seen, a_stack, a_deep, a_company, a_greeted, used, roots, asked, p, kd, mn, pt, tr, tn, sd, tx, ty, gx, gy, en, N, nt, L, dn, dr, yf3, s, sv, y1, w, y2, y3, y4, y5, A, y6, rfl, rfl, h, h2⟩
theorem rel_el {k : Nat} {P : SX → SY → Prop} (h : ∀ (f_bound : Int32) (f_mets : Int32) (f_classes : Int32) (a_value : Nat → Int32) (a_left : Nat → Int32) (a_right : Nat → Int32) (a_draft : Nat → Int32) (a_oldUsed : Nat → Int64) (a_oldRoots : Nat → Int64) (a_oldAsked : Nat → Int64) (a_oldStands : Nat → Int32) (a_oldTestX : Nat → Int32) (a_oldTestY : Nat → Int32) (a_oldTriggerX : Nat → Int32) (a_oldTriggerY : Nat → Int32) (a_oldEnds : Nat → Int32) (a_oldTrailed : Nat → Int32) (a_oldNoted : Nat → Int32) (a_met : Nat → Int32) (a_classOf : Nat → Int32) (a_finer : Nat → Int32) (a_image : Nat → Int32) (a_seen : Nat → Int32) (a_stack : Nat → Int32) (a_deep : Nat → Int32) (a_company : Nat → Int64) (a_greeted : Nat → Int64) (used : Int64) (roots : Int64) (asked : Int64) (p : Nat → Nat) (kd : Nat → Nat) (mn : Nat → Nat) (pt : Nat → Nat) (tr : Nat → Nat) (tn : Nat) (sd : Nat → Int32) (tx : Nat → Int32) (ty : Nat → Int32) (gx : Nat → Int32) (gy : Nat → Int32) (en : Nat → Int32) (N : Nat) (nt : Nat → Int32) (L : Nat) (dn : Nat) (dr : Nat → Nat) (yf3 : Int32) (s : Nat → Int32) (sv : Nat → Int32) (y1 : Nat → Int32) (w : Nat → Int32) (y2 : Nat → Int32) (y3 : Nat → Int32) (y4 : Nat → Int32) (y5 : Nat → Int32) (A : Nat → Int64) (y6 : Nat → Int64), (Mid L used roots asked p kd mn pt a_value tr tn sd tx ty gx gy en N nt a_oldUsed a_oldRoots a_oldAsked a_oldStands a_oldTestX a_oldTestY a_oldTriggerX a_oldTriggerY a_oldEnds a_oldTrailed a_oldNoted s sv) → RelF k L dn N tn a_draft y1 dr → P (used, roots, asked, nI tn, f_bound, 0, nI dn, nI N, nI L, f_mets, f_classes, nA p, nA kd, nA mn, nA pt, a_value, nA tr, a_left, a_right, a_draft, sd, tx, ty, gx, gy, en, nt, a_oldUsed, a_oldRoots, a_oldAsked, a_oldStands, a_oldTestX, a_oldTestY, a_oldTriggerX, a_oldTriggerY, a_oldEnds, a_oldTrailed, a_oldNoted, a_met, a_classOf, a_finer, a_image, a_seen, a_stack, a_deep, a_company, a_greeted) (nI L, nI dn, yf3, s, sv, y1, w, y2, y3, y4, y5, A, y6)) {u : SX} {v : SY} (I : i_Rel k u v) : P u v :=
  Exists.elim I fun f_bound I => Exists.elim I fun f_mets I => Exists.elim I fun f_classes I => Exists.elim I fun a_value I => Exists.elim I fun a_left I => Exists.elim I fun a_right I => Exists.elim I fun a_draft I => Exists.elim I fun a_oldUsed I => Exists.elim I fun a_oldRoots I => Exists.elim I fun a_oldAsked I => Exists.elim I fun a_oldStands I => Exists.elim I fun a_oldTestX I => Exists.elim I fun a_oldTestY I => Exists.elim I fun a_oldTriggerX I => Exists.elim I fun a_oldTriggerY I => Exists.elim I fun a_oldEnds I => Exists.elim I fun a_oldTrailed I => Exists.elim I fun a_oldNoted I => Exists.elim I fun a_met I => Exists.elim I fun a_classOf I => Exists.elim I fun a_finer I => Exists.elim I fun a_image I => Exists.elim I fun a_seen I => Exists.elim I fun a_stack I => Exists.elim I fun a_deep I => Exists.elim I fun a_company I => Exists.elim I fun a_greeted I => Exists.elim I fun used I => Exists.elim I fun roots I => Exists.elim I fun asked I => Exists.elim I fun p I => Exists.elim I fun kd I => Exists.elim I fun mn I => Exists.elim I fun pt I => Exists.elim I fun tr I => Exists.elim I fun tn I => Exists.elim I fun sd I => Exists.elim I fun tx I => Exists.elim I fun ty I => Exists.elim I fun gx I => Exists.elim I fun gy I => Exists.elim I fun en I => Exists.elim I fun N I => Exists.elim I fun nt I => Exists.elim I fun L I => Exists.elim I fun dn I => Exists.elim I fun dr I => Exists.elim I fun yf3 I => Exists.elim I fun s I => Exists.elim I fun sv I => Exists.elim I fun y1 I => Exists.elim I fun w I => Exists.elim I fun y2 I => Exists.elim I fun y3 I => Exists.elim I fun y4 I => Exists.elim I fun y5 I => Exists.elim I fun A I => Exists.elim I fun y6 I => by rw [I.1, I.2.1]; exact h f_bound f_mets f_classes a_value a_left a_right a_draft a_oldUsed a_oldRoots a_oldAsked a_oldStands a_oldTestX a_oldTestY a_oldTriggerX a_oldTriggerY a_oldEnds a_oldTrailed a_oldNoted a_met a_classOf a_finer a_image a_seen a_stack a_deep a_company a_greeted used roots asked p kd mn pt tr tn sd tx ty gx gy en N nt L dn dr yf3 s sv y1 w y2 y3 y4 y5 A y6 I.2.2.1 I.2.2.2
theorem i_up {k : Nat} {u : SX} {v : SY} (h : i_Rel k u v) : i_Rel (k + 4) u v := by
  refine rel_el (P := fun u v => i_Rel (k + 4) u v) ?_ h
  intro f_bound f_mets f_classes a_value a_left a_right a_draft a_oldUsed a_oldRoots a_oldAsked a_oldStands a_oldTestX a_oldTestY a_oldTriggerX a_oldTriggerY a_oldEnds a_oldTrailed a_oldNoted a_met a_classOf a_finer a_image a_seen a_stack a_deep a_company a_greeted used roots asked p kd mn pt tr tn sd tx ty gx gy en N nt L dn dr yf3 s sv y1 w y2 y3 y4 y5 A y6 hM hR
  exact rel_mk hM ⟨hR.1, hR.2.1, by have := hR.2.2.1; omega, hR.2.2.2⟩
end
section
/-! the calls that are short -/
theorem ge_nle {v : Int32} {n : Nat} (h : nI (n + 1) ≤ v) (hn : n + 1 < 2 ^ 31) : ¬ v ≤ nI n ∧ nI n < v ∧ ¬ v < 0 := by
  rw [Int32.le_iff_toInt_le, nI_toInt (by omega)] at h
  rw [Int32.le_iff_toInt_le, Int32.lt_iff_toInt_lt, Int32.lt_iff_toInt_lt, nI_toInt (by omega), show (0 : Int32).toInt = 0 from by decide]
  omega
theorem in_or (v : Int32) (n : Nat) (hn : n + 1 < 2 ^ 31) : (∃ j, j < n + 1 ∧ v = nI j) ∨ ((∀ j, j < n + 1 → v ≠ nI j) ∧ (v < 0 ∨ (¬ v < 0 ∧ ¬ v ≤ nI n ∧ nI n < v))) := by
  rcases pk_ix v hn with h | h | h
  · refine Or.inr ⟨fun j hj e => ?_, Or.inl h⟩
    rw [e] at h
    exact nI_nn (by omega) h
  · have := ge_nle h hn
    refine Or.inr ⟨fun j hj e => ?_, Or.inr ⟨this.2.2, this.1, this.2.1⟩⟩
    rw [e] at h
    exact nI_ge hj hn h
  · exact Or.inl h
/-- the reference's check of a number -/
theorem yin_t {j n : Nat} {A B C : Prop} (h : j ≤ n) (hn : n < 2 ^ 31) (H : C) : (nI j < 0 → A) ∧ (¬ nI j < 0 → ((nI n < nI j → B) ∧ (¬ nI n < nI j → C))) := ⟨fun z => absurd z (nI_nn (by omega)), fun _ => br_f (nI_nlt h hn) H⟩
theorem yin_t2 {j n : Nat} {A B C : Prop} (h : j ≤ n) (hn : n < 2 ^ 31) (H : C) : (nI j < 0 → A) ∧ (¬ nI j < 0 → ((nI j ≤ nI n → C) ∧ (¬ nI j ≤ nI n → B))) := ⟨fun z => absurd z (nI_nn (by omega)), fun _ => br_t (nI_le h hn) H⟩
theorem yin_f {v : Int32} {n : Nat} {A C : Prop} (h : v < 0 ∨ (¬ v < 0 ∧ ¬ v ≤ nI n ∧ nI n < v)) (H : A) : (v < 0 → A) ∧ (¬ v < 0 → ((nI n < v → A) ∧ (¬ nI n < v → C))) := by
  rcases h with h | h
  · exact br_t h H
  · exact br_f h.1 (br_t h.2.2 H)
theorem yin_f2 {v : Int32} {n : Nat} {A C : Prop} (h : v < 0 ∨ (¬ v < 0 ∧ ¬ v ≤ nI n ∧ nI n < v)) (H : A) : (v < 0 → A) ∧ (¬ v < 0 → ((v ≤ nI n → C) ∧ (¬ v ≤ nI n → A))) := by
  rcases h with h | h
  · exact br_t h H
  · exact br_f h.1 (br_f h.2.1 H)
theorem us_or (U : Nat → Prop) (v : Int32) : (∃ x, x < 48 ∧ U x ∧ v = nI x) ∨ (∀ x, x < 48 → v = nI x → ¬ U x) := by
  by_cases h : ∃ x, x < 48 ∧ U x ∧ v = nI x
  · exact Or.inl h
  · exact Or.inr fun x hx e hu => h ⟨x, hx, hu, e⟩
section
variable {f_trials : Int32} {f_drafted : Int32} {f_found : Int32} {a_s : Nat → Int32} {a_saved : Nat → Int32} {a_draft : Nat → Int32} {a_who : Nat → Int32} {a_met : Nat → Int32} {a_stack : Nat → Int32} {a_fresh : Nat → Int32} {a_deep : Nat → Int32} {a_alike : Nat → Int64} {a_meets : Nat → Int64}
theorem yw_us_t {post : Int32 → Prop} {x : Nat} (h48 : x < 48) (h : a_s (384 + x) = 1) (hp : post 1) : wpY_isUsed post (f_trials, f_drafted, f_found, a_s, a_saved, a_draft, a_who, a_met, a_stack, a_fresh, a_deep, a_alike, a_meets) (nI x) := by
  refine And.intro (fun z => absurd z (nI_nn (by omega))) (fun _ => wh_f (a := 48) (b := x) (by omega) ?_)
  rw [aL_384, cl_n (k := 384 + x)]
  exact ⟨in_n (by omega), br_t h hp⟩
theorem yw_us_f {post : Int32 → Prop} {v : Int32} (h : ∀ x, x < 48 → v = nI x → ¬ a_s (384 + x) = 1) (hp : post 0) : wpY_isUsed post (f_trials, f_drafted, f_found, a_s, a_saved, a_draft, a_who, a_met, a_stack, a_fresh, a_deep, a_alike, a_meets) v := by
  rcases pk_ix v (n := 48) (by decide) with e | e | ⟨j, hj, rfl⟩
  · exact And.intro (fun _ => hp) fun z => absurd e z
  · exact And.intro (fun _ => hp) fun _ => br_t e hp
  · refine And.intro (fun z => absurd z (nI_nn (by omega))) (fun _ => wh_f (a := 48) (b := j) (by omega) ?_)
    rw [aL_384, cl_n (k := 384 + j)]
    exact ⟨in_n (by omega), br_f (h j hj rfl) hp⟩
end
section
variable {f_used : Int64} {f_roots : Int64} {f_asked : Int64} {f_trailed : Int32} {f_bound : Int32} {f_pairs : Int32} {f_drafted : Int32} {f_noted : Int32} {f_trials : Int32} {f_mets : Int32} {f_classes : Int32} {a_up : Nat → Int32} {a_kind : Nat → Int32} {a_many : Nat → Int32} {a_parts : Nat → Int32} {a_value : Nat → Int32} {a_trail : Nat → Int32} {a_left : Nat → Int32} {a_right : Nat → Int32} {a_draft : Nat → Int32} {a_stands : Nat → Int32} {a_testX : Nat → Int32} {a_testY : Nat → Int32} {a_triggerX : Nat → Int32} {a_triggerY : Nat → Int32} {a_ends : Nat → Int32} {a_notes : Nat → Int32} {a_oldUsed : Nat → Int64} {a_oldRoots : Nat → Int64} {a_oldAsked : Nat → Int64} {a_oldStands : Nat → Int32} {a_oldTestX : Nat → Int32} {a_oldTestY : Nat → Int32} {a_oldTriggerX : Nat → Int32} {a_oldTriggerY : Nat → Int32} {a_oldEnds : Nat → Int32} {a_oldTrailed : Nat → Int32} {a_oldNoted : Nat → Int32} {a_met : Nat → Int32} {a_classOf : Nat → Int32} {a_finer : Nat → Int32} {a_image : Nat → Int32} {a_seen : Nat → Int32} {a_stack : Nat → Int32} {a_deep : Nat → Int32} {a_company : Nat → Int64} {a_greeted : Nat → Int64}
variable {p kd mn pt tr T rk : Nat → Nat} {tn B L : Nat} {used roots asked : Int64} {id : Nat → Nat} {sd tx ty gx gy en nt s w sv : Nat → Int32} {N : Nat} {A : Nat → Int64}
variable {yf1 yf2 yf3 : Int32} {y1 y2 y3 y4 y5 : Nat → Int32} {y6 : Nat → Int64}
theorem mid_lt (hM : (Mid L used roots asked p kd mn pt a_value tr tn sd tx ty gx gy en N nt a_oldUsed a_oldRoots a_oldAsked a_oldStands a_oldTestX a_oldTestY a_oldTriggerX a_oldTriggerY a_oldEnds a_oldTrailed a_oldNoted s sv)) {x : Nat} (h : uB used x) : x < 48 := hM.1.2.1.1 x h
theorem mid_u1 (hM : (Mid L used roots asked p kd mn pt a_value tr tn sd tx ty gx gy en N nt a_oldUsed a_oldRoots a_oldAsked a_oldStands a_oldTestX a_oldTestY a_oldTriggerX a_oldTriggerY a_oldEnds a_oldTrailed a_oldNoted s sv)) {x : Nat} (h : uB used x) : s (384 + x) = 1 := by
  obtain ⟨⟨⟨T, rk, id, F, D, Y⟩, m1, m2, m3, m4, m5⟩, hT, hL⟩ := hM
  exact (Y.2.2.1 x h).1
theorem mid_u0 (hM : (Mid L used roots asked p kd mn pt a_value tr tn sd tx ty gx gy en N nt a_oldUsed a_oldRoots a_oldAsked a_oldStands a_oldTestX a_oldTestY a_oldTriggerX a_oldTriggerY a_oldEnds a_oldTrailed a_oldNoted s sv)) {x : Nat} (hx : x < 48) (h : ¬ uB used x) : s (384 + x) = 0 := by
  obtain ⟨⟨⟨T, rk, id, F, D, Y⟩, m1, m2, m3, m4, m5⟩, hT, hL⟩ := hM
  exact (Y.2.1 x hx h).2.2
/-- both sides ask whether a variable is in use -/
theorem xu_t {post : Int32 → Prop} (hM : (Mid L used roots asked p kd mn pt a_value tr tn sd tx ty gx gy en N nt a_oldUsed a_oldRoots a_oldAsked a_oldStands a_oldTestX a_oldTestY a_oldTriggerX a_oldTriggerY a_oldEnds a_oldTrailed a_oldNoted s sv)) {x : Nat} (h : uB used x) (hp : post 1) : wpX_isUsed post (used, f_roots, f_asked, f_trailed, f_bound, f_pairs, f_drafted, f_noted, f_trials, f_mets, f_classes, a_up, a_kind, a_many, a_parts, a_value, a_trail, a_left, a_right, a_draft, a_stands, a_testX, a_testY, a_triggerX, a_triggerY, a_ends, a_notes, a_oldUsed, a_oldRoots, a_oldAsked, a_oldStands, a_oldTestX, a_oldTestY, a_oldTriggerX, a_oldTriggerY, a_oldEnds, a_oldTrailed, a_oldNoted, a_met, a_classOf, a_finer, a_image, a_seen, a_stack, a_deep, a_company, a_greeted) (nI x) := xw_us_t (mid_lt hM h) h hp
theorem xu_f {post : Int32 → Prop} {v : Int32} (h : ∀ x, x < 48 → v = nI x → ¬ uB used x) (hp : post 0) : wpX_isUsed post (used, f_roots, f_asked, f_trailed, f_bound, f_pairs, f_drafted, f_noted, f_trials, f_mets, f_classes, a_up, a_kind, a_many, a_parts, a_value, a_trail, a_left, a_right, a_draft, a_stands, a_testX, a_testY, a_triggerX, a_triggerY, a_ends, a_notes, a_oldUsed, a_oldRoots, a_oldAsked, a_oldStands, a_oldTestX, a_oldTestY, a_oldTriggerX, a_oldTriggerY, a_oldEnds, a_oldTrailed, a_oldNoted, a_met, a_classOf, a_finer, a_image, a_seen, a_stack, a_deep, a_company, a_greeted) v := xw_us_f (fun x hx e => ts_nt (h x hx e)) hp
theorem yu_t {post : Int32 → Prop} (hM : (Mid L used roots asked p kd mn pt a_value tr tn sd tx ty gx gy en N nt a_oldUsed a_oldRoots a_oldAsked a_oldStands a_oldTestX a_oldTestY a_oldTriggerX a_oldTriggerY a_oldEnds a_oldTrailed a_oldNoted s sv)) {x : Nat} (h : uB used x) (hp : post 1) : wpY_isUsed post (yf1, yf2, yf3, s, sv, y1, w, y2, y3, y4, y5, A, y6) (nI x) := yw_us_t (mid_lt hM h) (mid_u1 hM h) hp
theorem yu_f {post : Int32 → Prop} (hM : (Mid L used roots asked p kd mn pt a_value tr tn sd tx ty gx gy en N nt a_oldUsed a_oldRoots a_oldAsked a_oldStands a_oldTestX a_oldTestY a_oldTriggerX a_oldTriggerY a_oldEnds a_oldTrailed a_oldNoted s sv)) {v : Int32} (h : ∀ x, x < 48 → v = nI x → ¬ uB used x) (hp : post 0) : wpY_isUsed post (yf1, yf2, yf3, s, sv, y1, w, y2, y3, y4, y5, A, y6) v := yw_us_f (fun x hx e => by rw [mid_u0 hM hx (h x hx e)]; decide) hp
theorem mid_end (hM : (Mid L used roots asked p kd mn pt a_value tr tn sd tx ty gx gy en N nt a_oldUsed a_oldRoots a_oldAsked a_oldStands a_oldTestX a_oldTestY a_oldTriggerX a_oldTriggerY a_oldEnds a_oldTrailed a_oldNoted s sv)) {j : Nat} {v : Int32} (hj : j < 4) (hv : v = -1 ∨ ∃ x, v = nI x ∧ uB used x) : (Mid L used roots asked p kd mn pt a_value tr tn sd tx ty gx gy (upd en j v) N nt a_oldUsed a_oldRoots a_oldAsked a_oldStands a_oldTestX a_oldTestY a_oldTriggerX a_oldTriggerY a_oldEnds a_oldTrailed a_oldNoted (upd s (568 + j) v) sv) := by
  have hlt : ∀ x, uB used x → x < 48 := fun x h => mid_lt hM h
  obtain ⟨⟨⟨T, rk, id, F, D, Y⟩, m1, m2, m3, m4, m5⟩, hT, hL⟩ := hM
  refine ⟨⟨⟨T, rk, id, F, D, yr_ag Y (fun i hi => pk_un (by omega)) (xv_W F D)⟩, mb_ag m1 fun i a b => pk_un (by omega), mt_ag m2 fun i a b => pk_un (by omega), mg_ag m3 fun i a b => pk_un (by omega), fun k hk => ?_, mn_ag m5 fun i a b => pk_un (by omega)⟩, hT, hL⟩
  by_cases e : k = j
  · subst e
    rw [pk_us, pk_us]
    refine ⟨rfl, ?_, hv⟩
    rcases hv with rfl | ⟨x, rfl, hx⟩
    · exact sm_m
    · exact sm_n (by have := hlt x hx; omega)
  · rw [pk_un (by omega), pk_un e]; exact m4 k hk
theorem mid_test (hM : (Mid L used roots asked p kd mn pt a_value tr tn sd tx ty gx gy en N nt a_oldUsed a_oldRoots a_oldAsked a_oldStands a_oldTestX a_oldTestY a_oldTriggerX a_oldTriggerY a_oldEnds a_oldTrailed a_oldNoted s sv)) {t x : Nat} {v : Int32} (ht : t < 8) (hx : uB used x) (hv : v = -1 ∨ ∃ y, v = nI y ∧ uB used y) : (Mid L used roots asked p kd mn pt a_value tr tn (upd sd t 3) (upd tx t (nI x)) (upd ty t v) gx gy en N nt a_oldUsed a_oldRoots a_oldAsked a_oldStands a_oldTestX a_oldTestY a_oldTriggerX a_oldTriggerY a_oldEnds a_oldTrailed a_oldNoted (upd (upd (upd s (528 + t) (nI x)) (536 + t) v) (544 + t) 3) sv) := by
  have hlt : ∀ x, uB used x → x < 48 := fun x h => mid_lt hM h
  obtain ⟨⟨⟨T, rk, id, F, D, Y⟩, m1, m2, m3, m4, m5⟩, hT, hL⟩ := hM
  have q : ∀ i, (i < 528 ∨ 552 ≤ i) → upd (upd (upd s (528 + t) (nI x)) (536 + t) v) (544 + t) 3 i = s i := fun i hi => by rw [pk_un (by omega), pk_un (by omega), pk_un (by omega)]
  refine ⟨⟨⟨T, rk, id, F, D, yr_ag Y (fun i hi => q i (by omega)) (xv_W F D)⟩, mb_ag m1 fun i a b => q i (by omega), fun k hk => ?_, mg_ag m3 fun i a b => q i (by omega), me_ag m4 fun i a b => q i (by omega), mn_ag m5 fun i a b => q i (by omega)⟩, hT, hL⟩
  by_cases e : k = t
  · subst e
    rw [pk_us, pk_us, pk_us, pk_us, pk_un (by omega), pk_un (by omega), pk_us, pk_un (by omega), pk_us]
    refine ⟨rfl, rfl, rfl, sm_n (by have := hlt x hx; omega), ?_, sm_n (k := 3) (by decide), fun _ => ⟨⟨x, rfl, hx⟩, hv⟩⟩
    rcases hv with rfl | ⟨x, rfl, hx⟩
    · exact sm_m
    · exact sm_n (by have := hlt x hx; omega)
  · rw [pk_un e, pk_un e, pk_un e]
    repeat rw [pk_un (by omega)]
    exact m2 k hk
theorem mid_trig (hM : (Mid L used roots asked p kd mn pt a_value tr tn sd tx ty gx gy en N nt a_oldUsed a_oldRoots a_oldAsked a_oldStands a_oldTestX a_oldTestY a_oldTriggerX a_oldTriggerY a_oldEnds a_oldTrailed a_oldNoted s sv)) {t x y : Nat} (ht : t < 8) (hx : uB used x) (hy : uB used y) : (Mid L used roots asked p kd mn pt a_value tr tn sd tx ty (upd gx t (nI x)) (upd gy t (nI y)) en N nt a_oldUsed a_oldRoots a_oldAsked a_oldStands a_oldTestX a_oldTestY a_oldTriggerX a_oldTriggerY a_oldEnds a_oldTrailed a_oldNoted (upd (upd s (552 + t) (nI x)) (560 + t) (nI y)) sv) := by
  have hlt : ∀ x, uB used x → x < 48 := fun x h => mid_lt hM h
  obtain ⟨⟨⟨T, rk, id, F, D, Y⟩, m1, m2, m3, m4, m5⟩, hT, hL⟩ := hM
  have q : ∀ i, (i < 552 ∨ 568 ≤ i) → upd (upd s (552 + t) (nI x)) (560 + t) (nI y) i = s i := fun i hi => by rw [pk_un (by omega), pk_un (by omega)]
  refine ⟨⟨⟨T, rk, id, F, D, yr_ag Y (fun i hi => q i (by omega)) (xv_W F D)⟩, mb_ag m1 fun i a b => q i (by omega), mt_ag m2 fun i a b => q i (by omega), fun k hk => ?_, me_ag m4 fun i a b => q i (by omega), mn_ag m5 fun i a b => q i (by omega)⟩, hT, hL⟩
  by_cases e : k = t
  · subst e
    rw [pk_us, pk_us, pk_us, pk_un (by omega), pk_us]
    exact ⟨rfl, rfl, sm_n (by have := hlt x hx; omega), sm_n (by have := hlt y hy; omega), Or.inr ⟨x, y, rfl, rfl, hx, hy⟩⟩
  · rw [pk_un e, pk_un e]
    repeat rw [pk_un (by omega)]
    exact m3 k hk
theorem mid_ask (hM : (Mid L used roots asked p kd mn pt a_value tr tn sd tx ty gx gy en N nt a_oldUsed a_oldRoots a_oldAsked a_oldStands a_oldTestX a_oldTestY a_oldTriggerX a_oldTriggerY a_oldEnds a_oldTrailed a_oldNoted s sv)) {x : Nat} (hx : uB used x) : (Mid L used roots (asked ||| ((1 : Int64) <<< ((nI x).toInt64 &&& 63))) p kd mn pt a_value tr tn sd tx ty gx gy en N nt a_oldUsed a_oldRoots a_oldAsked a_oldStands a_oldTestX a_oldTestY a_oldTriggerX a_oldTriggerY a_oldEnds a_oldTrailed a_oldNoted (upd s (480 + x) 1) sv) := by
  have hlt : ∀ x, uB used x → x < 48 := fun x h => mid_lt hM h
  obtain ⟨⟨⟨T, rk, id, F, D, Y⟩, m1, m2, m3, m4, m5⟩, hT, hL⟩ := hM
  have lx := hlt x hx
  refine ⟨⟨⟨T, rk, id, F, D, yr_ag Y (fun i hi => pk_un (by omega)) (xv_W F D)⟩, ⟨m1.1, m1.2.1, fun z hz => ?_, fun z hz => ?_⟩, mt_ag m2 fun i a b => pk_un (by omega), mg_ag m3 fun i a b => pk_un (by omega), me_ag m4 fun i a b => pk_un (by omega), mn_ag m5 fun i a b => pk_un (by omega)⟩, hT, hL⟩
  · have hz : bL _ z = true := hz
    rw [bL_or1 _ (by omega), Bool.or_eq_true, decide_eq_true_eq] at hz
    rcases hz with hz | rfl
    · exact m1.2.2.1 z hz
    · exact hx
  · rw [pk_un (by omega), bL_or1 _ (by omega)]
    refine ⟨(m1.2.2.2 z hz).1, ?_⟩
    by_cases e : x = z
    · subst e
      rw [pk_us, decide_eq_true rfl, Bool.or_true]; rfl
    · rw [pk_un (by omega), decide_eq_false e, Bool.or_false]; exact (m1.2.2.2 z hz).2
theorem mid_root (hM : (Mid L used roots asked p kd mn pt a_value tr tn sd tx ty gx gy en N nt a_oldUsed a_oldRoots a_oldAsked a_oldStands a_oldTestX a_oldTestY a_oldTriggerX a_oldTriggerY a_oldEnds a_oldTrailed a_oldNoted s sv)) {x : Nat} {b : Bool} (hx : uB used x) (hb : bL roots x = !b) : (Mid L used (roots ^^^ ((1 : Int64) <<< ((nI x).toInt64 &&& 63))) asked p kd mn pt a_value tr tn sd tx ty gx gy en N nt a_oldUsed a_oldRoots a_oldAsked a_oldStands a_oldTestX a_oldTestY a_oldTriggerX a_oldTriggerY a_oldEnds a_oldTrailed a_oldNoted (upd s (432 + x) (nI (b01 b))) sv) := by
  have hlt : ∀ x, uB used x → x < 48 := fun x h => mid_lt hM h
  obtain ⟨⟨⟨T, rk, id, F, D, Y⟩, m1, m2, m3, m4, m5⟩, hT, hL⟩ := hM
  have lx := hlt x hx
  refine ⟨⟨⟨T, rk, id, F, D, yr_ag Y (fun i hi => pk_un (by omega)) (xv_W F D)⟩, ⟨m1.1, fun z hz => ?_, m1.2.2.1, fun z hz => ?_⟩, mt_ag m2 fun i a b => pk_un (by omega), mg_ag m3 fun i a b => pk_un (by omega), me_ag m4 fun i a b => pk_un (by omega), mn_ag m5 fun i a b => pk_un (by omega)⟩, hT, hL⟩
  · have hz : bL _ z = true := hz
    rw [bL_xo1 _ (by omega)] at hz
    by_cases e : x = z
    · subst e; exact hx
    · rw [decide_eq_false e, Bool.xor_false] at hz
      exact m1.2.1 z hz
  · rw [pk_un (j := 480 + z) (by omega), bL_xo1 _ (by omega)]
    refine ⟨?_, (m1.2.2.2 z hz).2⟩
    by_cases e : x = z
    · subst e
      rw [pk_us, decide_eq_true rfl, hb]
      cases b <;> rfl
    · rw [pk_un (by omega), decide_eq_false e, Bool.xor_false]; exact (m1.2.2.2 z hz).1
end
theorem i_vc_undraft {k : Nat} {u : SX} {v : SY} (I : i_Rel k u v) (hk : k + 4 ≤ 2048) : wpX_undraft (fun r u' => wpY_undraft (fun r' v' => r' = r ∧ i_Rel (k + 4) u' v') v) u := by
  refine rel_el (P := fun u v => wpX_undraft (fun r u' => wpY_undraft (fun r' v' => r' = r ∧ i_Rel (k + 4) u' v') v) u) ?_ I
  intro f_bound f_mets f_classes a_value a_left a_right a_draft a_oldUsed a_oldRoots a_oldAsked a_oldStands a_oldTestX a_oldTestY a_oldTriggerX a_oldTriggerY a_oldEnds a_oldTrailed a_oldNoted a_met a_classOf a_finer a_image a_seen a_stack a_deep a_company a_greeted used roots asked p kd mn pt tr tn sd tx ty gx gy en N nt L dn dr yf3 s sv y1 w y2 y3 y4 y5 A y6 hM ⟨h1, h2, h3, h4, h5⟩
  exact ⟨rfl, rel_mk (dn := 0) hM ⟨h1, h2, by omega, by omega, h5⟩⟩
theorem i_vc_tested {k : Nat} {u : SX} {v : SY} (I : i_Rel k u v) (hk : k + 4 ≤ 2048) (v1 : Int32) : wpX_tested (fun r => wpY_tested (fun r' => r' = r ∧ i_Rel (k + 4) u v) v v1) u v1 := by
  have I' := i_up I
  refine rel_el (P := fun u v => i_Rel (k + 4) u v → wpX_tested (fun r => wpY_tested (fun r' => r' = r ∧ i_Rel (k + 4) u v) v v1) u v1) ?_ I I'
  intro f_bound f_mets f_classes a_value a_left a_right a_draft a_oldUsed a_oldRoots a_oldAsked a_oldStands a_oldTestX a_oldTestY a_oldTriggerX a_oldTriggerY a_oldEnds a_oldTrailed a_oldNoted a_met a_classOf a_finer a_image a_seen a_stack a_deep a_company a_greeted used roots asked p kd mn pt tr tn sd tx ty gx gy en N nt L dn dr yf3 s sv y1 w y2 y3 y4 y5 A y6 hM hR I'
  unfold wpX_tested wpY_tested
  rcases in_or v1 7 (by decide) with ⟨j, hj, rfl⟩ | ⟨h1, h2⟩
  · refine xw_in_t (N := 8) hj (by decide) (br_f (by decide) ?_)
    rw [aL_544, cl_n (k := j), cl_n (k := 544 + j)]
    exact ⟨in_n (by omega), yin_t2 (n := 7) (by omega) (by decide) ⟨in_n (by omega), (hM.1.2.2.1 j hj).2.2.1, I'⟩⟩
  · exact xw_in_f (N := 8) h1 (by decide) (br_t rfl (yin_f2 (n := 7) h2 ⟨rfl, I'⟩))
theorem i_vc_end {k : Nat} {u : SX} {v : SY} (I : i_Rel k u v) (hk : k + 4 ≤ 2048) (v1 : Int32) : wpX_end (fun r => wpY_end (fun r' => r' = r ∧ i_Rel (k + 4) u v) v v1) u v1 := by
  have I' := i_up I
  refine rel_el (P := fun u v => i_Rel (k + 4) u v → wpX_end (fun r => wpY_end (fun r' => r' = r ∧ i_Rel (k + 4) u v) v v1) u v1) ?_ I I'
  intro f_bound f_mets f_classes a_value a_left a_right a_draft a_oldUsed a_oldRoots a_oldAsked a_oldStands a_oldTestX a_oldTestY a_oldTriggerX a_oldTriggerY a_oldEnds a_oldTrailed a_oldNoted a_met a_classOf a_finer a_image a_seen a_stack a_deep a_company a_greeted used roots asked p kd mn pt tr tn sd tx ty gx gy en N nt L dn dr yf3 s sv y1 w y2 y3 y4 y5 A y6 hM hR I'
  unfold wpX_end wpY_end
  rcases in_or v1 3 (by decide) with ⟨j, hj, rfl⟩ | ⟨h1, h2⟩
  · refine xw_in_t (N := 4) hj (by decide) (br_f (by decide) ?_)
    rw [aL_568, cl_n (k := j), cl_n (k := 568 + j)]
    exact ⟨in_n (by omega), yin_t2 (n := 3) (by omega) (by decide) ⟨in_n (by omega), (hM.1.2.2.2.2.1 j hj).1, I'⟩⟩
  · exact xw_in_f (N := 4) h1 (by decide) (br_t rfl (yin_f2 (n := 3) h2 ⟨rfl, I'⟩))
theorem i_vc_noted {k : Nat} {u : SX} {v : SY} (I : i_Rel k u v) (hk : k + 4 ≤ 2048) (v1 : Int32) : wpX_noted (fun r => wpY_noted (fun r' => r' = r ∧ i_Rel (k + 4) u v) v v1) u v1 := by
  have I' := i_up I
  refine rel_el (P := fun u v => i_Rel (k + 4) u v → wpX_noted (fun r => wpY_noted (fun r' => r' = r ∧ i_Rel (k + 4) u v) v v1) u v1) ?_ I I'
  intro f_bound f_mets f_classes a_value a_left a_right a_draft a_oldUsed a_oldRoots a_oldAsked a_oldStands a_oldTestX a_oldTestY a_oldTriggerX a_oldTriggerY a_oldEnds a_oldTrailed a_oldNoted a_met a_classOf a_finer a_image a_seen a_stack a_deep a_company a_greeted used roots asked p kd mn pt tr tn sd tx ty gx gy en N nt L dn dr yf3 s sv y1 w y2 y3 y4 y5 A y6 hM ⟨_, _, hN, _⟩ I'
  unfold wpX_noted wpY_noted
  dsimp only
  obtain ⟨n1, n2⟩ := hM.1.2.2.2.2.2
  rw [n1]
  by_cases e : v1 = -1
  · exact br_t e (br_t e ⟨rfl, I'⟩)
  · refine br_f e ?_
    by_cases hneg : v1 < 0
    · refine xw_in_f (N := N) (fun j hj z => ?_) (by omega) (br_t rfl (br_f e (br_t hneg ⟨rfl, I'⟩)))
      rw [z] at hneg
      exact nI_nn (by omega) hneg
    · obtain ⟨j, hj, rfl⟩ := nI_of hneg
      by_cases hjN : j < N
      · refine xw_in_t (N := N) hjN (by omega) (br_f (by decide) ?_)
        by_cases h60 : 60 ≤ j
        · exact wh_t (a := 60) (b := j) h60 (br_f e (br_f hneg (br_f (nI_ge hjN (by omega)) (wh_t (a := 60) (b := j) h60 ⟨rfl, I'⟩))))
        · refine wh_f (a := 60) (b := j) (by omega) ?_
          rw [aL_573, cl_n (k := j), cl_n (k := 573 + j)]
          exact ⟨in_n (by omega), br_f e (br_f hneg (br_f (nI_ge hjN (by omega)) (wh_f (a := 60) (b := j) (by omega) ⟨in_n (by omega), n2 j hjN (by omega), I'⟩)))⟩
      · refine xw_in_f (N := N) (fun i hi z => ?_) (by omega) (br_t rfl (br_f e (br_f hneg (br_t (nI_le (by omega) hj) ⟨rfl, I'⟩))))
        have := nI_inj z
        omega
end
section
/-! more calls -/
def useS (s : Nat → Int32) (z : Nat) : Nat → Int32 := upd (upd (upd (upd (upd s (384 + z) 1) z (nI z)) (48 + z) 0) (432 + z) 0) (480 + z) 0
theorem useS_o {s : Nat → Int32} {z i : Nat} (h1 : i ≠ 384 + z) (h2 : i ≠ z) (h3 : i ≠ 48 + z) (h4 : i ≠ 432 + z) (h5 : i ≠ 480 + z) : useS s z i = s i := by
  unfold useS
  rw [pk_un h5, pk_un h4, pk_un h3, pk_un h2, pk_un h1]
theorem useS_z {s : Nat → Int32} {z : Nat} (hz : z < 48) : useS s z z = nI z ∧ useS s z (48 + z) = 0 ∧ useS s z (384 + z) = 1 ∧ useS s z (432 + z) = 0 ∧ useS s z (480 + z) = 0 := by
  unfold useS
  refine ⟨?_, ?_, ?_, ?_, ?_⟩
  · rw [pk_un (by omega), pk_un (by omega), pk_un (by omega), pk_us]
  · rw [pk_un (by omega), pk_un (by omega), pk_us]
  · rw [pk_un (by omega), pk_un (by omega), pk_un (by omega), pk_un (by omega), pk_us]
  · rw [pk_un (by omega), pk_us]
  · rw [pk_us]
theorem uP_un {tr p : Nat → Nat} {a b z v x : Nat} (h : x ≠ z) : uP tr a b (un p z v) x = uP tr a b p x := by
  by_cases e : ∃ j, a ≤ j ∧ j < b ∧ tr j = x ∧ x < 48
  · rw [uP_t e, uP_t e]
  · rw [uP_f e, uP_f e, un_n h]
theorem uK_un {tr p : Nat → Nat} {a b z v x : Nat} (h : x ≠ z) : uK tr a b (un p z v) x = uK tr a b p x := by
  by_cases e : ∃ j, a ≤ j ∧ j < b ∧ tr j = 100 + x
  · rw [uK_t e, uK_t e]
  · rw [uK_f e, uK_f e, un_n h]
/-- one more variable -/
theorem uB_take {used : Int64} {z x : Nat} (hz : z < 48) : uB (used ||| ((1 : Int64) <<< ((nI z).toInt64 &&& 63))) x ↔ uB used x ∨ x = z := by
  show bL _ x = true ↔ _
  rw [bL_or1 _ (by omega), Bool.or_eq_true, decide_eq_true_eq]
  exact ⟨fun h => h.imp (fun q => q) Eq.symm, fun h => h.imp (fun q => q) Eq.symm⟩
theorem fo_take {U U' : Nat → Prop} {p T rk : Nat → Nat} {z : Nat} (F : Fo U p T rk) (hz : z < 48) (hn : ¬ U z) (hU : ∀ x, U' x ↔ U x ∨ x = z) : Fo U' (un p z z) (un T z z) rk := by
  intro x hx
  by_cases e : x = z
  · subst e
    rw [un_s, un_s, un_s]
    exact ⟨hz, hx, hx, rfl, rfl, fun _ => rfl, fun q => absurd rfl q⟩
  · have h : U x := ((hU x).1 hx).resolve_right e
    have hT : T x ≠ z := fun q => hn (q ▸ fo_T F h)
    have hp : p x ≠ z := fun q => hn (q ▸ fo_p F h)
    have q := F x h
    rw [un_n e, un_n e, un_n hT, un_n hp]
    exact ⟨q.1, (hU _).2 (Or.inl q.2.1), (hU _).2 (Or.inl q.2.2.1), q.2.2.2⟩
theorem xd_take {U U' : Nat → Prop} {p kd mn pt : Nat → Nat} {z : Nat} (D : XD U p kd mn pt) (hU : ∀ x, U' x ↔ U x ∨ x = z) : XD U' (un p z z) (un kd z 0) mn pt := by
  intro x hx e
  by_cases e1 : x = z
  · rw [e1, un_s]
    exact ⟨by omega, fun q => absurd q (by decide)⟩
  · have h : U x := ((hU x).1 hx).resolve_right e1
    rw [un_n e1] at e ⊢
    have q := D x h e
    exact ⟨q.1, fun k2 => ⟨(q.2 k2).1, fun k hk => (hU _).2 (Or.inl ((q.2 k2).2 k hk))⟩⟩
theorem yr_take {U U' : Nat → Prop} {p T rk kd mn pt id : Nat → Nat} {val g g' : Nat → Int32} {z : Nat} (F : Fo U p T rk) (D : XD U p kd mn pt) (hz : z < 48) (hn : ¬ U z) (hU : ∀ x, U' x ↔ U x ∨ x = z) (h : YR (xv U T kd mn pt val) id g) (e1 : g' z = nI z) (e2 : g' (48 + z) = 0) (e3 : g' (384 + z) = 1) (eo : ∀ i, i < 432 → i ≠ z → i ≠ 48 + z → i ≠ 384 + z → g' i = g i) : YR (xv U' (un T z z) (un kd z 0) mn pt val) (un id z z) g' := by
  have W : VW (xv U T kd mn pt val) := xv_W F D
  obtain ⟨h1, h2, h3, h4, h5, h6⟩ := h
  have hTz : ∀ x, U x → T x ≠ z := fun x h q => hn (q ▸ fo_T F h)
  have hxz : ∀ x, U x → x ≠ z := fun x h q => hn (q ▸ h)
  have hT : ∀ x, U x → un T z z x = T x := fun x h => un_n (hxz x h)
  have hK : ∀ x, U x → un kd z 0 (un T z z x) = kd (T x) := fun x h => by rw [hT x h, un_n (hTz x h)]
  have hidz : ∀ x, U x → id x ≠ z := fun x h q => hn (q ▸ (h3 x h).2.2.1)
  refine ⟨fun x hx => ?_, fun x hx hnx => ?_, fun x hx => ?_, fun x y hx hy => ?_, fun x hx hnx => ?_, fun x hx hk => ?_⟩
  · by_cases e : x = z
    · rw [e, un_s]; exact ⟨e1, hz⟩
    · rw [un_n e, eo x (by omega) e (by omega) (by omega)]; exact h1 x hx
  · have hnx : ¬ U' x := hnx
    have e : x ≠ z := fun q => hnx ((hU x).2 (Or.inr q))
    have hnu : ¬ U x := fun q => hnx ((hU x).2 (Or.inl q))
    rw [un_n e, eo _ (by omega) (by omega) (by omega) (by omega), eo _ (by omega) (by omega) (by omega) (by omega)]
    exact h2 x hx hnu
  · have hx : U' x := hx
    show g' (384 + x) = 1 ∧ un id z z x ≤ x ∧ U' (un id z z x) ∧ un T z z (un id z z x) = un T z z x
    by_cases e : x = z
    · subst e
      rw [un_s, un_s]
      exact ⟨e3, Nat.le_refl _, hx, rfl⟩
    · have h : U x := ((hU x).1 hx).resolve_right e
      have lx := fo_lt F h
      have q := h3 x h
      rw [un_n e, eo _ (by omega) (by omega) (by omega) (by omega), hT x h, hT _ q.2.2.1]
      exact ⟨q.1, q.2.1, (hU _).2 (Or.inl q.2.2.1), q.2.2.2⟩
  · show un id z z x = un id z z y ↔ un T z z x = un T z z y
    have hx : U' x := hx
    have hy : U' y := hy
    by_cases ex : x = z
    · by_cases ey : y = z
      · rw [ex, ey]; exact ⟨fun _ => rfl, fun _ => rfl⟩
      · have h : U y := ((hU y).1 hy).resolve_right ey
        rw [ex, un_s, un_n ey, un_s, un_n ey]
        exact ⟨fun q => absurd q.symm (hidz y h), fun q => absurd q.symm (hTz y h)⟩
    · have h : U x := ((hU x).1 hx).resolve_right ex
      by_cases ey : y = z
      · rw [ey, un_s, un_n ex, un_s, un_n ex]
        exact ⟨fun q => absurd q (hidz x h), fun q => absurd q (hTz x h)⟩
      · have h' : U y := ((hU y).1 hy).resolve_right ey
        rw [un_n ex, un_n ey, un_n ex, un_n ey]
        exact h4 x y h h'
  · have hx : U' x := hx
    have e : x ≠ z := fun q => hnx (q ▸ e2)
    have h : U x := ((hU x).1 hx).resolve_right e
    have lx := fo_lt F h
    have m3 := vw_M W (x := x) h
    have eo' : ∀ j, 48 ≤ j → j < 384 → j ≠ 48 + z → g' j = g j := fun j a b d => eo j (by omega) (by omega) d (by omega)
    rw [eo' _ (by omega) (by omega) (by omega)] at hnx
    obtain ⟨a, b, d, f, i, j⟩ := h5 x h hnx
    have eM : cM (xv U' (un T z z) (un kd z 0) mn pt val) x = cM (xv U T kd mn pt val) x := by
      rw [xv_M, xv_M, hK x h, hT x h]
    have eK : cK (xv U' (un T z z) (un kd z 0) mn pt val) x = cK (xv U T kd mn pt val) x := hK x h
    have eV : cV (xv U' (un T z z) (un kd z 0) mn pt val) x = cV (xv U T kd mn pt val) x := by rw [xv_V, xv_V, hT x h]
    unfold Tld
    rw [eK, eM, eV, eo' _ (by omega) (by omega) (by omega), eo' _ (by omega) (by omega) (by omega), eo' _ (by omega) (by omega) (by omega), eo' _ (by omega) (by omega) (by omega)]
    refine ⟨a, b, d, f, i, fun k hk => ?_⟩
    obtain ⟨q, q1, q2, q3⟩ := j k hk
    have pU := vw_P W (x := x) h hk
    refine ⟨q, by rw [eo' _ (by omega) (by omega) (by omega)]; exact q1, (hU q).2 (Or.inl q2), ?_⟩
    show un T z z q = un T z z (pt (3 * un T z z x + k))
    rw [hT q q2, hT x h]
    rw [hT (pt (3 * T x + k)) pU]
    exact q3
  · have hx : U' x := hx
    have hk : un kd z 0 (un T z z x) ≠ 0 := hk
    have e : x ≠ z := fun q => hk (by rw [q, un_s, un_s])
    have h : U x := ((hU x).1 hx).resolve_right e
    rw [hK x h] at hk
    obtain ⟨u, a, b, d⟩ := h6 x h hk
    have lu := fo_lt F a
    refine ⟨u, (hU u).2 (Or.inl a), ?_, ?_⟩
    · show un T z z u = un T z z x
      rw [hT u a, hT x h]; exact b
    · have uz := hxz u a
      rw [eo _ (by omega) (by omega) (by omega) (by omega)]; exact d
section
variable {f_trials : Int32} {f_drafted : Int32} {f_found : Int32} {a_s : Nat → Int32} {a_saved : Nat → Int32} {a_draft : Nat → Int32} {a_who : Nat → Int32} {a_met : Nat → Int32} {a_stack : Nat → Int32} {a_fresh : Nat → Int32} {a_deep : Nat → Int32} {a_alike : Nat → Int64} {a_meets : Nat → Int64}
theorem yw_use {post : SY → Prop} {z : Nat} (hz : z < 48) (h : post (f_trials, f_drafted, f_found, useS a_s z, a_saved, a_draft, a_who, a_met, a_stack, a_fresh, a_deep, a_alike, a_meets)) : wpY_use post (f_trials, f_drafted, f_found, a_s, a_saved, a_draft, a_who, a_met, a_stack, a_fresh, a_deep, a_alike, a_meets) (nI z) := by
  show vp_in (384 + nI z) 681 ∧ _
  rw [aL_384, aL_0, aL_48, aL_432, aL_480, cl_n (k := 384 + z), cl_n (k := z), cl_n (k := 48 + z), cl_n (k := 432 + z), cl_n (k := 480 + z)]
  exact ⟨in_n (by omega), nm_e ⟨in_n (by omega), nm_e ⟨in_n (by omega), nm_e ⟨in_n (by omega), nm_e ⟨in_n (by omega), nm_e h⟩⟩⟩⟩⟩
theorem yw_spare2 {post : Int32 → Prop} (h1 : ∀ z, z < 48 → (∀ y, y < z → ¬ a_s (384 + y) = 0) → a_s (384 + z) = 0 → post (nI z)) (h0 : (∀ y, y < 48 → ¬ a_s (384 + y) = 0) → post (-2)) : ∀ n i, i ≤ 48 → 48 - i < n → (∀ y, y < i → ¬ a_s (384 + y) = 0) → wY_spare_2 post f_trials f_drafted f_found a_s a_saved a_draft a_who a_met a_stack a_fresh a_deep a_alike a_meets n (nI i) := by
  intro n
  induction n with
  | zero => intro i _ h; omega
  | succ n ih =>
    intro i hi hn hl
    by_cases e : i = 48
    · subst e
      exact wh_t (a := 48) (b := 48) (by omega) (h0 hl)
    · refine wh_f (a := 48) (b := i) (by omega) ?_
      rw [aL_384, cl_n (k := 384 + i)]
      refine ⟨in_n (by omega), br_c (fun z => h1 i (by omega) hl z) fun z => up1 (ih (i + 1) (by omega) (by omega) fun y hy => ?_)⟩
      by_cases e2 : y = i
      · rw [e2]; exact z
      · exact hl y (by omega)
theorem yw_spare {post : Int32 → Prop} (h1 : ∀ z, z < 48 → (∀ y, y < z → ¬ a_s (384 + y) = 0) → a_s (384 + z) = 0 → post (nI z)) (h0 : (∀ y, y < 48 → ¬ a_s (384 + y) = 0) → post (-2)) : wpY_spare post (f_trials, f_drafted, f_found, a_s, a_saved, a_draft, a_who, a_met, a_stack, a_fresh, a_deep, a_alike, a_meets) := Exists.intro 49 (yw_spare2 h1 h0 49 0 (by omega) (by omega) fun y hy => absurd hy (by omega))
end
section
variable {f_used : Int64} {f_roots : Int64} {f_asked : Int64} {f_trailed : Int32} {f_bound : Int32} {f_pairs : Int32} {f_drafted : Int32} {f_noted : Int32} {f_trials : Int32} {f_mets : Int32} {f_classes : Int32} {a_up : Nat → Int32} {a_kind : Nat → Int32} {a_many : Nat → Int32} {a_parts : Nat → Int32} {a_value : Nat → Int32} {a_trail : Nat → Int32} {a_left : Nat → Int32} {a_right : Nat → Int32} {a_draft : Nat → Int32} {a_stands : Nat → Int32} {a_testX : Nat → Int32} {a_testY : Nat → Int32} {a_triggerX : Nat → Int32} {a_triggerY : Nat → Int32} {a_ends : Nat → Int32} {a_notes : Nat → Int32} {a_oldUsed : Nat → Int64} {a_oldRoots : Nat → Int64} {a_oldAsked : Nat → Int64} {a_oldStands : Nat → Int32} {a_oldTestX : Nat → Int32} {a_oldTestY : Nat → Int32} {a_oldTriggerX : Nat → Int32} {a_oldTriggerY : Nat → Int32} {a_oldEnds : Nat → Int32} {a_oldTrailed : Nat → Int32} {a_oldNoted : Nat → Int32} {a_met : Nat → Int32} {a_classOf : Nat → Int32} {a_finer : Nat → Int32} {a_image : Nat → Int32} {a_seen : Nat → Int32} {a_stack : Nat → Int32} {a_deep : Nat → Int32} {a_company : Nat → Int64} {a_greeted : Nat → Int64}
variable {p kd mn pt tr T rk : Nat → Nat} {tn B L : Nat} {used roots asked : Int64} {id : Nat → Nat} {sd tx ty gx gy en nt s s' w sv : Nat → Int32} {N : Nat} {A : Nat → Int64}
theorem mid_sag (h : (Mid L used roots asked p kd mn pt a_value tr tn sd tx ty gx gy en N nt a_oldUsed a_oldRoots a_oldAsked a_oldStands a_oldTestX a_oldTestY a_oldTriggerX a_oldTriggerY a_oldEnds a_oldTrailed a_oldNoted s sv)) (e : ∀ i, i < 633 → s' i = s i) : (Mid L used roots asked p kd mn pt a_value tr tn sd tx ty gx gy en N nt a_oldUsed a_oldRoots a_oldAsked a_oldStands a_oldTestX a_oldTestY a_oldTriggerX a_oldTriggerY a_oldEnds a_oldTrailed a_oldNoted s' sv) := by
  obtain ⟨⟨⟨T, rk, id, F, D, Y⟩, m1, m2, m3, m4, m5⟩, hT, hL⟩ := h
  exact ⟨⟨⟨T, rk, id, F, D, yr_ag Y (fun i hi => e i (by omega)) (xv_W F D)⟩, mb_ag m1 fun i a b => e i (by omega), mt_ag m2 fun i a b => e i (by omega), mg_ag m3 fun i a b => e i (by omega), me_ag m4 fun i a b => e i (by omega), mn_ag m5 fun i a b => e i (by omega)⟩, hT, hL⟩
theorem mt_used {used used' : Int64} (h : MTest used sd tx ty s) (hu : ∀ x, uB used x → uB used' x) : MTest used' sd tx ty s := fun k hk => by
  obtain ⟨a, b, c, d, e, f, g⟩ := h k hk
  refine ⟨a, b, c, d, e, f, fun z => ?_⟩
  obtain ⟨⟨x, e1, e2⟩, g2⟩ := g z
  exact ⟨⟨x, e1, hu x e2⟩, g2.imp (fun q => q) fun ⟨y, e3, e4⟩ => ⟨y, e3, hu y e4⟩⟩
theorem mg_used {used used' : Int64} (h : MTrig used gx gy s) (hu : ∀ x, uB used x → uB used' x) : MTrig used' gx gy s := fun k hk => by
  obtain ⟨a, b, c, d, e⟩ := h k hk
  exact ⟨a, b, c, d, e.imp (fun q => q) fun ⟨x, y, e1, e2, e3, e4⟩ => ⟨x, y, e1, e2, hu x e3, hu y e4⟩⟩
theorem me_used {used used' : Int64} (h : MEnd used en s) (hu : ∀ x, uB used x → uB used' x) : MEnd used' en s := fun k hk => by
  obtain ⟨a, b, e⟩ := h k hk
  exact ⟨a, b, e.imp (fun q => q) fun ⟨x, e1, e2⟩ => ⟨x, e1, hu x e2⟩⟩
theorem mid_take {z : Nat} (h : (Mid L used roots asked p kd mn pt a_value tr tn sd tx ty gx gy en N nt a_oldUsed a_oldRoots a_oldAsked a_oldStands a_oldTestX a_oldTestY a_oldTriggerX a_oldTriggerY a_oldEnds a_oldTrailed a_oldNoted s sv)) (hz : z < 48) (hn : ¬ uB used z) : (Mid L (used ||| ((1 : Int64) <<< ((nI z).toInt64 &&& 63))) roots asked (un p z z) (un kd z 0) mn pt a_value tr tn sd tx ty gx gy en N nt a_oldUsed a_oldRoots a_oldAsked a_oldStands a_oldTestX a_oldTestY a_oldTriggerX a_oldTriggerY a_oldEnds a_oldTrailed a_oldNoted (useS s z) sv) := by
  obtain ⟨⟨⟨T, rk, id, F, D, Y⟩, m1, m2, m3, m4, m5⟩, hT, hL⟩ := h
  have hU : ∀ x, uB (used ||| ((1 : Int64) <<< ((nI z).toInt64 &&& 63))) x ↔ uB used x ∨ x = z := fun x => uB_take hz
  have hu : ∀ x, uB used x → uB (used ||| ((1 : Int64) <<< ((nI z).toInt64 &&& 63))) x := fun x h => (hU x).2 (Or.inl h)
  have hxz : ∀ x, uB used x → x ≠ z := fun x h q => hn (q ▸ h)
  have uz := useS_z (s := s) hz
  refine ⟨⟨⟨un T z z, rk, un id z z, fo_take F hz hn hU, xd_take D hU, yr_take F D hz hn hU Y uz.1 uz.2.1 uz.2.2.1 fun i hi a b d => useS_o d a b (by omega) (by omega)⟩, ⟨fun x hx => ?_, fun x hx => hu x (m1.2.1 x hx), fun x hx => hu x (m1.2.2.1 x hx), fun x hx => ?_⟩, mt_ag (mt_used m2 hu) fun i a b => useS_o (by omega) (by omega) (by omega) (by omega) (by omega), mg_ag (mg_used m3 hu) fun i a b => useS_o (by omega) (by omega) (by omega) (by omega) (by omega), me_ag (me_used m4 hu) fun i a b => useS_o (by omega) (by omega) (by omega) (by omega) (by omega), mn_ag m5 fun i a b => useS_o (by omega) (by omega) (by omega) (by omega) (by omega)⟩, ⟨fun j hj => ?_, hT.2⟩, ?_⟩
  · rcases (hU x).1 hx with q | q
    · exact m1.1 x q
    · omega
  · by_cases e : x = z
    · subst e
      have q1 : bL roots x = false := ts_nt fun q => hn (m1.2.1 x q)
      have q2 : bL asked x = false := ts_nt fun q => hn (m1.2.2.1 x q)
      rw [uz.2.2.2.1, uz.2.2.2.2, q1, q2]
      exact ⟨rfl, rfl⟩
    · rw [useS_o (by omega) (by omega) (by omega) (by omega) (by omega), useS_o (by omega) (by omega) (by omega) (by omega) (by omega)]
      exact m1.2.2.2 x hx
  · rcases hT.1 j hj with ⟨a, b, d⟩ | ⟨x, a, b, d, e⟩
    · exact Or.inl ⟨a, hu _ b, by rw [un_n (hxz _ b)]; exact d⟩
    · exact Or.inr ⟨x, a, b, hu _ d, by rw [un_n (hxz _ d)]; exact e⟩
  · exact lev_gen hL hu (Nat.le_refl _) (fun _ _ => rfl) (Nat.le_refl _) (fun t _ x hx => uP_un (hxz x hx)) (fun t _ x hx => uK_un (hxz x hx)) (fun _ _ _ => ⟨rfl, rfl, fun _ _ => rfl⟩) fun _ _ _ => rfl
end
theorem i_vc_variable {k : Nat} {u : SX} {v : SY} (I : i_Rel k u v) (hk : k + 4 ≤ 2048) : wpX_variable (fun r u' => wpY_variable (fun r' v' => r' = r ∧ i_Rel (k + 4) u' v') v) u := by
  refine rel_el (P := fun u v => wpX_variable (fun r u' => wpY_variable (fun r' v' => r' = r ∧ i_Rel (k + 4) u' v') v) u) ?_ I
  intro f_bound f_mets f_classes a_value a_left a_right a_draft a_oldUsed a_oldRoots a_oldAsked a_oldStands a_oldTestX a_oldTestY a_oldTriggerX a_oldTriggerY a_oldEnds a_oldTrailed a_oldNoted a_met a_classOf a_finer a_image a_seen a_stack a_deep a_company a_greeted used roots asked p kd mn pt tr tn sd tx ty gx gy en N nt L dn dr yf3 s sv y1 w y2 y3 y4 y5 A y6 hM ⟨h1, h2, h3, h4, h5⟩
  unfold wpX_variable
  refine xw_spare fun x hx hlo hx' => ?_
  by_cases e : x = 48
  · refine br_t (by rw [e]; rfl) ?_
    unfold wpY_variable
    refine yw_spare (fun z hz _ z0 => ?_) (fun _ => br_t (by decide) ⟨rfl, rel_mk hM ⟨h1, h2, by omega, h4, h5⟩⟩)
    rw [mid_u1 hM (hlo z (by omega))] at z0
    exact absurd z0 (by decide)
  · have lx : x < 48 := by omega
    have nx : ¬ uB used x := fun q => by
      have := hx' lx
      rw [show bL used x = true from q] at this
      exact absurd this (by decide)
    refine br_f (fun z => e (nI_inj (b := 48) z)) (xw_take lx ?_)
    unfold wpY_variable
    refine yw_spare (fun z hz zl z0 => ?_) (fun hall => absurd (mid_u0 hM lx nx) (hall x lx))
    have : z = x := by
      by_cases a : z < x
      · rw [mid_u1 hM (hlo z a)] at z0
        exact absurd z0 (by decide)
      · by_cases b : x < z
        · exact absurd (mid_u0 hM lx nx) (zl x b)
        · omega
    subst this
    refine br_f (nI_nn (by omega)) (yw_use lx ⟨rfl, rel_mk (mid_take hM lx nx) ⟨h1, h2, by omega, h4, h5⟩⟩)
end
section
/-! calls on both sides: streams' ends, roots, tests, triggers, needs -/
theorem i_vc_stream {k : Nat} {u : SX} {v : SY} (I : i_Rel k u v) (hk : k + 4 ≤ 2048) (v1 : Int32) (v2 : Int32) : wpX_stream (fun r u' => wpY_stream (fun r' v' => r' = r ∧ i_Rel (k + 4) u' v') v v1 v2) u v1 v2 := by
  refine rel_el (P := fun u v => wpX_stream (fun r u' => wpY_stream (fun r' v' => r' = r ∧ i_Rel (k + 4) u' v') v v1 v2) u v1 v2) ?_ I
  intro f_bound f_mets f_classes a_value a_left a_right a_draft a_oldUsed a_oldRoots a_oldAsked a_oldStands a_oldTestX a_oldTestY a_oldTriggerX a_oldTriggerY a_oldEnds a_oldTrailed a_oldNoted a_met a_classOf a_finer a_image a_seen a_stack a_deep a_company a_greeted used roots asked p kd mn pt tr tn sd tx ty gx gy en N nt L dn dr yf3 s sv y1 w y2 y3 y4 y5 A y6 hM ⟨h1, h2, h3, h4, h5⟩
  unfold wpX_stream wpY_stream
  have I' : i_Rel (k + 4) (used, roots, asked, nI tn, f_bound, 0, nI dn, nI N, nI L, f_mets, f_classes, nA p, nA kd, nA mn, nA pt, a_value, nA tr, a_left, a_right, a_draft, sd, tx, ty, gx, gy, en, nt, a_oldUsed, a_oldRoots, a_oldAsked, a_oldStands, a_oldTestX, a_oldTestY, a_oldTriggerX, a_oldTriggerY, a_oldEnds, a_oldTrailed, a_oldNoted, a_met, a_classOf, a_finer, a_image, a_seen, a_stack, a_deep, a_company, a_greeted) (nI L, nI dn, yf3, s, sv, y1, w, y2, y3, y4, y5, A, y6) := rel_mk hM ⟨h1, h2, by omega, h4, h5⟩
  rcases in_or v1 3 (by decide) with ⟨j, hj, rfl⟩ | ⟨g1, g2⟩
  · refine xw_in_t (N := 4) hj (by decide) (br_f (by decide) ?_)
    have fin : ∀ v, (v = -1 ∨ ∃ x, v = nI x ∧ uB used x) → wX_stream_23 (fun r u' => wY_stream_24 (fun r' v' => r' = r ∧ i_Rel (k + 4) u' v') (nI j) v (nI L) (nI dn) yf3 s sv y1 w y2 y3 y4 y5 A y6) (nI j) v used roots asked (nI tn) f_bound 0 (nI dn) (nI N) (nI L) f_mets f_classes (nA p) (nA kd) (nA mn) (nA pt) a_value (nA tr) a_left a_right a_draft sd tx ty gx gy en nt a_oldUsed a_oldRoots a_oldAsked a_oldStands a_oldTestX a_oldTestY a_oldTriggerX a_oldTriggerY a_oldEnds a_oldTrailed a_oldNoted a_met a_classOf a_finer a_image a_seen a_stack a_deep a_company a_greeted := by
      intro v hv
      have hs : Sm v := by
        rcases hv with rfl | ⟨x, rfl, hx⟩
        · exact sm_m
        · exact sm_n (by have := mid_lt hM hx; omega)
      refine And.intro (in_n hj) (nmr (upd en j v) (by rw [sm_v2 hs, cl_n (k := j)]) ?_)
      unfold wY_stream_24
      rw [aL_568, cl_n (k := 568 + j)]
      exact ⟨in_n (by omega), nm_e ⟨rfl, rel_mk (mid_end hM hj hv) ⟨h1, h2, by omega, h4, h5⟩⟩⟩
    by_cases e : v2 = -1
    · subst e
      refine br_t rfl ?_
      have := fin (-1) (Or.inl rfl)
      unfold wX_stream_23 at this ⊢
      exact ⟨this.1, fun a ha => yin_t (n := 3) (by omega) (by decide) (br_t rfl (this.2 a ha))⟩
    · refine br_f e ?_
      rcases us_or (uB used) v2 with ⟨x, lx, hx, rfl⟩ | hx
      · refine xu_t hM hx (br_f (by decide) ?_)
        have := fin (nI x) (Or.inr ⟨x, rfl, hx⟩)
        unfold wX_stream_23 at this ⊢
        exact ⟨this.1, fun a ha => yin_t (n := 3) (by omega) (by decide) (br_f e (yu_t hM hx (br_f (by decide) (this.2 a ha))))⟩
      · exact xu_f hx (br_t rfl (yin_t (n := 3) (by omega) (by decide) (br_f e (yu_f hM hx (br_t rfl ⟨rfl, I'⟩)))))
  · exact xw_in_f (N := 4) g1 (by decide) (br_t rfl (yin_f (n := 3) g2 ⟨rfl, I'⟩))
theorem i_vc_part {k : Nat} {u : SX} {v : SY} (I : i_Rel k u v) (hk : k + 4 ≤ 2048) (v1 : Int32) : wpX_part (fun r u' => wpY_part (fun r' v' => r' = r ∧ i_Rel (k + 4) u' v') v v1) u v1 := by
  refine rel_el (P := fun u v => wpX_part (fun r u' => wpY_part (fun r' v' => r' = r ∧ i_Rel (k + 4) u' v') v v1) u v1) ?_ I
  intro f_bound f_mets f_classes a_value a_left a_right a_draft a_oldUsed a_oldRoots a_oldAsked a_oldStands a_oldTestX a_oldTestY a_oldTriggerX a_oldTriggerY a_oldEnds a_oldTrailed a_oldNoted a_met a_classOf a_finer a_image a_seen a_stack a_deep a_company a_greeted used roots asked p kd mn pt tr tn sd tx ty gx gy en N nt L dn dr yf3 s sv y1 w y2 y3 y4 y5 A y6 hM ⟨h1, h2, h3, h4, h5⟩
  unfold wpX_part wpY_part
  have I' : i_Rel (k + 4) (used, roots, asked, nI tn, f_bound, 0, nI dn, nI N, nI L, f_mets, f_classes, nA p, nA kd, nA mn, nA pt, a_value, nA tr, a_left, a_right, a_draft, sd, tx, ty, gx, gy, en, nt, a_oldUsed, a_oldRoots, a_oldAsked, a_oldStands, a_oldTestX, a_oldTestY, a_oldTriggerX, a_oldTriggerY, a_oldEnds, a_oldTrailed, a_oldNoted, a_met, a_classOf, a_finer, a_image, a_seen, a_stack, a_deep, a_company, a_greeted) (nI L, nI dn, yf3, s, sv, y1, w, y2, y3, y4, y5, A, y6) := rel_mk hM ⟨h1, h2, by omega, h4, h5⟩
  rcases us_or (uB used) v1 with ⟨x, lx, hx, rfl⟩ | hx
  · refine xu_t hM hx (br_f (by decide) ?_)
    by_cases e : dn = 3
    · exact br_t (by rw [e]; rfl) (yu_t hM hx (br_f (by decide) (br_t (by rw [e]; rfl) ⟨rfl, I'⟩)))
    · have ne : ¬ nI dn = 3 := fun z => e (nI_inj (b := 3) z)
      refine br_f ne (up1 ⟨in_n (by omega), nmr (upd a_draft dn (nI x)) (by rw [vb_2 (by omega), cl_n (k := dn)]) ?_⟩)
      refine yu_t hM hx (br_f (by decide) (br_f ne (up1 ⟨in_n (by omega), nmr (upd y1 dn (nI x)) (by rw [cl_n (k := dn)]) ⟨rfl, rel_mk (dr := un dr dn x) hM ⟨h1, h2, by omega, by omega, fun j hj => ?_⟩⟩⟩)))
      by_cases z : j = dn
      · rw [z, pk_us, pk_us, un_s]; exact ⟨rfl, rfl, lx⟩
      · rw [pk_un z, pk_un z, un_n z]; exact h5 j hj
  · exact xu_f hx (br_t rfl (yu_f hM hx (br_t rfl ⟨rfl, I'⟩)))
theorem i_vc_root {k : Nat} {u : SX} {v : SY} (I : i_Rel k u v) (hk : k + 4 ≤ 2048) (v1 : Int32) (v2 : Int32) : wpX_root (fun r u' => wpY_root (fun r' v' => r' = r ∧ i_Rel (k + 4) u' v') v v1 (lw_bz v2)) u v1 (lw_bz v2) := by
  refine rel_el (P := fun u v => wpX_root (fun r u' => wpY_root (fun r' v' => r' = r ∧ i_Rel (k + 4) u' v') v v1 (lw_bz v2)) u v1 (lw_bz v2)) ?_ I
  intro f_bound f_mets f_classes a_value a_left a_right a_draft a_oldUsed a_oldRoots a_oldAsked a_oldStands a_oldTestX a_oldTestY a_oldTriggerX a_oldTriggerY a_oldEnds a_oldTrailed a_oldNoted a_met a_classOf a_finer a_image a_seen a_stack a_deep a_company a_greeted used roots asked p kd mn pt tr tn sd tx ty gx gy en N nt L dn dr yf3 s sv y1 w y2 y3 y4 y5 A y6 hM ⟨h1, h2, h3, h4, h5⟩
  unfold wpX_root wpY_root
  dsimp only
  have I' : i_Rel (k + 4) (used, roots, asked, nI tn, f_bound, 0, nI dn, nI N, nI L, f_mets, f_classes, nA p, nA kd, nA mn, nA pt, a_value, nA tr, a_left, a_right, a_draft, sd, tx, ty, gx, gy, en, nt, a_oldUsed, a_oldRoots, a_oldAsked, a_oldStands, a_oldTestX, a_oldTestY, a_oldTriggerX, a_oldTriggerY, a_oldEnds, a_oldTrailed, a_oldNoted, a_met, a_classOf, a_finer, a_image, a_seen, a_stack, a_deep, a_company, a_greeted) (nI L, nI dn, yf3, s, sv, y1, w, y2, y3, y4, y5, A, y6) := rel_mk hM ⟨h1, h2, by omega, h4, h5⟩
  rcases us_or (uB used) v1 with ⟨x, lx, hx, rfl⟩ | hx
  · refine xu_t hM hx (br_f (by decide) ?_)
    rw [aL_432, cl_n (k := 432 + x), (hM.1.2.1.2.2.2 x lx).1]
    have hin : vp_in (nI (432 + x)) 681 := in_n (by omega)
    have e432 : (432 : Int32) + nI x = nI (432 + x) := aL_432 x
    by_cases b : bL roots x = true
    · rw [b01_t b]
      refine br_f (bt_n0 (by omega) b) ?_
      rcases lw_bz_01 v2 with e | e
      · rw [e]
        refine And.intro (fun z => absurd z (by decide)) (fun _ => nm_e (yu_t hM hx (br_f (by decide) ⟨hin, br_t rfl (And.intro (fun z => absurd z (by decide)) fun _ => br_t rfl ?_)⟩)))
        rw [e432, cl_n (k := 432 + x)]
        exact ⟨hin, nm_e ⟨rfl, rel_mk (mid_root (b := false) hM hx (by rw [b]; rfl)) ⟨h1, h2, by omega, h4, h5⟩⟩⟩
      · rw [e]
        exact And.intro (fun _ => yu_t hM hx (br_f (by decide) ⟨hin, br_t rfl (And.intro (fun _ => ⟨rfl, I'⟩) fun z => absurd rfl z)⟩)) (fun z => absurd rfl z)
    · have b := ts_nt b
      rw [b01_f b]
      refine br_t ((bt_0 _ (by omega)).2 b) ?_
      rcases lw_bz_01 v2 with e | e
      · rw [e]
        exact And.intro (fun _ => yu_t hM hx (br_f (by decide) ⟨hin, br_f (by decide) (And.intro (fun _ => ⟨rfl, I'⟩) fun z => absurd rfl z)⟩)) (fun z => absurd rfl z)
      · rw [e]
        refine And.intro (fun z => absurd z (by decide)) (fun _ => nm_e (yu_t hM hx (br_f (by decide) ⟨hin, br_f (by decide) (And.intro (fun z => absurd z (by decide)) fun _ => br_f (by decide) ?_)⟩)))
        rw [e432, cl_n (k := 432 + x)]
        exact ⟨hin, nm_e ⟨rfl, rel_mk (mid_root (b := true) hM hx (by rw [b]; rfl)) ⟨h1, h2, by omega, h4, h5⟩⟩⟩
  · exact xu_f hx (br_t rfl (yu_f hM hx (br_t rfl ⟨rfl, I'⟩)))
theorem i_vc_need {k : Nat} {u : SX} {v : SY} (I : i_Rel k u v) (hk : k + 4 ≤ 2048) (v1 : Int32) : wpX_need (fun r u' => wpY_need (fun r' v' => r' = r ∧ i_Rel (k + 4) u' v') v v1) u v1 := by
  refine rel_el (P := fun u v => wpX_need (fun r u' => wpY_need (fun r' v' => r' = r ∧ i_Rel (k + 4) u' v') v v1) u v1) ?_ I
  intro f_bound f_mets f_classes a_value a_left a_right a_draft a_oldUsed a_oldRoots a_oldAsked a_oldStands a_oldTestX a_oldTestY a_oldTriggerX a_oldTriggerY a_oldEnds a_oldTrailed a_oldNoted a_met a_classOf a_finer a_image a_seen a_stack a_deep a_company a_greeted used roots asked p kd mn pt tr tn sd tx ty gx gy en N nt L dn dr yf3 s sv y1 w y2 y3 y4 y5 A y6 hM ⟨h1, h2, h3, h4, h5⟩
  unfold wpX_need
  rcases us_or (uB used) v1 with ⟨x, lx, hx, rfl⟩ | hx
  · refine xu_t hM hx (br_f (by decide) (nm_e ?_))
    refine xy_again (yf1 := nI L) (yf2 := nI dn) (yf3 := yf3) (y1 := y1) (y2 := y2) (y3 := y3) (y4 := y4) (y5 := y5) (y6 := y6) (w := w) (A := A) (GY := fun post => ∀ Q : Int32 → SY → Prop, (fun v' => Q 1 v') = post → wpY_need Q (nI L, nI dn, yf3, s, sv, y1, w, y2, y3, y4, y5, A, y6) (nI x)) (mid_ask hM hx) h1 (by omega) (fun post hp Q e => ?_) ?_
    · subst e
      unfold wpY_need
      refine yu_t hM hx (br_f (by decide) ?_)
      rw [aL_480, cl_n (k := 480 + x)]
      exact ⟨in_n (by omega), nm_e hp⟩
    · intro f_bound a_left a_right p tr tn gx sd N' nt s w A g1 g2 g3 g4
      exact g4 (fun v' => 1 = 1 ∧ i_Rel (k + 4) _ v') ⟨rfl, rel_mk g3 ⟨h1, g2, by omega, h4, h5⟩⟩ _ rfl
  · unfold wpY_need
    exact xu_f hx (br_t rfl (yu_f hM hx (br_t rfl ⟨rfl, rel_mk hM ⟨h1, h2, by omega, h4, h5⟩⟩)))
theorem i_vc_trigger {k : Nat} {u : SX} {v : SY} (I : i_Rel k u v) (hk : k + 4 ≤ 2048) (v1 : Int32) (v2 : Int32) (v3 : Int32) : wpX_trigger (fun r u' => wpY_trigger (fun r' v' => r' = r ∧ i_Rel (k + 4) u' v') v v1 v2 v3) u v1 v2 v3 := by
  refine rel_el (P := fun u v => wpX_trigger (fun r u' => wpY_trigger (fun r' v' => r' = r ∧ i_Rel (k + 4) u' v') v v1 v2 v3) u v1 v2 v3) ?_ I
  intro f_bound f_mets f_classes a_value a_left a_right a_draft a_oldUsed a_oldRoots a_oldAsked a_oldStands a_oldTestX a_oldTestY a_oldTriggerX a_oldTriggerY a_oldEnds a_oldTrailed a_oldNoted a_met a_classOf a_finer a_image a_seen a_stack a_deep a_company a_greeted used roots asked p kd mn pt tr tn sd tx ty gx gy en N nt L dn dr yf3 s sv y1 w y2 y3 y4 y5 A y6 hM ⟨h1, h2, h3, h4, h5⟩
  unfold wpX_trigger
  have I' : i_Rel (k + 4) (used, roots, asked, nI tn, f_bound, 0, nI dn, nI N, nI L, f_mets, f_classes, nA p, nA kd, nA mn, nA pt, a_value, nA tr, a_left, a_right, a_draft, sd, tx, ty, gx, gy, en, nt, a_oldUsed, a_oldRoots, a_oldAsked, a_oldStands, a_oldTestX, a_oldTestY, a_oldTriggerX, a_oldTriggerY, a_oldEnds, a_oldTrailed, a_oldNoted, a_met, a_classOf, a_finer, a_image, a_seen, a_stack, a_deep, a_company, a_greeted) (nI L, nI dn, yf3, s, sv, y1, w, y2, y3, y4, y5, A, y6) := rel_mk hM ⟨h1, h2, by omega, h4, h5⟩
  rcases in_or v1 7 (by decide) with ⟨j, hj, rfl⟩ | ⟨g1, g2⟩
  · refine xw_in_t (N := 8) hj (by decide) (br_f (by decide) ?_)
    rcases us_or (uB used) v2 with ⟨x, lx, hx, rfl⟩ | hx
    · refine xu_t hM hx (br_f (by decide) ?_)
      rcases us_or (uB used) v3 with ⟨y, ly, hy, rfl⟩ | hy
      · refine xu_t hM hy (br_f (by decide) ⟨in_n hj, nmr (upd gx j (nI x)) (by rw [vb_2 (by omega), cl_n (k := j)]) ⟨in_n hj, nmr (upd gy j (nI y)) (by rw [vb_2 (by omega), cl_n (k := j)]) ?_⟩⟩)
        refine xy_again (yf1 := nI L) (yf2 := nI dn) (yf3 := yf3) (y1 := y1) (y2 := y2) (y3 := y3) (y4 := y4) (y5 := y5) (y6 := y6) (w := w) (A := A) (GY := fun post => ∀ Q : Int32 → SY → Prop, (fun v' => Q 1 v') = post → wpY_trigger Q (nI L, nI dn, yf3, s, sv, y1, w, y2, y3, y4, y5, A, y6) (nI j) (nI x) (nI y)) (mid_trig hM hj hx hy) h1 (by omega) (fun post hp Q e => ?_) ?_
        · subst e
          unfold wpY_trigger
          refine yin_t (n := 7) (by omega) (by decide) (yu_t hM hx (br_f (by decide) (yu_t hM hy (br_f (by decide) ?_))))
          rw [aL_552, aL_560, cl_n (k := 552 + j), cl_n (k := 560 + j)]
          exact ⟨in_n (by omega), nm_e ⟨in_n (by omega), nm_e hp⟩⟩
        · intro f_bound a_left a_right p tr tn gx sd N' nt s w A g1 g2 g3 g4
          exact g4 (fun v' => 1 = 1 ∧ i_Rel (k + 4) _ v') ⟨rfl, rel_mk g3 ⟨h1, g2, by omega, h4, h5⟩⟩ _ rfl
      · unfold wpY_trigger
        exact xu_f hy (br_t rfl (yin_t (n := 7) (by omega) (by decide) (yu_t hM hx (br_f (by decide) (yu_f hM hy (br_t rfl ⟨rfl, I'⟩))))))
    · unfold wpY_trigger
      exact xu_f hx (br_t rfl (yin_t (n := 7) (by omega) (by decide) (yu_f hM hx (br_t rfl ⟨rfl, I'⟩))))
  · unfold wpY_trigger
    exact xw_in_f (N := 8) g1 (by decide) (br_t rfl (yin_f (n := 7) g2 ⟨rfl, I'⟩))
theorem i_vc_test {k : Nat} {u : SX} {v : SY} (I : i_Rel k u v) (hk : k + 4 ≤ 2048) (v1 : Int32) (v2 : Int32) (v3 : Int32) : wpX_test (fun r u' => wpY_test (fun r' v' => r' = r ∧ i_Rel (k + 4) u' v') v v1 v2 v3) u v1 v2 v3 := by
  refine rel_el (P := fun u v => wpX_test (fun r u' => wpY_test (fun r' v' => r' = r ∧ i_Rel (k + 4) u' v') v v1 v2 v3) u v1 v2 v3) ?_ I
  intro f_bound f_mets f_classes a_value a_left a_right a_draft a_oldUsed a_oldRoots a_oldAsked a_oldStands a_oldTestX a_oldTestY a_oldTriggerX a_oldTriggerY a_oldEnds a_oldTrailed a_oldNoted a_met a_classOf a_finer a_image a_seen a_stack a_deep a_company a_greeted used roots asked p kd mn pt tr tn sd tx ty gx gy en N nt L dn dr yf3 s sv y1 w y2 y3 y4 y5 A y6 hM ⟨h1, h2, h3, h4, h5⟩
  unfold wpX_test
  have I' : i_Rel (k + 4) (used, roots, asked, nI tn, f_bound, 0, nI dn, nI N, nI L, f_mets, f_classes, nA p, nA kd, nA mn, nA pt, a_value, nA tr, a_left, a_right, a_draft, sd, tx, ty, gx, gy, en, nt, a_oldUsed, a_oldRoots, a_oldAsked, a_oldStands, a_oldTestX, a_oldTestY, a_oldTriggerX, a_oldTriggerY, a_oldEnds, a_oldTrailed, a_oldNoted, a_met, a_classOf, a_finer, a_image, a_seen, a_stack, a_deep, a_company, a_greeted) (nI L, nI dn, yf3, s, sv, y1, w, y2, y3, y4, y5, A, y6) := rel_mk hM ⟨h1, h2, by omega, h4, h5⟩
  rcases in_or v1 7 (by decide) with ⟨j, hj, rfl⟩ | ⟨g1, g2⟩
  · refine xw_in_t (N := 8) hj (by decide) (br_f (by decide) ?_)
    rcases us_or (uB used) v2 with ⟨x, lx, hx, rfl⟩ | hx
    · refine xu_t hM hx (br_f (by decide) ?_)
      have fin : ∀ v3, (v3 = -1 ∨ ∃ y, v3 = nI y ∧ uB used y) → wX_test_32 (fun r u' => wpY_test (fun r' v' => r' = r ∧ i_Rel (k + 4) u' v') (nI L, nI dn, yf3, s, sv, y1, w, y2, y3, y4, y5, A, y6) (nI j) (nI x) v3) (nI j) (nI x) v3 used roots asked (nI tn) f_bound 0 (nI dn) (nI N) (nI L) f_mets f_classes (nA p) (nA kd) (nA mn) (nA pt) a_value (nA tr) a_left a_right a_draft sd tx ty gx gy en nt a_oldUsed a_oldRoots a_oldAsked a_oldStands a_oldTestX a_oldTestY a_oldTriggerX a_oldTriggerY a_oldEnds a_oldTrailed a_oldNoted a_met a_classOf a_finer a_image a_seen a_stack a_deep a_company a_greeted := by
        intro v3 hv
        have hs : Sm v3 := by
          rcases hv with rfl | ⟨x, rfl, hx⟩
          · exact sm_m
          · exact sm_n (by have := mid_lt hM hx; omega)
        refine And.intro (in_n hj) (nmr (upd sd j 3) (by rw [vb_3, cl_n (k := j)]) ⟨in_n hj, nmr (upd tx j (nI x)) (by rw [vb_2 (by omega), cl_n (k := j)]) ⟨in_n hj, nmr (upd ty j v3) (by rw [sm_v2 hs, cl_n (k := j)]) ?_⟩⟩)
        refine xy_again (yf1 := nI L) (yf2 := nI dn) (yf3 := yf3) (y1 := y1) (y2 := y2) (y3 := y3) (y4 := y4) (y5 := y5) (y6 := y6) (w := w) (A := A) (GY := fun post => ∀ Q : Int32 → SY → Prop, (fun v' : SY => vp_in (544 + nI j) 681 ∧ Q (v'.2.2.2.1 (544 + nI j).toNatClampNeg) v') = post → wpY_test Q (nI L, nI dn, yf3, s, sv, y1, w, y2, y3, y4, y5, A, y6) (nI j) (nI x) v3) (mid_test hM hj hx hv) h1 (by omega) (fun post hp Q e => ?_) ?_
        · subst e
          unfold wpY_test
          refine yin_t (n := 7) (by omega) (by decide) (yu_t hM hx (br_f (by decide) ?_))
          have last : wY_test_33 Q (nI j) (nI x) v3 (nI L) (nI dn) yf3 s sv y1 w y2 y3 y4 y5 A y6 := by
            unfold wY_test_33
            rw [aL_528, aL_536, aL_544, cl_n (k := 528 + j), cl_n (k := 536 + j), cl_n (k := 544 + j)]
            refine ⟨in_n (by omega), nm_e ⟨in_n (by omega), nm_e ⟨in_n (by omega), nm_e ?_⟩⟩⟩
            rw [aL_544, cl_n (k := 544 + j)] at hp
            exact hp
          rcases hv with rfl | ⟨y, rfl, hy⟩
          · exact br_t rfl last
          · exact br_f (nI_m1 (by have := mid_lt hM hy; omega)) (yu_t hM hy (br_f (by decide) last))
        · intro f_bound a_left a_right p tr tn gx sd N' nt s w A g1 g2 g3 g4
          refine ⟨in_n hj, ?_⟩
          rw [cl_n (k := j)]
          refine g4 (fun v' : SY => vp_in (544 + nI j) 681 ∧ ((v'.2.2.2.1 (544 + nI j).toNatClampNeg) = sd j ∧ i_Rel (k + 4) _ v')) ⟨by rw [aL_544]; exact in_n (by omega), ?_, rel_mk g3 ⟨h1, g2, by omega, h4, h5⟩⟩ _ rfl
          rw [aL_544, cl_n (k := 544 + j)]
          exact (g3.1.2.2.1 j hj).2.2.1
      by_cases e : v3 = -1
      · exact br_t e (fin v3 (Or.inl e))
      · refine br_f e ?_
        rcases us_or (uB used) v3 with ⟨y, ly, hy, rfl⟩ | hy
        · exact xu_t hM hy (br_f (by decide) (fin (nI y) (Or.inr ⟨y, rfl, hy⟩)))
        · unfold wpY_test
          exact xu_f hy (br_t rfl (yin_t (n := 7) (by omega) (by decide) (yu_t hM hx (br_f (by decide) (br_f e (yu_f hM hy (br_t rfl ⟨rfl, I'⟩)))))))
    · unfold wpY_test
      exact xu_f hx (br_t rfl (yin_t (n := 7) (by omega) (by decide) (yu_f hM hx (br_t rfl ⟨rfl, I'⟩))))
  · unfold wpY_test
    exact xw_in_f (N := 8) g1 (by decide) (br_t rfl (yin_f (n := 7) g2 ⟨rfl, I'⟩))
theorem i_vc_compare {k : Nat} {u : SX} {v : SY} (I : i_Rel k u v) (hk : k + 4 ≤ 2048) (v1 : Int32) (v2 : Int32) : wpX_compare (fun r u' => wpY_compare (fun r' v' => r' = r ∧ i_Rel (k + 4) u' v') v v1 v2) u v1 v2 := by
  refine rel_el (P := fun u v => wpX_compare (fun r u' => wpY_compare (fun r' v' => r' = r ∧ i_Rel (k + 4) u' v') v v1 v2) u v1 v2) ?_ I
  intro f_bound f_mets f_classes a_value a_left a_right a_draft a_oldUsed a_oldRoots a_oldAsked a_oldStands a_oldTestX a_oldTestY a_oldTriggerX a_oldTriggerY a_oldEnds a_oldTrailed a_oldNoted a_met a_classOf a_finer a_image a_seen a_stack a_deep a_company a_greeted used roots asked p kd mn pt tr tn sd tx ty gx gy en N nt L dn dr yf3 s sv y1 w y2 y3 y4 y5 A y6 hM ⟨h1, h2, h3, h4, h5⟩
  unfold wpX_compare wpY_compare
  have I' : i_Rel (k + 4) (used, roots, asked, nI tn, f_bound, 0, nI dn, nI N, nI L, f_mets, f_classes, nA p, nA kd, nA mn, nA pt, a_value, nA tr, a_left, a_right, a_draft, sd, tx, ty, gx, gy, en, nt, a_oldUsed, a_oldRoots, a_oldAsked, a_oldStands, a_oldTestX, a_oldTestY, a_oldTriggerX, a_oldTriggerY, a_oldEnds, a_oldTrailed, a_oldNoted, a_met, a_classOf, a_finer, a_image, a_seen, a_stack, a_deep, a_company, a_greeted) (nI L, nI dn, yf3, s, sv, y1, w, y2, y3, y4, y5, A, y6) := rel_mk hM ⟨h1, h2, by omega, h4, h5⟩
  rcases us_or (uB used) v1 with ⟨x, lx, hx, rfl⟩ | hx
  · refine xu_t hM hx (br_f (by decide) ?_)
    rcases us_or (uB used) v2 with ⟨y, ly, hy, rfl⟩ | hy
    · refine xu_t hM hy (br_f (by decide) ?_)
      have hM' := hM
      obtain ⟨⟨⟨T, rk, id, F, D, Y⟩, m1, m2, m3, m4, m5⟩, hT, hL⟩ := hM'
      have W : VW (xv (uB used) T kd mn pt a_value) := xv_W F D
      have fin : ∀ r b tr' al ar, JR (xv (uB used) T kd mn pt a_value) x y r → (∀ j, j < tn → tr' j = tr j) → wpY_isUsed (fun r_1 => (r_1 = 0 → (-1 : Int32) = nI r ∧ i_Rel (k + 4) (used, roots, asked, nI tn, b, 0, nI dn, nI N, nI L, f_mets, f_classes, nA p, nA kd, nA mn, nA pt, a_value, nA tr', al, ar, a_draft, sd, tx, ty, gx, gy, en, nt, a_oldUsed, a_oldRoots, a_oldAsked, a_oldStands, a_oldTestX, a_oldTestY, a_oldTriggerX, a_oldTriggerY, a_oldEnds, a_oldTrailed, a_oldNoted, a_met, a_classOf, a_finer, a_image, a_seen, a_stack, a_deep, a_company, a_greeted) (nI L, nI dn, yf3, s, sv, y1, w, y2, y3, y4, y5, A, y6)) ∧ (¬ r_1 = 0 → wpY_isUsed (fun r_16 => (r_16 = 0 → (-1 : Int32) = nI r ∧ i_Rel (k + 4) (used, roots, asked, nI tn, b, 0, nI dn, nI N, nI L, f_mets, f_classes, nA p, nA kd, nA mn, nA pt, a_value, nA tr', al, ar, a_draft, sd, tx, ty, gx, gy, en, nt, a_oldUsed, a_oldRoots, a_oldAsked, a_oldStands, a_oldTestX, a_oldTestY, a_oldTriggerX, a_oldTriggerY, a_oldEnds, a_oldTrailed, a_oldNoted, a_met, a_classOf, a_finer, a_image, a_seen, a_stack, a_deep, a_company, a_greeted) (nI L, nI dn, yf3, s, sv, y1, w, y2, y3, y4, y5, A, y6)) ∧ (¬ r_16 = 0 → wpY_relate (fun u => wpY_judge (fun r' v' => r' = nI r ∧ i_Rel (k + 4) (used, roots, asked, nI tn, b, 0, nI dn, nI N, nI L, f_mets, f_classes, nA p, nA kd, nA mn, nA pt, a_value, nA tr', al, ar, a_draft, sd, tx, ty, gx, gy, en, nt, a_oldUsed, a_oldRoots, a_oldAsked, a_oldStands, a_oldTestX, a_oldTestY, a_oldTriggerX, a_oldTriggerY, a_oldEnds, a_oldTrailed, a_oldNoted, a_met, a_classOf, a_finer, a_image, a_seen, a_stack, a_deep, a_company, a_greeted) v') u (nI x) (nI y)) (nI L, nI dn, yf3, s, sv, y1, w, y2, y3, y4, y5, A, y6))) (nI L, nI dn, yf3, s, sv, y1, w, y2, y3, y4, y5, A, y6) (nI y))) (nI L, nI dn, yf3, s, sv, y1, w, y2, y3, y4, y5, A, y6) (nI x) := by
        intro r b tr' al ar hr ha
        refine yu_t hM hx (br_f (by decide) (yu_t hM hy (br_f (by decide) (yw_relate W Y fun w' A' hw hA => ?_))))
        have g := fun (s' : Nat → Int32) (e : ∀ i, i < 633 → s' i = s i) => rel_mk (k := k + 4) (w := w') (A := A') (f_bound := b) (a_left := al) (a_right := ar) (a_draft := a_draft) (y1 := y1) (dr := dr) (dn := dn) (f_mets := f_mets) (f_classes := f_classes) (a_met := a_met) (a_classOf := a_classOf) (a_finer := a_finer) (a_image := a_image) (a_seen := a_seen) (a_stack := a_stack) (a_deep := a_deep) (a_company := a_company) (a_greeted := a_greeted) (yf3 := yf3) (y2 := y2) (y3 := y3) (y4 := y4) (y5 := y5) (y6 := y6) (mid_sag (mid_tr hM ha) e) ⟨h1, h2, (by omega : N ≤ 4 * (k + 4)), h4, h5⟩
        refine yw_judge W Y hA hx hy (fun a => ⟨?_, g s fun _ _ => rfl⟩) (fun t a d => ⟨?_, g _ fun i hi => tz_lo hi⟩) (fun t a d => ⟨?_, g _ fun i hi => tz_lo hi⟩)
        · rw [jr_u hr (Or.inl ⟨rfl, a⟩)]; rfl
        · rw [jr_u hr (Or.inr (Or.inl ⟨rfl, a, d⟩))]; rfl
        · rw [jr_u hr (Or.inr (Or.inr ⟨rfl, a, d⟩))]; rfl
      refine xw_relation F D hT hx hy ?_ ?_ ?_
      · intro b tr' al ar a ha
        exact fin 1 b tr' al ar (Or.inl ⟨rfl, a⟩) ha
      · intro b tr' al ar a d ha
        exact fin 2 b tr' al ar (Or.inr (Or.inl ⟨rfl, a, d⟩)) ha
      · intro b tr' al ar a d ha
        exact fin 3 b tr' al ar (Or.inr (Or.inr ⟨rfl, a, d⟩)) ha
    · exact xu_f hy (br_t rfl (yu_t hM hx (br_f (by decide) (yu_f hM hy (br_t rfl ⟨rfl, I'⟩)))))
  · exact xu_f hx (br_t rfl (yu_f hM hx (br_t rfl ⟨rfl, I'⟩)))
end
section
/-! the reference's close, when one variable was told anew -/
def TlS (c : Vw) (S : Nat → Nat → Prop) (g : Nat → Int32) (x : Nat) : Prop := cK c x ≠ 0 ∧ g (48 + x) = nI (cK c x) ∧ (cK c x = 1 → g (96 + x) = cV c x ∧ g (144 + x) = 0) ∧ (cK c x = 2 → g (96 + x) = 0 ∧ g (144 + x) = cV c x) ∧ g (192 + x) = nI (cM c x) ∧ ∀ k, k < cM c x → ∃ q, g (240 + 3 * x + k) = nI q ∧ cU c q ∧ CC c S q (cP c x k)
def YQ (c : Vw) (S : Nat → Nat → Prop) (id : Nat → Nat) (g : Nat → Int32) : Prop :=
  (∀ x, x < 48 → g x = nI (id x) ∧ id x < 48) ∧
  (∀ x, x < 48 → ¬ cU c x → id x = x ∧ g (48 + x) = 0 ∧ g (384 + x) = 0) ∧
  (∀ x, cU c x → g (384 + x) = 1 ∧ id x ≤ x ∧ cU c (id x) ∧ cT c (id x) = cT c x) ∧
  (∀ x y, cU c x → cU c y → (id x = id y ↔ cT c x = cT c y)) ∧
  (∀ x, cU c x → ¬ g (48 + x) = 0 → TlS c S g x) ∧
  (∀ x, cU c x → cK c x ≠ 0 → ∃ u, cU c u ∧ cT c u = cT c x ∧ ¬ g (48 + u) = 0 ∧ Tld c g u)
theorem tls_of {c : Vw} (W : VW c) {S : Nat → Nat → Prop} {g : Nat → Int32} {x : Nat} (hx : cU c x) (h : Tld c g x) : TlS c S g x := by
  obtain ⟨a, b, d, e, f, i⟩ := h
  refine ⟨a, b, d, e, f, fun k hk => ?_⟩
  obtain ⟨q, q1, q2, q3⟩ := i k hk
  exact ⟨q, q1, q2, cc_T q2 (vw_P W hx hk) q3⟩
theorem yq_of {c : Vw} (W : VW c) {S : Nat → Nat → Prop} {id : Nat → Nat} {g : Nat → Int32} (h : YR c id g) : YQ c S id g := by
  obtain ⟨h1, h2, h3, h4, h5, h6⟩ := h
  refine ⟨h1, h2, h3, h4, fun x hx n => tls_of W hx (h5 x hx n), fun x hx hk => ?_⟩
  obtain ⟨u, a, b, d⟩ := h6 x hx hk
  exact ⟨u, a, b, d, h5 u a d⟩
theorem oth_sameS {c : Vw} (W : VW c) {S : Nat → Nat → Prop} {g : Nat → Int32} {u v : Nat} (hu : cU c u) (hv : cU c v) (tu : TlS c S g u) (tv : TlS c S g v) : ¬ Oth g u v ↔ Same c u v := by
  obtain ⟨u0, u1, u2, u3, u4, _⟩ := tu
  obtain ⟨v0, v1, v2, v3, v4, _⟩ := tv
  have ku := vw_K W hu
  have kv := vw_K W hv
  have mu := vw_M W hu
  have mv := vw_M W hv
  constructor
  · intro h
    have h := Classical.not_not.1 h
    obtain ⟨h1, h2, h3, h4⟩ := h
    rw [u1, v1] at h1
    rw [u4, v4] at h4
    have e : cK c u = cK c v := nI_inj h1
    refine ⟨e, ?_, nI_inj h4⟩
    by_cases e1 : cK c u = 1
    · rw [(u2 e1).1, (v2 (by omega)).1] at h2; exact h2
    · rw [(u3 (by omega)).2, (v3 (by omega)).2] at h3; exact h3
  · intro ⟨h1, h2, h3⟩ n
    apply n
    refine ⟨by rw [u1, v1, h1], ?_, ?_, by rw [u4, v4, h3]⟩
    · by_cases e1 : cK c u = 1
      · rw [(u2 e1).1, (v2 (by omega)).1, h2]
      · rw [(u3 (by omega)).1, (v3 (by omega)).1]
    · by_cases e1 : cK c u = 1
      · rw [(u2 e1).2, (v2 (by omega)).2]
      · rw [(u3 (by omega)).2, (v3 (by omega)).2, h2]
theorem tls_q {c : Vw} {S : Nat → Nat → Prop} {g : Nat → Int32} {u : Nat} (h : TlS c S g u) : ∃ q : Nat → Nat, ∀ k, k < cM c u → g (240 + 3 * u + k) = nI (q k) ∧ cU c (q k) ∧ CC c S (q k) (cP c u k) := by
  have h := h.2.2.2.2.2
  have : ∀ k, ∃ q, k < cM c u → g (240 + 3 * u + k) = nI q ∧ cU c q ∧ CC c S q (cP c u k) := by
    intro k
    by_cases e : k < cM c u
    · obtain ⟨q, hq⟩ := h k e
      exact ⟨q, fun _ => hq⟩
    · exact ⟨0, fun z => absurd z e⟩
  exact ⟨fun k => Classical.choose (this k), fun k hk => Classical.choose_spec (this k) hk⟩
/-- an ids' row on its way, that needn't hold the pairs yet -/
def CQ (c : Vw) (S : Nat → Nat → Prop) (t : Nat → Nat) : Prop := Lst c t ∧ (∀ x y, cU c x → cU c y → cT c x = cT c y → t x = t y) ∧ (∀ x y, cU c x → cU c y → t x = t y → CC c S x y)
def ChQ (c : Vw) (g : Nat → Int32) (t : Nat → Nat) (u v : Nat) : Prop := u < v → t u = t v → ¬ g (48 + u) = 0 → ¬ g (48 + v) = 0 → Same c u v ∧ ∀ k, k < cM c u → ∀ q q', q < 48 → q' < 48 → g (240 + 3 * u + k) = nI q → g (240 + 3 * v + k) = nI q' → t q = t q'
theorem chq_s {c : Vw} {g : Nat → Int32} {t : Nat → Nat} {nb : Nat} (hC : ∀ u v, u < nb → v < nb → ChQ c g t u v) {u v : Nat} (hu : u < nb) (hv : v < nb) (e : t u = t v) (nu : ¬ g (48 + u) = 0) (nv : ¬ g (48 + v) = 0) (ne : u ≠ v) : Same c u v ∧ ∀ k, k < cM c u → ∀ q q', q < 48 → q' < 48 → g (240 + 3 * u + k) = nI q → g (240 + 3 * v + k) = nI q' → t q = t q' := by
  by_cases z2 : u < v
  · exact hC u v hu hv z2 e nu nv
  · have := hC v u hv hu (by omega) e.symm nv nu
    exact ⟨same_s this.1, fun k hk q q' lq lq' eq eq' => (this.2 k (by rw [this.1.2.2]; exact hk) q' q lq' lq eq' eq).symm⟩
theorem cq_sol {c : Vw} (W : VW c) {S : Nat → Nat → Prop} (hS : ∀ a b, S a b → cU c a ∧ cU c b) {id t : Nat → Nat} {g : Nat → Int32} (hY : YQ c S id g) {nb : Nat} (hb : ∀ x, cU c x → x < nb) (h : CQ c S t) (hC : ∀ u v, u < nb → v < nb → ChQ c g t u v) (hSt : ∀ a b, S a b → t a = t b) : (∀ x y, cU c x → cU c y → (t x = t y ↔ CC c S x y)) ∧ ¬ Clash c (CC c S) := by
  obtain ⟨h1, h2, h4⟩ := h
  have key : ∀ x y, cU c x → cU c y → t x = t y → cK c x ≠ 0 → cK c y ≠ 0 → Same c x y ∧ ∀ k, k < cM c x → t (cP c x k) = t (cP c y k) := by
    intro x y hx hy e kx ky
    obtain ⟨u, hu, eu, nu, Tu⟩ := hY.2.2.2.2.2 x hx kx
    obtain ⟨v, hv, ev, nv, Tv⟩ := hY.2.2.2.2.2 y hy ky
    have euv : t u = t v := (h2 u x hu hx eu).trans (e.trans (h2 v y hv hy ev).symm)
    have g1 := same_T W hu hx eu
    have g2 := same_T W hv hy ev
    have q : Same c u v ∧ ∀ k, k < cM c u → t (cP c u k) = t (cP c v k) := by
      by_cases z : u = v
      · subst z; exact ⟨⟨rfl, rfl, rfl⟩, fun _ _ => rfl⟩
      · have c1 := chq_s hC (hb u hu) (hb v hv) euv nu nv z
        refine ⟨c1.1, fun k hk => ?_⟩
        have hkv : k < cM c v := by rw [← c1.1.2.2]; exact hk
        obtain ⟨a, a1, a2, a3⟩ := Tu.2.2.2.2.2 k hk
        obtain ⟨b, b1, b2, b3⟩ := Tv.2.2.2.2.2 k hkv
        rw [← h2 a _ a2 (vw_P W hu hk) a3, ← h2 b _ b2 (vw_P W hv hkv) b3]
        exact c1.2 k hk a b (vw_lt W a2) (vw_lt W b2) a1 b1
    refine ⟨same_t (same_s g1) (same_t q.1 g2), fun k hk => ?_⟩
    rw [← vw_eP W hu hx eu k, ← vw_eP W hv hy ev k]
    exact q.2 k (by rw [g1.2.2]; exact hk)
  have p1 : ∀ x y, CC c S x y → t x = t y := by
    intro x y h
    refine cc_inU W h2 (fun a b z => ⟨(hS a b z).1, (hS a b z).2, hSt a b z⟩) ?_ h
    intro x y hx hy e k2 hs k hk
    exact (key x y hx hy e (by omega) (by rw [← hs.1]; omega)).2 k hk
  refine ⟨fun x y hx hy => ⟨h4 x y hx hy, p1 x y⟩, ?_⟩
  intro ⟨x, y, hx, hy, h, kx, ky, n⟩
  exact n (key x y hx hy (p1 x y h) kx ky).1
section
variable {f_trials : Int32} {f_drafted : Int32} {f_found : Int32} {a_s : Nat → Int32} {a_saved : Nat → Int32} {a_draft : Nat → Int32} {a_who : Nat → Int32} {a_met : Nat → Int32} {a_stack : Nat → Int32} {a_fresh : Nat → Int32} {a_deep : Nat → Int32} {a_alike : Nat → Int64} {a_meets : Nat → Int64}
variable {s : Nat → Int32} {t : Nat → Nat}
theorem yw_closeQ16 {post : Int32 → SY → Prop} {J7 : Int32 → Int32 → Int32 → Int32 → (Nat → Int32) → (Nat → Int32) → (Nat → Int32) → (Nat → Int32) → (Nat → Int32) → (Nat → Int32) → (Nat → Int32) → (Nat → Int32) → (Nat → Int64) → (Nat → Int64) →  Prop} {c : Vw} {id : Nat → Nat} {S : Nat → Nat → Prop} (W : VW c) (hY : YQ c S id s) {nb : Nat} (hnb : nb ≤ 48) {t0 : Nat → Nat}
    (HJ : ∀ t r, (r = 0 ∨ r = 1) → CQ c S t → (r = 1 → smN t 48 < smN t0 48) → (r = 0 → ∀ u v, u < nb → v < nb → ChQ c s t u v) → J7 (nI r) f_trials f_drafted f_found (tz s t) a_saved a_draft a_who a_met a_stack a_fresh a_deep a_alike a_meets) (Hno : ∀ t, Clash c (CC c S) → post 0 (f_trials, f_drafted, f_found, tz s t, a_saved, a_draft, a_who, a_met, a_stack, a_fresh, a_deep, a_alike, a_meets)) : ∀ n k t r, k ≤ nb * nb → nb * nb - k < n → (r = 0 ∨ r = 1) → CQ c S t → smN t 48 ≤ smN t0 48 → (r = 1 → smN t 48 < smN t0 48) → (r = 0 → ∀ k', k' < k → ChQ c s t (k' / nb) (k' % nb)) → wY_close_16 post J7 633 (nI nb) n (nI r) (nI k) f_trials f_drafted f_found (tz s t) a_saved a_draft a_who a_met a_stack a_fresh a_deep a_alike a_meets := by
  have hnn : nb * nb ≤ 2304 := Nat.mul_le_mul hnb hnb
  intro n
  induction n with
  | zero => intro k _ _ _ h; omega
  | succ n ih =>
    intro k t r hk hn hr hc hs h1 h0
    refine And.intro (fun z => ?_) (fun z => ?_)
    · rw [pk_mul, nI_leI (by omega) (by omega)] at z
      have : k = nb * nb := by omega
      subst this
      refine HJ t r hr hc h1 fun e u v hu hv => ?_
      have := h0 e (u * nb + v) (by
        have : u * nb + nb ≤ nb * nb := by rw [← Nat.succ_mul]; exact Nat.mul_le_mul_right nb hu
        omega)
      rw [show u * nb + v = v + nb * u by rw [Nat.mul_comm]; omega, Nat.add_mul_div_left _ _ (by omega), Nat.add_mul_mod_self_left, Nat.div_eq_of_lt hv, Nat.mod_eq_of_lt hv, Nat.zero_add] at this
      exact this
    · rw [pk_mul, nI_leI (by omega) (by omega)] at z
      have hnb0 : 0 < nb := by
        cases nb with
        | zero => omega
        | succ m => omega
      have hk' : k < nb * nb := by omega
      have hu : k / nb < nb := Nat.div_lt_of_lt_mul hk'
      have hv : k % nb < nb := Nat.mod_lt _ hnb0
      have hne : ¬ nI nb = 0 := fun e => by have := nI_inj (b := 0) e; omega
      have hlt := fun x hx => (hc.1 x hx).1
      generalize eu : k / nb = u at hu
      generalize ev : k % nb = v at hv
      have tu := hlt u (by omega)
      have tv := hlt v (by omega)
      refine ⟨hne, nmr (nI u) (by rw [pk_div (by omega) hnb0 (by omega), eu]) ⟨hne, nmr (nI v) (by rw [pk_rem (by omega) hnb0 (by omega), ev]) ?_⟩⟩
      have next : (r = 0 → ChQ c s t u v) → wY_close_16 post J7 633 (nI nb) n (nI r) (nI (k + 1)) f_trials f_drafted f_found (tz s t) a_saved a_draft a_who a_met a_stack a_fresh a_deep a_alike a_meets := by
        intro q
        refine ih (k + 1) t r (by omega) (by omega) hr hc hs h1 fun e k' hk' => ?_
        by_cases z : k' = k
        · rw [z, eu, ev]; exact q e
        · exact h0 e k' (by omega)
      by_cases euv : v ≤ u
      · exact br_t (nI_le euv (by omega)) (up1 (next fun _ z => absurd z (by omega)))
      · refine br_f (nI_ge (by omega) (by omega)) ?_
        rw [aL_633, aL_633, cl_n (k := 633 + u), cl_n (k := 633 + v), tz_hi (by omega), tz_hi (by omega), aL_48, aL_48, cl_n (k := 48 + u), cl_n (k := 48 + v), tz_lo (by omega), tz_lo (by omega)]
        refine ⟨in_n (by omega), in_n (by omega), br_c (fun e => ⟨in_n (by omega), br_c (fun z1 => up1 (next fun _ _ _ z => absurd z1 z)) fun z1 => ⟨in_n (by omega), br_c (fun z2 => up1 (next fun _ _ _ _ z => absurd z2 z)) fun z2 => ?_⟩⟩) fun e => up1 (next fun _ _ z => absurd (by rw [z]) e)⟩
        have e : t u = t v := nI_inj e
        have uU : cU c u := by
          by_cases q : cU c u
          · exact q
          · exact absurd (hY.2.1 u (by omega) q).2.1 z1
        have vU : cU c v := by
          by_cases q : cU c v
          · exact q
          · exact absurd (hY.2.1 v (by omega) q).2.1 z2
        have Tu := hY.2.2.2.2.1 u uU z1
        have Tv := hY.2.2.2.2.1 v vU z2
        have hoth := oth_sameS W uU vU Tu Tv
        have eoth : Oth (tz s t) u v ↔ Oth s u v := by
          show ¬ _ ↔ ¬ _
          rw [tz_lo (by omega), tz_lo (by omega), tz_lo (by omega), tz_lo (by omega), tz_lo (by omega), tz_lo (by omega), tz_lo (by omega), tz_lo (by omega)]
        refine yw_isOther (by omega) (by omega) (fun ho => br_f (by decide) ?_) (fun ho => br_t rfl ?_)
        · refine Hno t ⟨u, v, uU, vU, hc.2.2 u v uU vU e, Tu.1, Tv.1, fun q => ?_⟩
          exact (hoth.2 q) (eoth.1 ho)
        · have hS := hoth.1 fun q => ho (eoth.2 q)
          obtain ⟨qu, hqu⟩ := tls_q Tu
          obtain ⟨qv, hqv⟩ := tls_q Tv
          rw [← hS.2.2] at hqv
          have hM := vw_M W uU
          have hj : ∀ j, j ≤ cM c u → Lst c (jps t qu qv j) := fun j hj => jps_lst W hc.1 fun i hi => ⟨(hqu i (by omega)).2.1, (hqv i (by omega)).2.1⟩
          have hsm := jps_sm (t := t) (qu := qu) (qv := qv) (k := cM c u) fun i hi => ⟨vw_lt W (hqu i hi).2.1, vw_lt W (hqv i hi).2.1⟩
          have h01 := jpr_01 (t := t) (qu := qu) (qv := qv) (cM c u)
          refine yw_joinParts (m := cM c u) (qu := qu) (qv := qv) (by omega) (by omega) Tu.2.2.2.2.1 hM (fun i hi => ⟨(hqu i hi).1, vw_lt W (hqu i hi).2.1⟩) (fun i hi => ⟨(hqv i hi).1, vw_lt W (hqv i hi).2.1⟩) hlt (fun j hj' x hx => (hj j hj' x hx).1) ?_
          refine nmr _ (or_01 hr h01) (up1 ?_)
          have hc' : CQ c S (jps t qu qv (cM c u)) := by
            refine ⟨hj _ (Nat.le_refl _), fun x y hx hy z => jps_le (hc.2.1 x y hx hy z), ?_⟩
            refine jps_sd cc_eqv (D := cU c) hc.2.2 fun j hj => ⟨(hqu j hj).2.1, (hqv j hj).2.1, ?_⟩
            refine cc_t (hqu j hj).2.2 (cc_t ?_ (cc_s (hqv j hj).2.2))
            exact cc_p uU vU (hc.2.2 u v uU vU e) (vw_k2 W uU hj) hS hj
          rcases h01 with z | z
          · rw [z, if_pos rfl]
            have e0 := hsm.1 z
            rw [e0]
            refine next fun _ _ _ _ _ => ⟨hS, fun j hj q q' lq lq' eq eq' => ?_⟩
            have qq := jps_q (t := t) (qu := qu) (qv := qv) (k := cM c u) j hj
            rw [e0] at qq
            have l1 := vw_lt W (hqu j hj).2.1
            have l2 := vw_lt W (hqv j hj).2.1
            have e1 : q = qu j := nI_inj (eq.symm.trans (hqu j hj).1)
            have e2 : q' = qv j := nI_inj (eq'.symm.trans (hqv j hj).1)
            rw [e1, e2, qq]
          · rw [z, if_neg (by decide)]
            have := hsm.2.1 z
            exact ih (k + 1) _ 1 (by omega) (by omega) (Or.inr rfl) hc' (by omega) (fun _ => by omega) fun q => absurd q (by decide)
theorem yw_keepQ {post : Int32 → SY → Prop} {c : Vw} {id : Nat → Nat} {S : Nat → Nat → Prop} (W : VW c) (hS : ∀ a b, S a b → cU c a ∧ cU c b) (hY : YQ c S id s) (hc : CQ c S t) (hSt : ∀ t nb, (∀ x, cU c x → x < nb) → (∀ x y, cU c x → cU c y → cT c x = cT c y → t x = t y) → (∀ u v, u < nb → v < nb → ChQ c s t u v) → ∀ a b, S a b → t a = t b) (Hok : ∀ t, Lst c t → (∀ x y, cU c x → cU c y → (t x = t y ↔ CC c S x y)) → ¬ Clash c (CC c S) → post 1 (f_trials, f_drafted, f_found, iz (tz s t) t 48, a_saved, a_draft, a_who, a_met, a_stack, a_fresh, a_deep, a_alike, a_meets)) (Hno : ∀ t, Clash c (CC c S) → post 0 (f_trials, f_drafted, f_found, tz s t, a_saved, a_draft, a_who, a_met, a_stack, a_fresh, a_deep, a_alike, a_meets)) : wpY_keepTried post (f_trials, f_drafted, f_found, tz s t, a_saved, a_draft, a_who, a_met, a_stack, a_fresh, a_deep, a_alike, a_meets) := by
  refine yw_bound fun nb hnb hz => Exists.intro (smN t 48 + 2) ?_
  have hb : ∀ x, cU c x → x < nb := by
    intro x hx
    by_cases e : x < nb
    · exact e
    · have := hz x (by omega) (vw_lt W hx)
      have h48 := vw_lt W hx
      rw [tz_lo (by omega), (hY.2.2.1 x hx).1] at this
      exact absurd this (by decide)
  have fin1 : ∀ t, Lst c t → (∀ x y, cU c x → cU c y → (t x = t y ↔ CC c S x y)) → ¬ Clash c (CC c S) → ∃ n, wY_keepTried_10 post 1 f_trials f_drafted f_found n 0 (tz s t) a_saved a_draft a_who a_met a_stack a_fresh a_deep a_alike a_meets := by
    intro t hc' h1 h2
    have := yw_keep10 (s := s) (t := t) (Hok t hc' h1 h2) 49 0 (by omega) (by omega)
    rw [iz_0] at this
    exact Exists.intro 49 this
  have fin0 : ∀ t, Clash c (CC c S) → ∃ n, wY_keepTried_10 post 0 f_trials f_drafted f_found n 0 (tz s t) a_saved a_draft a_who a_met a_stack a_fresh a_deep a_alike a_meets := fun t h => Exists.intro 1 (wh_f (a := 48) (b := 0) (by omega) (br_t rfl ⟨rfl, Hno t h⟩))
  have main : ∀ n t, CQ c S t → smN t 48 + 1 < n → wY_close_7 (fun r u => ∃ n, wY_keepTried_10 post r u.1 u.2.1 u.2.2.1 n 0 u.2.2.2.1 u.2.2.2.2.1 u.2.2.2.2.2.1 u.2.2.2.2.2.2.1 u.2.2.2.2.2.2.2.1 u.2.2.2.2.2.2.2.2.1 u.2.2.2.2.2.2.2.2.2.1 u.2.2.2.2.2.2.2.2.2.2.1 u.2.2.2.2.2.2.2.2.2.2.2.1 u.2.2.2.2.2.2.2.2.2.2.2.2) 633 (nI nb) n 1 f_trials f_drafted f_found (tz s t) a_saved a_draft a_who a_met a_stack a_fresh a_deep a_alike a_meets := by
    intro n
    induction n with
    | zero => intro t _ h; omega
    | succ n ih =>
      intro t hc hn
      refine br_f (by decide) (Exists.intro (nb * nb + 1) (yw_closeQ16 W hY hnb (t0 := t) ?_ fin0 _ 0 t 0 (by omega) (by omega) (Or.inl rfl) hc (Nat.le_refl _) (fun z => absurd z (by decide)) fun _ k' z => absurd z (by omega)))
      intro t' r hr hc' h1 h0
      rcases hr with rfl | rfl
      · obtain ⟨m, rfl⟩ : ∃ m, n = m + 1 := ⟨n - 1, by omega⟩
        have := cq_sol W hS hY hb hc' (h0 rfl) (hSt t' nb hb hc'.2.1 (h0 rfl))
        exact br_t rfl (fin1 t' hc'.1 this.1 this.2)
      · exact ih t' hc' (by have := h1 rfl; omega)
  exact main _ t hc (by omega)
end
end
section
/-! the reference is told a value -/
theorem tz_ul {s : Nat → Int32} {t : Nat → Nat} {i : Nat} {v : Int32} (h : i < 633) : upd (tz s t) i v = tz (upd s i v) t := by
  funext j
  by_cases e : j = i
  · rw [e, pk_us, tz_lo h, pk_us]
  · rw [pk_un e]
    by_cases e2 : j < 633
    · rw [tz_lo e2, tz_lo e2, pk_un e]
    · show (if _ then _ else _) = (if _ then _ else _)
      by_cases e3 : 633 ≤ j ∧ j < 633 + 48
      · rw [if_pos e3, if_pos e3]
      · rw [if_neg e3, if_neg e3, pk_un e]
def twp (s : Nat → Int32) (x : Nat) (ds : Nat → Nat) : Nat → (Nat → Int32)
  | 0 => s
  | j + 1 => upd (twp s x ds j) (240 + 3 * x + j) (nI (ds j))
def tw (s : Nat → Int32) (x : Nat) (kk num lab : Int32) (n : Nat) (ds : Nat → Nat) : Nat → Int32 := twp (upd (upd (upd (upd s (48 + x) kk) (96 + x) num) (144 + x) lab) (192 + x) (nI n)) x ds n
theorem twp_o {s : Nat → Int32} {x : Nat} {ds : Nat → Nat} {i : Nat} : ∀ n, ¬ (240 + 3 * x ≤ i ∧ i < 240 + 3 * x + n) → twp s x ds n i = s i
  | 0, _ => rfl
  | n + 1, h => by
    show upd (twp s x ds n) (240 + 3 * x + n) (nI (ds n)) i = s i
    rw [pk_un (by omega)]
    exact twp_o n (by omega)
theorem twp_i {s : Nat → Int32} {x : Nat} {ds : Nat → Nat} {j : Nat} : ∀ n, j < n → twp s x ds n (240 + 3 * x + j) = nI (ds j)
  | 0, h => absurd h (by omega)
  | n + 1, h => by
    show upd (twp s x ds n) (240 + 3 * x + n) (nI (ds n)) (240 + 3 * x + j) = _
    by_cases e : j = n
    · rw [e, pk_us]
    · rw [pk_un (by omega)]
      exact twp_i n (by omega)
section
variable {s : Nat → Int32} {x : Nat} {kk num lab : Int32} {n : Nat} {ds : Nat → Nat}
theorem tw_48 (hx : x < 48) (hn : n ≤ 3) : tw s x kk num lab n ds (48 + x) = kk := by
  unfold tw
  rw [twp_o _ (by omega), pk_un (by omega), pk_un (by omega), pk_un (by omega), pk_us]
theorem tw_96 (hx : x < 48) (hn : n ≤ 3) : tw s x kk num lab n ds (96 + x) = num := by
  unfold tw
  rw [twp_o _ (by omega), pk_un (by omega), pk_un (by omega), pk_us]
theorem tw_144 (hx : x < 48) (hn : n ≤ 3) : tw s x kk num lab n ds (144 + x) = lab := by
  unfold tw
  rw [twp_o _ (by omega), pk_un (by omega), pk_us]
theorem tw_192 (hx : x < 48) (hn : n ≤ 3) : tw s x kk num lab n ds (192 + x) = nI n := by
  unfold tw
  rw [twp_o _ (by omega), pk_us]
theorem tw_p {j : Nat} (hj : j < n) : tw s x kk num lab n ds (240 + 3 * x + j) = nI (ds j) := by
  unfold tw
  exact twp_i n hj
theorem tw_o {i : Nat} (h1 : i ≠ 48 + x) (h2 : i ≠ 96 + x) (h3 : i ≠ 144 + x) (h4 : i ≠ 192 + x) (h5 : ¬ (240 + 3 * x ≤ i ∧ i < 240 + 3 * x + n)) : tw s x kk num lab n ds i = s i := by
  unfold tw
  rw [twp_o _ h5, pk_un h4, pk_un h3, pk_un h2, pk_un h1]
end
/-- cells of another variable -/
theorem tw_y {s : Nat → Int32} {x y k : Nat} {kk num lab : Int32} {n : Nat} {ds : Nat → Nat} (hx : x < 48) (hy : y < 48) (ne : y ≠ x) (hn : n ≤ 3) (hk : k < 3) : tw s x kk num lab n ds (48 + y) = s (48 + y) ∧ tw s x kk num lab n ds (96 + y) = s (96 + y) ∧ tw s x kk num lab n ds (144 + y) = s (144 + y) ∧ tw s x kk num lab n ds (192 + y) = s (192 + y) ∧ tw s x kk num lab n ds (240 + 3 * y + k) = s (240 + 3 * y + k) :=
  ⟨tw_o (by omega) (by omega) (by omega) (by omega) (by omega), tw_o (by omega) (by omega) (by omega) (by omega) (by omega), tw_o (by omega) (by omega) (by omega) (by omega) (by omega), tw_o (by omega) (by omega) (by omega) (by omega) (by omega), tw_o (by omega) (by omega) (by omega) (by omega) (by omega)⟩
theorem tld_y {c : Vw} (W : VW c) {g g' : Nat → Int32} {y : Nat} (hy : cU c y) (h : Tld c g y) (e : g' (48 + y) = g (48 + y) ∧ g' (96 + y) = g (96 + y) ∧ g' (144 + y) = g (144 + y) ∧ g' (192 + y) = g (192 + y)) (ep : ∀ k, k < 3 → g' (240 + 3 * y + k) = g (240 + 3 * y + k)) : Tld c g' y := by
  have m3 := vw_M W hy
  obtain ⟨a, b, d, f, i, j⟩ := h
  unfold Tld
  rw [e.1, e.2.1, e.2.2.1, e.2.2.2]
  exact ⟨a, b, d, f, i, fun k hk => by rw [ep k (by omega)]; exact j k hk⟩
/-- a free one's class gets a value -/
theorem yr_set {c c' : Vw} (W : VW c) {id : Nat → Nat} {s s1 : Nat → Int32} {x w n : Nat} {v : Int32} {ds : Nat → Nat} (hY : YR c id s) (hx : cU c x) (k0 : cK c x = 0) (hU : cU c' = cU c) (hT : cT c' = cT c) (hO : ∀ y, cU c y → cT c y ≠ cT c x → cK c' y = cK c y ∧ cV c' y = cV c y ∧ cM c' y = cM c y ∧ ∀ k, k < cM c y → cP c' y k = cP c y k) (hX : ∀ y, cU c y → cT c y = cT c x → cK c' y = w ∧ cV c' y = v ∧ cM c' y = n ∧ ∀ k, k < n → cP c' y k = ds k) (hw : w = 1 ∨ w = 2) (hn : n ≤ 3) (hds : ∀ k, k < n → cU c (ds k)) (e1 : s1 = tw s x (nI w) (if w = 1 then v else 0) (if w = 1 then 0 else v) n ds) : YR c' id s1 := by
  obtain ⟨h1, h2, h3, h4, h5, h6⟩ := hY
  have lx := vw_lt W hx
  have nt : s (48 + x) = 0 := by
    by_cases q : s (48 + x) = 0
    · exact q
    · exact absurd k0 (h5 x hx q).1
  subst e1
  refine ⟨fun y hy => ?_, fun y hy hny => ?_, fun y hy => ?_, fun y z hy hz => ?_, fun y hy hny => ?_, fun y hy hk => ?_⟩
  · rw [tw_o (by omega) (by omega) (by omega) (by omega) (by omega)]; exact h1 y hy
  · rw [hU] at hny
    have ne : y ≠ x := fun q => hny (q ▸ hx)
    rw [(tw_y (k := 0) lx hy ne hn (by decide)).1, tw_o (by omega) (by omega) (by omega) (by omega) (by omega)]
    exact h2 y hy hny
  · rw [hU] at hy ⊢
    have ly := vw_lt W hy
    rw [hT, tw_o (by omega) (by omega) (by omega) (by omega) (by omega)]
    exact h3 y hy
  · rw [hU] at hy hz
    rw [hT]; exact h4 y z hy hz
  · rw [hU] at hy
    have ly := vw_lt W hy
    by_cases ne : y = x
    · subst ne
      obtain ⟨a, b, d, e⟩ := hX y hy rfl
      unfold Tld
      rw [a, b, d, tw_48 lx hn, tw_96 lx hn, tw_144 lx hn, tw_192 lx hn, hU, hT]
      refine ⟨by omega, rfl, fun z => ?_, fun z => ?_, rfl, fun k hk => ⟨ds k, tw_p hk, hds k hk, by rw [e k hk]⟩⟩
      · rw [if_pos z, if_pos z]; exact ⟨rfl, rfl⟩
      · rw [if_neg (by omega), if_neg (by omega)]; exact ⟨rfl, rfl⟩
    · rw [(tw_y (k := 0) lx ly ne hn (by decide)).1] at hny
      have Ty := h5 y hy hny
      have neT : cT c y ≠ cT c x := fun q => Ty.1 (by rw [vw_eK W hy hx q]; exact k0)
      obtain ⟨a, b, d, e⟩ := hO y hy neT
      have q := tld_y W hy Ty (g' := tw s x (nI w) (if w = 1 then v else 0) (if w = 1 then 0 else v) n ds) (by have := tw_y (s := s) (kk := nI w) (num := if w = 1 then v else 0) (lab := if w = 1 then 0 else v) (ds := ds) (k := 0) lx ly ne hn (by decide); exact ⟨this.1, this.2.1, this.2.2.1, this.2.2.2.1⟩) (fun k hk => (tw_y lx ly ne hn hk).2.2.2.2)
      obtain ⟨t1, t2, t3, t4, t5, t6⟩ := q
      unfold Tld
      rw [a, b, d, hU, hT]
      exact ⟨t1, t2, t3, t4, t5, fun k hk => by rw [e k hk]; exact t6 k hk⟩
  · rw [hU] at hy
    by_cases neT : cT c y = cT c x
    · refine ⟨x, by rw [hU]; exact hx, by rw [hT]; exact neT.symm, ?_⟩
      rw [tw_48 lx hn]
      intro z
      have := nI_inj (b := 0) z
      omega
    · rw [(hO y hy neT).1] at hk
      obtain ⟨u, a, b, d⟩ := h6 y hy hk
      have lu := vw_lt W a
      have ne : u ≠ x := fun q => d (q ▸ nt)
      refine ⟨u, by rw [hU]; exact a, by rw [hT]; exact b, ?_⟩
      rw [(tw_y (k := 0) lx lu ne hn (by decide)).1]; exact d
/-- what was told is taken back -/
theorem yr_untold {c : Vw} (W : VW c) {id : Nat → Nat} {s s' : Nat → Int32} {x n : Nat} (hY : YR c id s) (hx : cU c x) (hn : n ≤ 3) (nt : s (48 + x) = 0) (e0 : s' (48 + x) = 0) (eo : ∀ i, i < 432 → i ≠ 48 + x → i ≠ 96 + x → i ≠ 144 + x → i ≠ 192 + x → ¬ (240 + 3 * x ≤ i ∧ i < 240 + 3 * x + n) → s' i = s i) : YR c id s' := by
  obtain ⟨h1, h2, h3, h4, h5, h6⟩ := hY
  have lx := vw_lt W hx
  have e48 : ∀ y, y < 48 → s' (48 + y) = s (48 + y) := by
    intro y hy
    by_cases ne : y = x
    · rw [ne, e0, nt]
    · exact eo _ (by omega) (by omega) (by omega) (by omega) (by omega) (by omega)
  refine ⟨fun y hy => ?_, fun y hy hny => ?_, fun y hy => ?_, h4, fun y hy hny => ?_, fun y hy hk => ?_⟩
  · rw [eo y (by omega) (by omega) (by omega) (by omega) (by omega) (by omega)]; exact h1 y hy
  · rw [e48 y hy, eo _ (by omega) (by omega) (by omega) (by omega) (by omega) (by omega)]
    exact h2 y hy hny
  · have ly := vw_lt W hy
    rw [eo _ (by omega) (by omega) (by omega) (by omega) (by omega) (by omega)]
    exact h3 y hy
  · have ly := vw_lt W hy
    rw [e48 y ly] at hny
    have ne : y ≠ x := fun q => hny (q ▸ nt)
    exact tld_y W hy (h5 y hy hny) ⟨e48 y ly, eo _ (by omega) (by omega) (by omega) (by omega) (by omega) (by omega), eo _ (by omega) (by omega) (by omega) (by omega) (by omega) (by omega), eo _ (by omega) (by omega) (by omega) (by omega) (by omega) (by omega)⟩ fun k hk => eo _ (by omega) (by omega) (by omega) (by omega) (by omega) (by omega)
  · obtain ⟨u, a, b, d⟩ := h6 y hy hk
    exact ⟨u, a, b, by rw [e48 u (vw_lt W a)]; exact d⟩
/-- one that has a value by its class is told the same value, with other parts -/
theorem yq_tell {c : Vw} (W : VW c) {id : Nat → Nat} {s s1 : Nat → Int32} {x w n : Nat} {v : Int32} {ds : Nat → Nat} (hY : YR c id s) (hx : cU c x) (k0 : cK c x ≠ 0) (nt : s (48 + x) = 0) (hm : cK c x = w ∧ cV c x = v ∧ cM c x = n) (hw : w = 1 ∨ w = 2) (hn : n ≤ 3) (hds : ∀ k, k < n → cU c (ds k)) (e1 : s1 = tw s x (nI w) (if w = 1 then v else 0) (if w = 1 then 0 else v) n ds) : YQ c (fun a b => ∃ j, j < n ∧ a = ds j ∧ b = cP c x j) id s1 := by
  obtain ⟨h1, h2, h3, h4, h5, h6⟩ := hY
  have lx := vw_lt W hx
  subst e1
  have keep : ∀ y, cU c y → ¬ s (48 + y) = 0 → y ≠ x ∧ Tld c (tw s x (nI w) (if w = 1 then v else 0) (if w = 1 then 0 else v) n ds) y := by
    intro y hy hny
    have ly := vw_lt W hy
    have ne : y ≠ x := fun q => hny (q ▸ nt)
    exact ⟨ne, tld_y W hy (h5 y hy hny) (by have := tw_y (s := s) (kk := nI w) (num := if w = 1 then v else 0) (lab := if w = 1 then 0 else v) (ds := ds) (k := 0) lx ly ne hn (by decide); exact ⟨this.1, this.2.1, this.2.2.1, this.2.2.2.1⟩) (fun k hk => (tw_y lx ly ne hn hk).2.2.2.2)⟩
  refine ⟨fun y hy => ?_, fun y hy hny => ?_, fun y hy => ?_, h4, fun y hy hny => ?_, fun y hy hk => ?_⟩
  · rw [tw_o (by omega) (by omega) (by omega) (by omega) (by omega)]; exact h1 y hy
  · have ne : y ≠ x := fun q => hny (q ▸ hx)
    rw [(tw_y (k := 0) lx hy ne hn (by decide)).1, tw_o (by omega) (by omega) (by omega) (by omega) (by omega)]
    exact h2 y hy hny
  · have ly := vw_lt W hy
    rw [tw_o (by omega) (by omega) (by omega) (by omega) (by omega)]
    exact h3 y hy
  · have ly := vw_lt W hy
    by_cases ne : y = x
    · subst ne
      obtain ⟨a, b, d⟩ := hm
      unfold TlS
      rw [a, b, d, tw_48 lx hn, tw_96 lx hn, tw_144 lx hn, tw_192 lx hn]
      refine ⟨by omega, rfl, fun z => ?_, fun z => ?_, rfl, fun k hk => ⟨ds k, tw_p hk, hds k hk, cc_S ⟨k, hk, rfl, rfl⟩⟩⟩
      · rw [if_pos z, if_pos z]; exact ⟨rfl, rfl⟩
      · rw [if_neg (by omega), if_neg (by omega)]; exact ⟨rfl, rfl⟩
    · rw [(tw_y (k := 0) lx ly ne hn (by decide)).1] at hny
      exact tls_of W hy (keep y hy hny).2
  · obtain ⟨u, a, b, d⟩ := h6 y hy hk
    have lu := vw_lt W a
    have ku := keep u a d
    exact ⟨u, a, b, by rw [(tw_y (k := 0) lx lu ku.1 hn (by decide)).1]; exact d, ku.2⟩
theorem sol_nil {c : Vw} (W : VW c) : Sol c (fun _ _ => False) (cT c) := by
  have p1 : ∀ x y, CC c (fun _ _ => False) x y → cT c x = cT c y := fun x y h => cc_inU W (fun _ _ _ _ e => e) (fun _ _ h => h.elim) (fun x y hx hy e _ _ k _ => by rw [vw_eP W hx hy e k]) h
  have p2 : ∀ x, cU c x → Same c (cT c x) x := fun x hx => same_T W (vw_T W hx) hx (vw_TT W hx)
  refine ⟨fun x y hx hy => ⟨fun e => cc_T hx hy e, p1 x y⟩, ?_, fun x hx => ⟨vw_T W hx, vw_TT W hx, vw_TT W hx⟩, fun x hx _ => ⟨p2 x hx, fun k _ => by rw [vw_eP W (vw_T W hx) hx (vw_TT W hx) k]⟩⟩
  intro ⟨x, y, hx, hy, h, _, _, n⟩
  exact n (same_T W hx hy (p1 x y h))
theorem yr_nil {c : Vw} (W : VW c) {id t : Nat → Nat} {g g' : Nat → Int32} (hY : YR c id g) (hl : Lst c t) (ht : ∀ x y, cU c x → cU c y → (t x = t y ↔ CC c (fun _ _ => False) x y)) (hlo : ∀ x, x < 48 → g' x = nI (t x)) (hhi : ∀ i, 48 ≤ i → i < 432 → g' i = g i) : YR c t g' := by
  have e : ∀ x, cU c x → cT c (cT c x) = cT c x := fun x hx => vw_TT W hx
  exact yr_join W hY (sol_nil W) rfl (fun x hx => rfl) (fun x hx => vw_eK W hx (vw_T W hx) (e x hx).symm) (fun x hx => vw_eV W hx (vw_T W hx) (e x hx).symm) (fun x hx => vw_eM W hx (vw_T W hx) (e x hx).symm) (fun x hx k => vw_eP W hx (vw_T W hx) (e x hx).symm k) hl ht hlo hhi
theorem yr_joinQ {c c' : Vw} (W : VW c) {id t : Nat → Nat} {g g' : Nat → Int32} {S : Nat → Nat → Prop} {Tc : Nat → Nat} (hY : YQ c S id g) (hs : Sol c S Tc) (hU : cU c' = cU c) (hT : ∀ x, cU c x → cT c' x = Tc x) (hK : ∀ x, cU c x → cK c' x = cK c (Tc x)) (hV : ∀ x, cU c x → cV c' x = cV c (Tc x)) (hM : ∀ x, cU c x → cM c' x = cM c (Tc x)) (hP : ∀ x, cU c x → ∀ k, cP c' x k = cP c (Tc x) k) (hl : Lst c t) (ht : ∀ x y, cU c x → cU c y → (t x = t y ↔ CC c S x y)) (hlo : ∀ x, x < 48 → g' x = nI (t x)) (hhi : ∀ i, 48 ≤ i → i < 432 → g' i = g i) : YR c' t g' := by
  obtain ⟨h1, h2, h3, h4, h5, h6⟩ := hY
  have tt : ∀ x y, cU c x → cU c y → (t x = t y ↔ Tc x = Tc y) := fun x y hx hy => (ht x y hx hy).trans (hs.1 x y hx hy).symm
  refine ⟨fun x hx => ⟨hlo x hx, (hl x hx).1⟩, fun x hx hn => ?_, fun x hx => ?_, fun x y hx hy => ?_, fun x hx hn => ?_, fun x hx hk => ?_⟩
  · rw [hU] at hn
    have := h2 x hx hn
    rw [hhi _ (by omega) (by omega), hhi _ (by omega) (by omega)]
    exact ⟨(hl x hx).2.2 hn, this.2⟩
  · rw [hU] at hx ⊢
    have lx := vw_lt W hx
    have q := (hl x lx).2.1 hx
    rw [hhi _ (by omega) (by omega), hT x hx, hT _ q.2.1]
    exact ⟨(h3 x hx).1, q.1, q.2.1, (tt _ _ q.2.1 hx).1 q.2.2⟩
  · rw [hU] at hx hy
    rw [hT x hx, hT y hy]; exact tt x y hx hy
  · rw [hU] at hx
    have lx := vw_lt W hx
    rw [hhi _ (by omega) (by omega)] at hn
    obtain ⟨a, b, d, e, f, i⟩ := h5 x hx hn
    have ss := hs.2.2.2 x hx a
    have mx := vw_M W hx
    have uT := (hs.2.2.1 x hx).1
    unfold Tld
    rw [hK x hx, hM x hx, hV x hx, ss.1.1, ss.1.2.1, ss.1.2.2, hU, hhi _ (by omega) (by omega), hhi _ (by omega) (by omega), hhi _ (by omega) (by omega), hhi _ (by omega) (by omega)]
    refine ⟨a, b, d, e, f, fun k hk => ?_⟩
    obtain ⟨q, q1, q2, q3⟩ := i k hk
    refine ⟨q, by rw [hhi _ (by omega) (by omega)]; exact q1, q2, ?_⟩
    have pU := vw_P W uT (k := k) (by rw [ss.1.2.2]; exact hk)
    rw [hT q q2, hP x hx k, hT _ pU, ss.2 k hk]
    exact (hs.1 _ _ q2 (vw_P W hx hk)).2 q3
  · rw [hU] at hx
    rw [hK x hx] at hk
    have uT := hs.2.2.1 x hx
    obtain ⟨u, a, b, d, _⟩ := h6 _ uT.1 hk
    have lu := vw_lt W a
    refine ⟨u, by rw [hU]; exact a, ?_, by rw [hhi _ (by omega) (by omega)]; exact d⟩
    rw [hT u a, hT x hx, (hs.1 _ _ a uT.1).2 (cc_T a uT.1 b)]
    exact uT.2.2
theorem yr_joinXQ {U : Nat → Prop} {p T rk kd mn pt : Nat → Nat} {val : Nat → Int32} (F : Fo U p T rk) (D : XD U p kd mn pt) {id t : Nat → Nat} {g g' : Nat → Int32} {S : Nat → Nat → Prop} {Tc : Nat → Nat} (hY : YQ (xv U T kd mn pt val) S id g) (hs : Sol (xv U T kd mn pt val) S Tc) (hl : Lst (xv U T kd mn pt val) t) (ht : ∀ x y, U x → U y → (t x = t y ↔ CC (xv U T kd mn pt val) S x y)) (hlo : ∀ x, x < 48 → g' x = nI (t x)) (hhi : ∀ i, 48 ≤ i → i < 432 → g' i = g i) : YR (xv U Tc kd mn pt val) t g' := by
  have e : ∀ x, U x → T (Tc x) = Tc x := fun x hx => (hs.2.2.1 x hx).2.1
  refine yr_joinQ (xv_W F D) hY hs rfl (fun x hx => rfl) (fun x hx => ?_) (fun x hx => ?_) (fun x hx => ?_) (fun x hx k => ?_) hl ht hlo hhi
  · show kd (Tc x) = kd (T (Tc x)); rw [e x hx]
  · show val (Tc x) = val (T (Tc x)); rw [e x hx]
  · show (if kd (Tc x) = 2 then mn (Tc x) else 0) = (if kd (T (Tc x)) = 2 then mn (T (Tc x)) else 0); rw [e x hx]
  · show pt (3 * Tc x + k) = pt (3 * T (Tc x) + k); rw [e x hx]
theorem jps_id {t qu qv : Nat → Nat} : ∀ k, (∀ j, j < k → t (qu j) = t (qv j)) → jps t qu qv k = t ∧ jpr t qu qv k = 0
  | 0, _ => ⟨rfl, rfl⟩
  | k + 1, h => by
    have ih := jps_id k fun j hj => h j (by omega)
    have e : jps t qu qv k (qu k) = jps t qu qv k (qv k) := by rw [ih.1]; exact h k (by omega)
    rw [jps_e e, jpr_e e]; exact ih
section
variable {f_trials : Int32} {f_drafted : Int32} {f_found : Int32} {a_s : Nat → Int32} {a_saved : Nat → Int32} {a_draft : Nat → Int32} {a_who : Nat → Int32} {a_met : Nat → Int32} {a_stack : Nat → Int32} {a_fresh : Nat → Int32} {a_deep : Nat → Int32} {a_alike : Nat → Int64} {a_meets : Nat → Int64}
variable {s : Nat → Int32}
theorem yw_bad16 {post : Int32 → SY → Prop} {J7 : Int32 → Int32 → Int32 → Int32 → (Nat → Int32) → (Nat → Int32) → (Nat → Int32) → (Nat → Int32) → (Nat → Int32) → (Nat → Int32) → (Nat → Int32) → (Nat → Int32) → (Nat → Int64) → (Nat → Int64) →  Prop} {c : Vw} {id : Nat → Nat} (W : VW c) {x0 a b nb : Nat} (hnb : nb ≤ 48) (hid : ∀ x, x < 48 → id x < 48) (hiT : ∀ x y, cU c x → cU c y → (id x = id y ↔ cT c x = cT c y)) (h0U : cU c x0) (hT : ∀ u, u < 48 → u ≠ x0 → ¬ s (48 + u) = 0 → cU c u ∧ Tld c s u) (hbad : ∀ u, u < 48 → u ≠ x0 → ¬ s (48 + u) = 0 → cT c u = cT c x0 → Oth s u x0 ∧ Oth s x0 u) (hab : a < b) (hb : b < nb) (haU : cU c a) (hbU : cU c b) (na : ¬ s (48 + a) = 0) (nbb : ¬ s (48 + b) = 0) (eab : cT c a = cT c b) (h0 : a = x0 ∨ b = x0) (Hno : post 0 (f_trials, f_drafted, f_found, tz s id, a_saved, a_draft, a_who, a_met, a_stack, a_fresh, a_deep, a_alike, a_meets)) : ∀ n k, k ≤ a * nb + b → nb * nb - k < n → wY_close_16 post J7 633 (nI nb) n (nI 0) (nI k) f_trials f_drafted f_found (tz s id) a_saved a_draft a_who a_met a_stack a_fresh a_deep a_alike a_meets := by
  have hnn : nb * nb ≤ 2304 := Nat.mul_le_mul hnb hnb
  have hlim : a * nb + b < nb * nb := by
    have : a * nb + nb ≤ nb * nb := by rw [← Nat.succ_mul]; exact Nat.mul_le_mul_right nb (by omega)
    omega
  intro n
  induction n with
  | zero => intro k _ h; omega
  | succ n ih =>
    intro k hk hn
    refine And.intro (fun z => ?_) (fun z => ?_)
    · rw [pk_mul, nI_leI (by omega) (by omega)] at z
      omega
    · have hnb0 : 0 < nb := by omega
      have hk' : k < nb * nb := by omega
      have hu : k / nb < nb := Nat.div_lt_of_lt_mul hk'
      have hv : k % nb < nb := Nat.mod_lt _ hnb0
      have hne : ¬ nI nb = 0 := fun e => by have := nI_inj (b := 0) e; omega
      have hlast : k = a * nb + b → k / nb = a ∧ k % nb = b := by
        intro e
        rw [e, show a * nb + b = b + nb * a by rw [Nat.mul_comm]; omega, Nat.add_mul_div_left _ _ hnb0, Nat.add_mul_mod_self_left, Nat.div_eq_of_lt hb, Nat.mod_eq_of_lt hb, Nat.zero_add]
        exact ⟨rfl, rfl⟩
      generalize eu : k / nb = u at hu hlast
      generalize ev : k % nb = v at hv hlast
      have tu := hid u (by omega)
      have tv := hid v (by omega)
      refine ⟨hne, nmr (nI u) (by rw [pk_div (by omega) hnb0 (by omega), eu]) ⟨hne, nmr (nI v) (by rw [pk_rem (by omega) hnb0 (by omega), ev]) ?_⟩⟩
      have next : ¬ (u < v ∧ id u = id v ∧ ¬ s (48 + u) = 0 ∧ ¬ s (48 + v) = 0 ∧ (u = x0 ∨ v = x0)) → wY_close_16 post J7 633 (nI nb) n (nI 0) (nI (k + 1)) f_trials f_drafted f_found (tz s id) a_saved a_draft a_who a_met a_stack a_fresh a_deep a_alike a_meets := by
        intro q
        refine ih (k + 1) ?_ (by omega)
        by_cases e : k = a * nb + b
        · obtain ⟨e1, e2⟩ := hlast e
          rw [e1, e2] at q
          exact absurd ⟨hab, (hiT a b haU hbU).2 eab, na, nbb, h0⟩ q
        · omega
      by_cases euv : v ≤ u
      · exact br_t (nI_le euv (by omega)) (up1 (next fun z => by omega))
      · refine br_f (nI_ge (by omega) (by omega)) ?_
        rw [aL_633, aL_633, cl_n (k := 633 + u), cl_n (k := 633 + v), tz_hi (by omega), tz_hi (by omega), aL_48, aL_48, cl_n (k := 48 + u), cl_n (k := 48 + v), tz_lo (by omega), tz_lo (by omega)]
        refine ⟨in_n (by omega), in_n (by omega), br_c (fun e => ⟨in_n (by omega), br_c (fun z1 => up1 (next fun z => z.2.2.1 z1)) fun z1 => ⟨in_n (by omega), br_c (fun z2 => up1 (next fun z => z.2.2.2.1 z2)) fun z2 => ?_⟩⟩) fun e => up1 (next fun z => e (by rw [z.2.1]))⟩
        have e : id u = id v := nI_inj e
        have eoth : Oth (tz s id) u v ↔ Oth s u v := by
          show ¬ _ ↔ ¬ _
          rw [tz_lo (by omega), tz_lo (by omega), tz_lo (by omega), tz_lo (by omega), tz_lo (by omega), tz_lo (by omega), tz_lo (by omega), tz_lo (by omega)]
        by_cases hx0 : u = x0 ∨ v = x0
        · have ho : Oth s u v := by
            rcases hx0 with rfl | rfl
            · have ne : v ≠ u := by omega
              have q := hT v (by omega) ne z2
              exact (hbad v (by omega) ne z2 ((hiT v u q.1 h0U).1 e.symm)).2
            · have ne : u ≠ v := by omega
              have q := hT u (by omega) ne z1
              exact (hbad u (by omega) ne z1 ((hiT u v q.1 h0U).1 e)).1
          exact yw_isOther (by omega) (by omega) (fun _ => br_f (by decide) Hno) (fun q => absurd (eoth.2 ho) q)
        · have qu := hT u (by omega) (fun z => hx0 (Or.inl z)) z1
          have qv := hT v (by omega) (fun z => hx0 (Or.inr z)) z2
          have eT := (hiT u v qu.1 qv.1).1 e
          have hS := same_T W qu.1 qv.1 eT
          have hoth := (oth_same W qu.1 qv.1 qu.2 qv.2).2 hS
          refine yw_isOther (by omega) (by omega) (fun q => absurd (eoth.1 q) hoth) (fun _ => br_t rfl ?_)
          obtain ⟨fu, hfu⟩ := tld_q qu.2
          obtain ⟨fv, hfv⟩ := tld_q qv.2
          rw [← hS.2.2] at hfv
          have hq : ∀ j, j < cM c u → id (fu j) = id (fv j) := by
            intro j hj
            refine (hiT _ _ (hfu j hj).2.1 (hfv j hj).2.1).2 ?_
            rw [(hfu j hj).2.2, (hfv j hj).2.2, vw_eP W qu.1 qv.1 eT j]
          have hj := fun j (hj : j ≤ cM c u) => jps_id (t := id) (qu := fu) (qv := fv) j fun i hi => hq i (by omega)
          have last := hj (cM c u) (Nat.le_refl _)
          refine yw_joinParts (m := cM c u) (qu := fu) (qv := fv) (by omega) (by omega) qu.2.2.2.2.2.1 (vw_M W qu.1) (fun i hi => ⟨(hfu i hi).1, vw_lt W (hfu i hi).2.1⟩) (fun i hi => ⟨(hfv i hi).1, vw_lt W (hfv i hi).2.1⟩) hid (fun j hj' x hx => by rw [(hj j hj').1]; exact hid x hx) ?_
          rw [last.1, last.2]
          exact nmr (nI 0) (by decide) (up1 (next fun z => hx0 z.2.2.2.2))
end
end
section
/-! the reference is told a value: the walk -/
def pwp (pt : Nat → Nat) (t : Nat) (ds : Nat → Nat) : Nat → (Nat → Nat)
  | 0 => pt
  | j + 1 => un (pwp pt t ds j) (3 * t + j) (ds j)
theorem pwp_o {pt : Nat → Nat} {t : Nat} {ds : Nat → Nat} {i : Nat} : ∀ n, ¬ (3 * t ≤ i ∧ i < 3 * t + n) → pwp pt t ds n i = pt i
  | 0, _ => rfl
  | n + 1, h => by
    show un (pwp pt t ds n) (3 * t + n) (ds n) i = pt i
    rw [un_n (by omega)]
    exact pwp_o n (by omega)
theorem pwp_i {pt : Nat → Nat} {t : Nat} {ds : Nat → Nat} {j : Nat} : ∀ n, j < n → pwp pt t ds n (3 * t + j) = ds j
  | 0, h => absurd h (by omega)
  | n + 1, h => by
    show un (pwp pt t ds n) (3 * t + n) (ds n) (3 * t + j) = _
    by_cases e : j = n
    · rw [e, un_s]
    · rw [un_n (by omega)]
      exact pwp_i n (by omega)
def jds (t q ds : Nat → Nat) : Nat → (Nat → Nat)
  | 0 => t
  | k + 1 => jn (jds t q ds k) (q k) (ds k)
theorem jds_ci {c : Vw} (W : VW c) {t q ds : Nat → Nat} (h : CI c (fun _ _ => False) t) : ∀ k, (∀ j, j < k → cU c (q j) ∧ cU c (ds j)) → CI c (fun a b => ∃ j, j < k ∧ a = q j ∧ b = ds j) (jds t q ds k)
  | 0, _ => by
    obtain ⟨h1, h2, h3, h4⟩ := h
    exact ⟨h1, h2, fun a b ⟨j, hj, _⟩ => absurd hj (by omega), fun x y hx hy e => cc_mono (fun a b z => z.elim) (h4 x y hx hy e)⟩
  | k + 1, hq => by
    refine ci_jn W (jds_ci W h k fun j hj => hq j (by omega)) (hq k (by omega)).1 (hq k (by omega)).2 fun a b => ⟨fun ⟨j, hj, z⟩ => ?_, fun z => ?_⟩
    · by_cases e : j = k
      · subst e; exact Or.inr z
      · exact Or.inl ⟨j, by omega, z⟩
    · rcases z with ⟨j, hj, z⟩ | z
      · exact ⟨j, by omega, z⟩
      · exact ⟨k, by omega, z⟩
theorem cc_sub {c : Vw} {S S' : Nat → Nat → Prop} (h : ∀ a b, S a b → CC c S' a b) {x y : Nat} (hc : CC c S x y) : CC c S' x y := fun R hR hS => hc R hR fun a b z => h a b z R hR hS
/-- what being told does -/
def TO (U : Nat → Prop) (T kd mn pt : Nat → Nat) (val : Nat → Int32) (id : Nat → Nat) (s : Nat → Int32) (x w : Nat) (v : Int32) (n : Nat) (ds : Nat → Nat) (r : Nat) (s' : Nat → Int32) : Prop :=
  (∀ i, 432 ≤ i → i < 633 → s' i = s i) ∧
  ((r = 0 ∧ cK (xv U T kd mn pt val) x ≠ 0 ∧ (¬ (cK (xv U T kd mn pt val) x = w ∧ cV (xv U T kd mn pt val) x = v ∧ cM (xv U T kd mn pt val) x = n) ∨ Clash (xv U T kd mn pt val) (CC (xv U T kd mn pt val) (fun a b => ∃ j, j < n ∧ a = ds j ∧ b = cP (xv U T kd mn pt val) x j))) ∧ YR (xv U T kd mn pt val) id s') ∨
   (r = 1 ∧ cK (xv U T kd mn pt val) x = 0 ∧ ∃ t, YR (xv U T (un kd (T x) w) (un mn (T x) n) (pwp pt (T x) ds n) (upd val (T x) v)) t s') ∨
   (r = 1 ∧ cK (xv U T kd mn pt val) x ≠ 0 ∧ (cK (xv U T kd mn pt val) x = w ∧ cV (xv U T kd mn pt val) x = v ∧ cM (xv U T kd mn pt val) x = n) ∧ ¬ Clash (xv U T kd mn pt val) (CC (xv U T kd mn pt val) (fun a b => ∃ j, j < n ∧ a = ds j ∧ b = cP (xv U T kd mn pt val) x j)) ∧ ∀ Tc, Sol (xv U T kd mn pt val) (fun a b => ∃ j, j < n ∧ a = ds j ∧ b = cP (xv U T kd mn pt val) x j) Tc → ∃ t, YR (xv U Tc kd mn pt val) t s'))
section
variable {f_trials : Int32} {f_drafted : Int32} {f_found : Int32} {a_s : Nat → Int32} {a_saved : Nat → Int32} {a_draft : Nat → Int32} {a_who : Nat → Int32} {a_met : Nat → Int32} {a_stack : Nat → Int32} {a_fresh : Nat → Int32} {a_deep : Nat → Int32} {a_alike : Nat → Int64} {a_meets : Nat → Int64}
variable {s : Nat → Int32} {t : Nat → Nat}
theorem ye_keep {F : Nat → (Nat → Int32) → Prop} (h : wpY_keepTried (fun r u => ∃ q s', F q s' ∧ r = nI q ∧ u = (f_trials, f_drafted, f_found, s', a_saved, a_draft, a_who, a_met, a_stack, a_fresh, a_deep, a_alike, a_meets)) (f_trials, f_drafted, f_found, a_s, a_saved, a_draft, a_who, a_met, a_stack, a_fresh, a_deep, a_alike, a_meets)) : ∃ q s', F q s' ∧ ∀ post : Int32 → SY → Prop, post (nI q) (f_trials, f_drafted, f_found, s', a_saved, a_draft, a_who, a_met, a_stack, a_fresh, a_deep, a_alike, a_meets) → wpY_keepTried post (f_trials, f_drafted, f_found, a_s, a_saved, a_draft, a_who, a_met, a_stack, a_fresh, a_deep, a_alike, a_meets) := by
  obtain ⟨⟨r, o⟩, ⟨q, s', h1, h2, h4⟩, h3⟩ := d_wpY_keepTried (f_trials, f_drafted, f_found, a_s, a_saved, a_draft, a_who, a_met, a_stack, a_fresh, a_deep, a_alike, a_meets) (fun o => ∃ q s', F q s' ∧ o.1 = nI q ∧ o.2 = (f_trials, f_drafted, f_found, s', a_saved, a_draft, a_who, a_met, a_stack, a_fresh, a_deep, a_alike, a_meets)) h
  refine ⟨q, s', h1, fun post hp => h3 (fun o => post o.1 o.2) ?_⟩
  have h2 : r = nI q := h2
  have h4 : o = (f_trials, f_drafted, f_found, s', a_saved, a_draft, a_who, a_met, a_stack, a_fresh, a_deep, a_alike, a_meets) := h4
  rw [h2, h4]; exact hp
theorem yw_keepBad {post : Int32 → SY → Prop} {c : Vw} {id : Nat → Nat} (W : VW c) {x0 a b : Nat} (hu1 : ∀ x, cU c x → s (384 + x) = 1) (hid : ∀ x, x < 48 → id x < 48) (hiT : ∀ x y, cU c x → cU c y → (id x = id y ↔ cT c x = cT c y)) (h0U : cU c x0) (hT : ∀ u, u < 48 → u ≠ x0 → ¬ s (48 + u) = 0 → cU c u ∧ Tld c s u) (hbad : ∀ u, u < 48 → u ≠ x0 → ¬ s (48 + u) = 0 → cT c u = cT c x0 → Oth s u x0 ∧ Oth s x0 u) (hab : a < b) (haU : cU c a) (hbU : cU c b) (na : ¬ s (48 + a) = 0) (nbb : ¬ s (48 + b) = 0) (eab : cT c a = cT c b) (h0 : a = x0 ∨ b = x0) (Hno : post 0 (f_trials, f_drafted, f_found, tz s id, a_saved, a_draft, a_who, a_met, a_stack, a_fresh, a_deep, a_alike, a_meets)) : wpY_keepTried post (f_trials, f_drafted, f_found, tz s id, a_saved, a_draft, a_who, a_met, a_stack, a_fresh, a_deep, a_alike, a_meets) := by
  refine yw_bound fun nb hnb hz => Exists.intro 1 (br_f (by decide) (Exists.intro (nb * nb + 1) ?_))
  have hb : b < nb := by
    by_cases e : b < nb
    · exact e
    · have h48 := vw_lt W hbU
      have := hz b (by omega) h48
      rw [tz_lo (by omega), hu1 b hbU] at this
      exact absurd this (by decide)
  exact yw_bad16 W hnb hid hiT h0U hT hbad hab hb haU hbU na nbb eab h0 (Exists.intro 1 (wh_f (a := 48) (b := 0) (by omega) (br_t rfl ⟨rfl, Hno⟩))) (nb * nb + 1) 0 (by omega) (by omega)
/-- what comes behind keepTried -/
theorem yt_223 {post : Int32 → SY → Prop} {x x6 q : Nat} {s2 : Nat → Int32} (hx : x < 48) (hq : q = 0 ∨ q = 1) (h6 : x6 = 0 ∨ x6 = 1) (hk : ∀ post : Int32 → SY → Prop, post (nI q) (f_trials, f_drafted, f_found, s2, a_saved, a_draft, a_who, a_met, a_stack, a_fresh, a_deep, a_alike, a_meets) → wpY_keepTried post (f_trials, f_drafted, f_found, a_s, a_saved, a_draft, a_who, a_met, a_stack, a_fresh, a_deep, a_alike, a_meets)) (h0 : q = 0 → post 2 (f_trials, f_drafted, f_found, if x6 = 0 then upd s2 (48 + x) 0 else s2, a_saved, a_draft, a_who, a_met, a_stack, a_fresh, a_deep, a_alike, a_meets)) (h1 : q = 1 → wpY_settle (fun u => post 1 u) (f_trials, f_drafted, f_found, s2, a_saved, a_draft, a_who, a_met, a_stack, a_fresh, a_deep, a_alike, a_meets)) : wY_tellOf_223 post (nI x) (nI x6) f_trials f_drafted f_found a_s a_saved a_draft a_who a_met a_stack a_fresh a_deep a_alike a_meets := by
  unfold wY_tellOf_223
  refine hk _ ?_
  rcases hq with rfl | rfl
  · refine br_t rfl ?_
    rcases h6 with rfl | rfl
    · refine br_t rfl ?_
      rw [aL_48, cl_n (k := 48 + x)]
      exact ⟨in_n (by omega), nm_e (br_t rfl (h0 rfl))⟩
    · exact br_f (by decide) (br_t rfl (h0 rfl))
  · exact br_f (by decide) (br_f (by decide) (h1 rfl))
/-- the writes, when nothing was told to the variable itself -/
theorem yt_188 {post : Int32 → SY → Prop} {x n : Nat} {ds : Nat → Nat} (hx : x < 48) (hn : n ≤ 3) (hd : ∀ j, j < n → a_draft j = nI (ds j)) (h : wY_tellOf_223 post (nI x) 0 f_trials f_drafted f_found (tz (twp s x ds n) t) a_saved a_draft a_who a_met a_stack a_fresh a_deep a_alike a_meets) : ∀ m j, j ≤ n → n - j < m → wY_tellOf_188 post (nI x) (nI n) 0 f_trials f_drafted f_found m (nI j) (tz (twp s x ds j) t) a_saved a_draft a_who a_met a_stack a_fresh a_deep a_alike a_meets := by
  intro m
  induction m with
  | zero => intro j _ h; omega
  | succ m ih =>
    intro j hj hm
    by_cases e : j = n
    · subst e
      exact wh_t (a := j) (b := j) (by omega) h
    · refine wh_f (a := n) (b := j) (by omega) ?_
      rw [aP, cl_n (k := j), cl_n (k := 240 + 3 * x + j), hd j (by omega), tz_ul (by omega)]
      exact ⟨in_n (by omega), in_n (by omega), nm_e (up1 (ih (j + 1) (by omega) (by omega)))⟩
theorem yt_new {post : Int32 → SY → Prop} {x n : Nat} {kk num lab : Int32} {id ds : Nat → Nat} (hx : x < 48) (hn : n ≤ 3) (hid : ∀ x, x < 48 → a_s x = nI (id x)) (h0 : a_s (48 + x) = 0) (hd : ∀ j, j < n → a_draft j = nI (ds j)) (h : wY_tellOf_223 post (nI x) 0 f_trials f_drafted f_found (tz (tw a_s x kk num lab n ds) id) a_saved a_draft a_who a_met a_stack a_fresh a_deep a_alike a_meets) : wpY_tellOf post (f_trials, f_drafted, f_found, a_s, a_saved, a_draft, a_who, a_met, a_stack, a_fresh, a_deep, a_alike, a_meets) (nI x) kk num lab (nI n) := by
  have h136 : wY_tellOf_136 post (nI x) kk num lab (nI n) 0 f_trials f_drafted f_found (tz a_s id) a_saved a_draft a_who a_met a_stack a_fresh a_deep a_alike a_meets := by
    refine And.intro (fun _ => ?_) (fun z => absurd rfl z)
    rw [aL_48, aL_96, aL_144, aL_192, cl_n (k := 48 + x), cl_n (k := 96 + x), cl_n (k := 144 + x), cl_n (k := 192 + x), tz_ul (by omega)]
    refine ⟨in_n (by omega), nm_e ⟨in_n (by omega), ?_⟩⟩
    rw [tz_ul (by omega)]
    refine nm_e ⟨in_n (by omega), ?_⟩
    rw [tz_ul (by omega)]
    refine nm_e ⟨in_n (by omega), ?_⟩
    rw [tz_ul (by omega)]
    exact nm_e (Exists.intro 4 (yt_188 (ds := ds) hx hn hd h 4 0 (by omega) (by omega)))
  show vp_in (48 + nI x) 681 ∧ _
  rw [aL_48, cl_n (k := 48 + x)]
  refine ⟨in_n (by omega), br_t h0 (br_t rfl (yw_tryIds hid (Exists.intro 1 ?_)))⟩
  exact br_c (fun _ => h136) fun _ => br_t rfl h136
/-- the joins, when the variable itself was told the same -/
theorem yt_89 {post : Int32 → SY → Prop} {x n : Nat} {kk num lab : Int32} {id q ds : Nat → Nat} (hx : x < 48) (hn : n ≤ 3) (hd : ∀ j, j < n → a_draft j = nI (ds j) ∧ ds j < 48) (hq : ∀ j, j < n → s (240 + 3 * x + j) = nI (q j) ∧ q j < 48) (hj : ∀ j, j ≤ n → ∀ x, x < 48 → jds id q ds j x < 48) (h : wY_tellOf_223 post (nI x) 1 f_trials f_drafted f_found (tz s (jds id q ds n)) a_saved a_draft a_who a_met a_stack a_fresh a_deep a_alike a_meets) : ∀ m j, j ≤ n → n - j < m → wY_tellOf_89 post (nI x) kk num lab (nI n) 1 m (nI j) f_trials f_drafted f_found (tz s (jds id q ds j)) a_saved a_draft a_who a_met a_stack a_fresh a_deep a_alike a_meets := by
  intro m
  induction m with
  | zero => intro j _ h; omega
  | succ m ih =>
    intro j hjn hm
    by_cases e : j = n
    · subst e
      exact wh_t (a := j) (b := j) (by omega) (And.intro (fun z => absurd z (by decide)) fun _ => h)
    · have hd' := hd j (by omega)
      have hq' := hq j (by omega)
      refine wh_f (a := n) (b := j) (by omega) (br_f (by decide) ?_)
      rw [aP, cl_n (k := j), cl_n (k := 240 + 3 * x + j), hd'.1, tz_lo (by omega), hq'.1]
      refine ⟨in_n (by omega), in_n (by omega), yw_join (hj j hjn) hq'.2 hd'.2 (up1 ?_)⟩
      exact ih (j + 1) (by omega) (by omega)
end
end
section
/-! the reference is told a value: what comes of it -/
section
variable {f_trials : Int32} {f_drafted : Int32} {f_found : Int32} {a_s : Nat → Int32} {a_saved : Nat → Int32} {a_draft : Nat → Int32} {a_who : Nat → Int32} {a_met : Nat → Int32} {a_stack : Nat → Int32} {a_fresh : Nat → Int32} {a_deep : Nat → Int32} {a_alike : Nat → Int64} {a_meets : Nat → Int64}
variable {U : Nat → Prop} {p T rk kd mn pt id ds : Nat → Nat} {val : Nat → Int32} {x w n : Nat} {v : Int32}
theorem xd_set (F : Fo U p T rk) (D : XD U p kd mn pt) (hx : U x) (hw : w = 1 ∨ w = 2) (hn : n ≤ 3) (hds : ∀ j, j < n → U (ds j)) : XD U p (un kd (T x) w) (un mn (T x) n) (pwp pt (T x) ds n) := by
  intro y hy e
  by_cases z : y = T x
  · rw [z, un_s, un_s]
    exact ⟨by omega, fun _ => ⟨hn, fun k hk => by rw [pwp_i n hk]; exact hds k hk⟩⟩
  · rw [un_n z, un_n z]
    have q := D y hy e
    exact ⟨q.1, fun k2 => ⟨(q.2 k2).1, fun k hk => by rw [pwp_o n (by have := (q.2 k2).1; omega)]; exact (q.2 k2).2 k hk⟩⟩
theorem yr_setX (F : Fo U p T rk) (D : XD U p kd mn pt) {s : Nat → Int32} (hY : YR (xv U T kd mn pt val) id s) (hx : U x) (k0 : cK (xv U T kd mn pt val) x = 0) (hw : w = 1 ∨ w = 2) (hn : n ≤ 3) (hwn : w = 1 → n = 0) (hds : ∀ j, j < n → U (ds j)) : YR (xv U T (un kd (T x) w) (un mn (T x) n) (pwp pt (T x) ds n) (upd val (T x) v)) id (tw s x (nI w) (if w = 1 then v else 0) (if w = 1 then 0 else v) n ds) := by
  have W : VW (xv U T kd mn pt val) := xv_W F D
  refine yr_set W hY hx k0 rfl rfl (fun y hy ne => ?_) (fun y hy e => ?_) hw hn hds rfl
  · have ne : T y ≠ T x := ne
    refine ⟨?_, ?_, ?_, fun k hk => ?_⟩
    · show un kd (T x) w (T y) = kd (T y); rw [un_n ne]
    · show upd val (T x) v (T y) = val (T y); rw [pk_un ne]
    · show (if un kd (T x) w (T y) = 2 then un mn (T x) n (T y) else 0) = (if kd (T y) = 2 then mn (T y) else 0); rw [un_n ne, un_n ne]
    · show pwp pt (T x) ds n (3 * T y + k) = pt (3 * T y + k)
      have m3 := vw_M W (x := y) hy
      exact pwp_o n (by omega)
  · have e : T y = T x := e
    refine ⟨?_, ?_, ?_, fun k hk => ?_⟩
    · show un kd (T x) w (T y) = w; rw [e, un_s]
    · show upd val (T x) v (T y) = v; rw [e, pk_us]
    · show (if un kd (T x) w (T y) = 2 then un mn (T x) n (T y) else 0) = n
      rw [e, un_s, un_s]
      rcases hw with z | z
      · rw [if_neg (by omega), hwn z]
      · rw [if_pos z]
    · show pwp pt (T x) ds n (3 * T y + k) = ds k
      rw [e]; exact pwp_i n hk
theorem ye_tellOf (F : Fo U p T rk) (D : XD U p kd mn pt) (hY : YR (xv U T kd mn pt val) id a_s) (hx : U x) (hw : w = 1 ∨ w = 2) (hn : n ≤ 3) (hwn : w = 1 → n = 0) (hd : ∀ j, j < n → a_draft j = nI (ds j)) (hds : ∀ j, j < n → U (ds j)) : ∃ r s', TO U T kd mn pt val id a_s x w v n ds r s' ∧ ∀ post : Int32 → SY → Prop, (r = 0 → post 2 (f_trials, f_drafted, f_found, s', a_saved, a_draft, a_who, a_met, a_stack, a_fresh, a_deep, a_alike, a_meets)) → (r = 1 → wpY_settle (fun u => post 1 u) (f_trials, f_drafted, f_found, s', a_saved, a_draft, a_who, a_met, a_stack, a_fresh, a_deep, a_alike, a_meets)) → wpY_tellOf post (f_trials, f_drafted, f_found, a_s, a_saved, a_draft, a_who, a_met, a_stack, a_fresh, a_deep, a_alike, a_meets) (nI x) (nI w) (if w = 1 then v else 0) (if w = 1 then 0 else v) (nI n) := by
  have W : VW (xv U T kd mn pt val) := xv_W F D
  have lx := fo_lt F hx
  have kx := vw_K W (x := x) hx
  have mx := vw_M W (x := x) hx
  have hid := fun z hz => (hY.1 z hz).1
  have hidl := fun z hz => (hY.1 z hz).2
  have ln : n = 0 ∨ n = 1 ∨ n = 2 ∨ n = 3 := by omega
  generalize hs1 : tw a_s x (nI w) (if w = 1 then v else 0) (if w = 1 then 0 else v) n ds = s1
  have s1hi : ∀ i, 432 ≤ i → s1 i = a_s i := fun i hi => by rw [← hs1, tw_o (by omega) (by omega) (by omega) (by omega) (by omega)]
  have s1x : s1 (48 + x) = nI w ∧ s1 (96 + x) = (if w = 1 then v else 0) ∧ s1 (144 + x) = (if w = 1 then 0 else v) ∧ s1 (192 + x) = nI n := by
    rw [← hs1]
    exact ⟨tw_48 lx hn, tw_96 lx hn, tw_144 lx hn, tw_192 lx hn⟩
  have s1y : ∀ y, y < 48 → y ≠ x → s1 (48 + y) = a_s (48 + y) := fun y hy ne => by rw [← hs1, (tw_y (k := 0) lx hy ne hn (by decide)).1]
  have s1o : ∀ i, i < 432 → i ≠ 48 + x → i ≠ 96 + x → i ≠ 144 + x → i ≠ 192 + x → ¬ (240 + 3 * x ≤ i ∧ i < 240 + 3 * x + n) → s1 i = a_s i := fun i _ a b d e f => by rw [← hs1, tw_o a b d e f]
  have wne : ¬ nI w = 0 := fun z => by have := nI_inj (b := 0) z; omega
  have tldy : ∀ y, y < 48 → y ≠ x → U y → Tld (xv U T kd mn pt val) a_s y → Tld (xv U T kd mn pt val) s1 y := by
    intro y hy ne hyU Ty
    have q := tw_y (s := a_s) (kk := nI w) (num := if w = 1 then v else 0) (lab := if w = 1 then 0 else v) (ds := ds) (k := 0) lx hy ne hn (by decide)
    rw [hs1] at q
    refine tld_y W hyU Ty ⟨q.1, q.2.1, q.2.2.1, q.2.2.2.1⟩ fun k hk => ?_
    rw [← hs1]
    exact (tw_y lx hy ne hn hk).2.2.2.2
  -- data that fit
  have mtch : ∀ u, U u → Tld (xv U T kd mn pt val) a_s u → cK (xv U T kd mn pt val) u = w → cM (xv U T kd mn pt val) u = n → (w = 1 → a_s (96 + u) = v) → (w = 2 → a_s (144 + u) = v) → cV (xv U T kd mn pt val) u = v := by
    intro u hu Tu e1 e2 h1 h2
    rcases hw with z | z
    · rw [← (Tu.2.2.1 (by omega)).1]; exact h1 z
    · rw [← (Tu.2.2.2.1 (by omega)).2]; exact h2 z
  by_cases own : a_s (48 + x) = 0
  · by_cases k0 : cK (xv U T kd mn pt val) x = 0
    · have hY' : YR (xv U T (un kd (T x) w) (un mn (T x) n) (pwp pt (T x) ds n) (upd val (T x) v)) id s1 := by rw [← hs1]; exact yr_setX F D hY hx k0 hw hn hwn hds
      have W' : VW (xv U T (un kd (T x) w) (un mn (T x) n) (pwp pt (T x) ds n) (upd val (T x) v)) := xv_W F (xd_set F D hx hw hn hds)
      have c0 := ci_0 W' hY' (S := fun _ _ => False) fun _ _ h => h
      obtain ⟨q, s', ⟨rfl, hhi, ht⟩, hk⟩ := ye_keep (f_trials := f_trials) (f_drafted := f_drafted) (f_found := f_found) (a_s := tz s1 id) (a_saved := a_saved) (a_draft := a_draft) (a_who := a_who) (a_met := a_met) (a_stack := a_stack) (a_fresh := a_fresh) (a_deep := a_deep) (a_alike := a_alike) (a_meets := a_meets) (F := fun q s' => q = 1 ∧ (∀ i, 48 ≤ i → i < 633 → s' i = s1 i) ∧ ∃ t, YR (xv U T (un kd (T x) w) (un mn (T x) n) (pwp pt (T x) ds n) (upd val (T x) v)) t s')
        (yw_keepTried W' (S := fun _ _ => False) (fun _ _ h => h.elim) hY' c0 (fun t h1 h2 _ => ⟨1, _, ⟨rfl, fun i a b => by rw [iz_hi (by omega), tz_lo b], t, yr_nil W' hY' h1.1 h2 (fun i hi => iz_lo hi) fun i a b => by rw [iz_hi (by omega), tz_lo (by omega)]⟩, rfl, rfl⟩) (fun t h => absurd h (sol_nil W').2.1))
      refine ⟨1, s', ⟨fun i a b => by rw [hhi i (by omega) b, s1hi i a], Or.inr (Or.inl ⟨rfl, k0, ht⟩)⟩, fun post _ hp1 => yt_new lx hn hid own hd ?_⟩
      rw [hs1]
      exact yt_223 (x6 := 0) lx (Or.inr rfl) (Or.inl rfl) hk (fun z => absurd z (by decide)) hp1
    · obtain ⟨u0, hu0, eu0, nu0⟩ := hY.2.2.2.2.2 x hx k0
      have lu0 := fo_lt F hu0
      have ne0 : u0 ≠ x := fun z => nu0 (z ▸ own)
      have T0 := hY.2.2.2.2.1 u0 hu0 nu0
      have T0' := tldy u0 lu0 ne0 hu0 T0
      have nu0' : ¬ s1 (48 + u0) = 0 := by rw [s1y u0 lu0 ne0]; exact nu0
      have nx' : ¬ s1 (48 + x) = 0 := by rw [s1x.1]; exact wne
      by_cases hm : cK (xv U T kd mn pt val) x = w ∧ cV (xv U T kd mn pt val) x = v ∧ cM (xv U T kd mn pt val) x = n
      · have hSD : ∀ a b, (fun a b => ∃ j, j < n ∧ a = ds j ∧ b = cP (xv U T kd mn pt val) x j) a b → U a ∧ U b := by
          intro a b ⟨j, hj, e1, e2⟩
          rw [e1, e2]
          exact ⟨hds j hj, vw_P W (x := x) hx (by rw [hm.2.2]; exact hj)⟩
        have hQ : YQ (xv U T kd mn pt val) (fun a b => ∃ j, j < n ∧ a = ds j ∧ b = cP (xv U T kd mn pt val) x j) id s1 := yq_tell W hY hx k0 own hm hw hn hds hs1.symm
        have cq : CQ (xv U T kd mn pt val) (fun a b => ∃ j, j < n ∧ a = ds j ∧ b = cP (xv U T kd mn pt val) x j) id := by
          have c0 := ci_0 W hY (S := fun _ _ => False) fun _ _ h => h
          exact ⟨c0.1, c0.2.1, fun a b ha hb e => cc_mono (fun _ _ z => z.elim) (c0.2.2.2 a b ha hb e)⟩
        obtain ⟨q, s', hF, hk⟩ := ye_keep (f_trials := f_trials) (f_drafted := f_drafted) (f_found := f_found) (a_s := tz s1 id) (a_saved := a_saved) (a_draft := a_draft) (a_who := a_who) (a_met := a_met) (a_stack := a_stack) (a_fresh := a_fresh) (a_deep := a_deep) (a_alike := a_alike) (a_meets := a_meets) (F := fun q s' => (q = 1 ∧ ¬ Clash (xv U T kd mn pt val) (CC (xv U T kd mn pt val) (fun a b => ∃ j, j < n ∧ a = ds j ∧ b = cP (xv U T kd mn pt val) x j)) ∧ (∀ i, 48 ≤ i → i < 633 → s' i = s1 i) ∧ ∀ Tc, Sol (xv U T kd mn pt val) (fun a b => ∃ j, j < n ∧ a = ds j ∧ b = cP (xv U T kd mn pt val) x j) Tc → ∃ t, YR (xv U Tc kd mn pt val) t s') ∨ (q = 0 ∧ Clash (xv U T kd mn pt val) (CC (xv U T kd mn pt val) (fun a b => ∃ j, j < n ∧ a = ds j ∧ b = cP (xv U T kd mn pt val) x j)) ∧ ∀ i, i < 633 → s' i = s1 i))
          (yw_keepQ W hSD hQ cq (fun t nb hb h2 hC a b ⟨j, hj, e1, e2⟩ => by
              have hjM : j < cM (xv U T kd mn pt val) x := by rw [hm.2.2]; exact hj
              have c1 := chq_s hC (hb u0 hu0) (hb x hx) (h2 u0 x hu0 hx eu0) nu0' nx' ne0
              have hju : j < cM (xv U T kd mn pt val) u0 := by rw [c1.1.2.2]; exact hjM
              obtain ⟨q, q1, q2, q3⟩ := T0'.2.2.2.2.2 j hju
              have := c1.2 j hju q (ds j) (fo_lt F q2) (fo_lt F (hds j hj)) q1 (by rw [← hs1, tw_p hj])
              rw [e1, e2, ← this, h2 q _ q2 (vw_P W (x := u0) hu0 hju) q3, vw_eP W (x := u0) (y := x) hu0 hx eu0 j])
            (fun t hl ht hnc => ⟨1, _, Or.inl ⟨rfl, hnc, fun i a b => by rw [iz_hi (by omega), tz_lo b], fun Tc hs => ⟨t, yr_joinXQ F D hQ hs hl ht (fun i hi => iz_lo hi) fun i a b => by rw [iz_hi (by omega), tz_lo (by omega)]⟩⟩, rfl, rfl⟩)
            (fun t hc => ⟨0, _, Or.inr ⟨rfl, hc, fun i hi => tz_lo hi⟩, rfl, rfl⟩))
        rcases hF with ⟨rfl, hnc, hhi, hs⟩ | ⟨rfl, hc, hlo⟩
        · refine ⟨1, s', ⟨fun i a b => by rw [hhi i (by omega) b, s1hi i a], Or.inr (Or.inr ⟨rfl, k0, hm, hnc, hs⟩)⟩, fun post _ hp1 => yt_new lx hn hid own hd ?_⟩
          rw [hs1]
          exact yt_223 (x6 := 0) lx (Or.inr rfl) (Or.inl rfl) hk (fun z => absurd z (by decide)) hp1
        · refine ⟨0, upd s' (48 + x) 0, ⟨fun i a b => by rw [pk_un (by omega), hlo i b, s1hi i a], Or.inl ⟨rfl, k0, Or.inr hc, yr_untold W hY hx hn own pk_us fun i hi a b d e f => by rw [pk_un a, hlo i (by omega), s1o i hi a b d e f]⟩⟩, fun post hp0 _ => yt_new lx hn hid own hd ?_⟩
          rw [hs1]
          exact yt_223 (x6 := 0) lx (Or.inl rfl) (Or.inl rfl) hk hp0 (fun z => absurd z (by decide))
      · have hbad : ∀ u, u < 48 → u ≠ x → ¬ s1 (48 + u) = 0 → cT (xv U T kd mn pt val) u = cT (xv U T kd mn pt val) x → Oth s1 u x ∧ Oth s1 x u := by
          intro u lu ne nu eT
          rw [s1y u lu ne] at nu
          have uU : U u := by
            by_cases q : U u
            · exact q
            · exact absurd (hY.2.1 u lu q).2.1 nu
          have Tu := hY.2.2.2.2.1 u uU nu
          have ss := same_T W (x := u) (y := x) uU hx eT
          have q := tw_y (s := a_s) (kk := nI w) (num := if w = 1 then v else 0) (lab := if w = 1 then 0 else v) (ds := ds) (k := 0) lx lu ne hn (by decide)
          rw [hs1] at q
          have ku := vw_K W (x := u) uU
          have mu := vw_M W (x := u) uU
          have main : ¬ (a_s (48 + u) = nI w ∧ a_s (96 + u) = (if w = 1 then v else 0) ∧ a_s (144 + u) = (if w = 1 then 0 else v) ∧ a_s (192 + u) = nI n) := by
            intro ⟨z1, z2, z3, z4⟩
            rw [Tu.2.1] at z1
            rw [Tu.2.2.2.2.1] at z4
            have a1 : cK (xv U T kd mn pt val) u = w := nI_inj z1
            have a2 : cM (xv U T kd mn pt val) u = n := nI_inj z4
            apply hm
            refine ⟨by rw [← ss.1]; exact a1, ?_, by rw [← ss.2.2]; exact a2⟩
            rw [← ss.2.1]
            exact mtch u uU Tu a1 a2 (fun z => by rw [if_pos z] at z2; exact z2) (fun z => by rw [if_neg (by omega)] at z3; exact z3)
          refine ⟨fun z => main ?_, fun z => main ?_⟩
          · obtain ⟨z1, z2, z3, z4⟩ := z
            rw [q.1, s1x.1] at z1
            rw [q.2.1, s1x.2.1] at z2
            rw [q.2.2.1, s1x.2.2.1] at z3
            rw [q.2.2.2.1, s1x.2.2.2] at z4
            exact ⟨z1, z2, z3, z4⟩
          · obtain ⟨z1, z2, z3, z4⟩ := z
            rw [q.1, s1x.1] at z1
            rw [q.2.1, s1x.2.1] at z2
            rw [q.2.2.1, s1x.2.2.1] at z3
            rw [q.2.2.2.1, s1x.2.2.2] at z4
            exact ⟨z1.symm, z2.symm, z3.symm, z4.symm⟩
        have hT1 : ∀ u, u < 48 → u ≠ x → ¬ s1 (48 + u) = 0 → cU (xv U T kd mn pt val) u ∧ Tld (xv U T kd mn pt val) s1 u := by
          intro u lu ne nu
          rw [s1y u lu ne] at nu
          have uU : U u := by
            by_cases q : U u
            · exact q
            · exact absurd (hY.2.1 u lu q).2.1 nu
          exact ⟨uU, tldy u lu ne uU (hY.2.2.2.2.1 u uU nu)⟩
        have hu1 : ∀ y, cU (xv U T kd mn pt val) y → s1 (384 + y) = 1 := fun y hy => by
          have := fo_lt F hy
          rw [s1o _ (by omega) (by omega) (by omega) (by omega) (by omega) (by omega)]; exact (hY.2.2.1 y hy).1
        have hk : ∀ post : Int32 → SY → Prop, post (nI 0) (f_trials, f_drafted, f_found, tz s1 id, a_saved, a_draft, a_who, a_met, a_stack, a_fresh, a_deep, a_alike, a_meets) → wpY_keepTried post (f_trials, f_drafted, f_found, tz s1 id, a_saved, a_draft, a_who, a_met, a_stack, a_fresh, a_deep, a_alike, a_meets) := by
          intro post hp
          by_cases z : u0 < x
          · exact yw_keepBad W (a := u0) (b := x) hu1 hidl hY.2.2.2.1 hx hT1 hbad z hu0 hx nu0' nx' eu0 (Or.inr rfl) hp
          · exact yw_keepBad W (a := x) (b := u0) hu1 hidl hY.2.2.2.1 hx hT1 hbad (by omega) hx hu0 nx' nu0' eu0.symm (Or.inl rfl) hp
        refine ⟨0, upd (tz s1 id) (48 + x) 0, ⟨fun i a b => by rw [pk_un (by omega), tz_lo b, s1hi i a], Or.inl ⟨rfl, k0, Or.inl hm, yr_untold W hY hx hn own pk_us fun i hi a b d e f => by rw [pk_un a, tz_lo (by omega), s1o i hi a b d e f]⟩⟩, fun post hp0 _ => yt_new lx hn hid own hd ?_⟩
        rw [hs1]
        exact yt_223 (x6 := 0) lx (Or.inl rfl) (Or.inl rfl) hk hp0 (fun z => absurd z (by decide))
  · have Tx := hY.2.2.2.2.1 x hx own
    have k0 : cK (xv U T kd mn pt val) x ≠ 0 := Tx.1
    have start : ∀ post : Int32 → SY → Prop, (¬ (cK (xv U T kd mn pt val) x = w ∧ cV (xv U T kd mn pt val) x = v ∧ cM (xv U T kd mn pt val) x = n) → post 2 (f_trials, f_drafted, f_found, a_s, a_saved, a_draft, a_who, a_met, a_stack, a_fresh, a_deep, a_alike, a_meets)) → ((cK (xv U T kd mn pt val) x = w ∧ cV (xv U T kd mn pt val) x = v ∧ cM (xv U T kd mn pt val) x = n) → wY_tellOf_82 post (nI x) (nI w) (if w = 1 then v else 0) (if w = 1 then 0 else v) (nI n) 1 f_trials f_drafted f_found a_s a_saved a_draft a_who a_met a_stack a_fresh a_deep a_alike a_meets) → wpY_tellOf post (f_trials, f_drafted, f_found, a_s, a_saved, a_draft, a_who, a_met, a_stack, a_fresh, a_deep, a_alike, a_meets) (nI x) (nI w) (if w = 1 then v else 0) (if w = 1 then 0 else v) (nI n) := by
      intro post hn0 hy0
      show vp_in (48 + nI x) 681 ∧ _
      rw [aL_48, cl_n (k := 48 + x)]
      refine ⟨in_n (by omega), br_f own (And.intro (fun z => absurd z (by decide)) fun _ => ?_)⟩
      rw [aL_48, aL_96, aL_144, aL_192, cl_n (k := 48 + x), cl_n (k := 96 + x), cl_n (k := 144 + x), cl_n (k := 192 + x)]
      have bk : ∀ P : Prop, (¬ P → ¬ (cK (xv U T kd mn pt val) x = w ∧ cV (xv U T kd mn pt val) x = v ∧ cM (xv U T kd mn pt val) x = n)) → ¬ P → post 2 (f_trials, f_drafted, f_found, a_s, a_saved, a_draft, a_who, a_met, a_stack, a_fresh, a_deep, a_alike, a_meets) := fun P h z => hn0 (h z)
      refine ⟨in_n (by omega), br_c (fun e1 => ⟨in_n (by omega), br_c (fun e2 => ⟨in_n (by omega), br_c (fun e3 => ⟨in_n (by omega), br_c (fun e4 => hy0 ?_) (bk _ fun z y => z ?_)⟩) (bk _ fun z y => z ?_)⟩) (bk _ fun z y => z ?_)⟩) (bk _ fun z y => z ?_)⟩
      · rw [Tx.2.1] at e1
        rw [Tx.2.2.2.2.1] at e4
        have a1 : cK (xv U T kd mn pt val) x = w := nI_inj e1
        have a2 : cM (xv U T kd mn pt val) x = n := nI_inj e4
        exact ⟨a1, mtch x hx Tx a1 a2 (fun z => by rw [if_pos z] at e2; exact e2) (fun z => by rw [if_neg (by omega)] at e3; exact e3), a2⟩
      · rw [Tx.2.2.2.2.1, y.2.2]
      · rcases hw with z1 | z1
        · rw [if_pos z1]; exact (Tx.2.2.1 (by omega)).2
        · rw [if_neg (by omega), ← y.2.1]; exact (Tx.2.2.2.1 (by omega)).2
      · rcases hw with z1 | z1
        · rw [if_pos z1, ← y.2.1]; exact (Tx.2.2.1 (by omega)).1
        · rw [if_neg (by omega)]; exact (Tx.2.2.2.1 (by omega)).1
      · rw [Tx.2.1, y.1]
    by_cases hm : cK (xv U T kd mn pt val) x = w ∧ cV (xv U T kd mn pt val) x = v ∧ cM (xv U T kd mn pt val) x = n
    · obtain ⟨q, hq⟩ := tld_q Tx
      rw [hm.2.2] at hq
      have c0 := ci_0 W hY (S := fun _ _ => False) fun _ _ h => h
      have hqd : ∀ j, j < n → U (q j) ∧ U (ds j) := fun j hj => ⟨(hq j hj).2.1, hds j hj⟩
      have cj := fun k (hk : k ≤ n) => jds_ci W (q := q) (ds := ds) c0 k fun j hj => hqd j (by omega)
      have cn := cj n (Nat.le_refl _)
      have P1 : ∀ j, j < n → U (cP (xv U T kd mn pt val) x j) := fun j hj => vw_P W (x := x) hx (by rw [hm.2.2]; exact hj)
      have i1 : ∀ a b, CC (xv U T kd mn pt val) (fun a b => ∃ j, j < n ∧ a = q j ∧ b = ds j) a b ↔ CC (xv U T kd mn pt val) (fun a b => ∃ j, j < n ∧ a = ds j ∧ b = cP (xv U T kd mn pt val) x j) a b := by
        intro a b
        constructor
        · refine cc_sub fun a b ⟨j, hj, e1, e2⟩ => ?_
          rw [e1, e2]
          exact cc_t (cc_T (hq j hj).2.1 (P1 j hj) (hq j hj).2.2) (cc_s (cc_S ⟨j, hj, rfl, rfl⟩))
        · refine cc_sub fun a b ⟨j, hj, e1, e2⟩ => ?_
          rw [e1, e2]
          exact cc_s (cc_t (cc_T (P1 j hj) (hq j hj).2.1 (hq j hj).2.2.symm) (cc_S ⟨j, hj, rfl, rfl⟩))
      have i2 : CC (xv U T kd mn pt val) (fun a b => ∃ j, j < n ∧ a = q j ∧ b = ds j) = CC (xv U T kd mn pt val) (fun a b => ∃ j, j < n ∧ a = ds j ∧ b = cP (xv U T kd mn pt val) x j) := funext fun a => funext fun b => propext (i1 a b)
      obtain ⟨qq, s', hF, hk⟩ := ye_keep (f_trials := f_trials) (f_drafted := f_drafted) (f_found := f_found) (a_s := tz a_s (jds id q ds n)) (a_saved := a_saved) (a_draft := a_draft) (a_who := a_who) (a_met := a_met) (a_stack := a_stack) (a_fresh := a_fresh) (a_deep := a_deep) (a_alike := a_alike) (a_meets := a_meets) (F := fun q s' => (q = 1 ∧ ¬ Clash (xv U T kd mn pt val) (CC (xv U T kd mn pt val) (fun a b => ∃ j, j < n ∧ a = ds j ∧ b = cP (xv U T kd mn pt val) x j)) ∧ (∀ i, 48 ≤ i → i < 633 → s' i = a_s i) ∧ ∀ Tc, Sol (xv U T kd mn pt val) (fun a b => ∃ j, j < n ∧ a = ds j ∧ b = cP (xv U T kd mn pt val) x j) Tc → ∃ t, YR (xv U Tc kd mn pt val) t s') ∨ (q = 0 ∧ Clash (xv U T kd mn pt val) (CC (xv U T kd mn pt val) (fun a b => ∃ j, j < n ∧ a = ds j ∧ b = cP (xv U T kd mn pt val) x j)) ∧ ∀ i, i < 633 → s' i = a_s i))
        (yw_keepTried W (S := fun a b => ∃ j, j < n ∧ a = q j ∧ b = ds j) (fun a b ⟨j, hj, e1, e2⟩ => by rw [e1, e2]; exact hqd j hj) hY cn
          (fun t h1 h2 h3 => ⟨1, _, Or.inl ⟨rfl, by rw [← i2]; exact h3, fun i a b => by rw [iz_hi (by omega), tz_lo b], fun Tc hs => ⟨t, yr_joinX F D hY hs h1.1 (fun a b ha hb => (h2 a b ha hb).trans (i1 a b)) (fun i hi => iz_lo hi) fun i a b => by rw [iz_hi (by omega), tz_lo (by omega)]⟩⟩, rfl, rfl⟩)
          (fun t hc => ⟨0, _, Or.inr ⟨rfl, by rw [← i2]; exact hc, fun i hi => tz_lo hi⟩, rfl, rfl⟩))
      have walk : ∀ post : Int32 → SY → Prop, wY_tellOf_223 post (nI x) 1 f_trials f_drafted f_found (tz a_s (jds id q ds n)) a_saved a_draft a_who a_met a_stack a_fresh a_deep a_alike a_meets → wpY_tellOf post (f_trials, f_drafted, f_found, a_s, a_saved, a_draft, a_who, a_met, a_stack, a_fresh, a_deep, a_alike, a_meets) (nI x) (nI w) (if w = 1 then v else 0) (if w = 1 then 0 else v) (nI n) := by
        intro post hp
        refine start post (fun z => absurd hm z) fun _ => ?_
        unfold wY_tellOf_82
        refine yw_tryIds hid (Exists.intro 4 ?_)
        exact yt_89 lx hn (fun j hj => ⟨hd j hj, fo_lt F (hds j hj)⟩) (fun j hj => ⟨(hq j hj).1, fo_lt F (hq j hj).2.1⟩) (fun j hj z hz => ((cj j hj).1 z hz).1) hp 4 0 (by omega) (by omega)
      rcases hF with ⟨rfl, hnc, hhi, hs⟩ | ⟨rfl, hc, hlo⟩
      · exact ⟨1, s', ⟨fun i a b => hhi i (by omega) b, Or.inr (Or.inr ⟨rfl, k0, hm, hnc, hs⟩)⟩, fun post _ hp1 => walk post (yt_223 (x6 := 1) lx (Or.inr rfl) (Or.inr rfl) hk (fun z => absurd z (by decide)) hp1)⟩
      · exact ⟨0, s', ⟨fun i a b => hlo i b, Or.inl ⟨rfl, k0, Or.inr hc, yr_ag hY (fun i hi => hlo i (by omega)) W⟩⟩, fun post hp0 _ => walk post (yt_223 (x6 := 1) lx (Or.inl rfl) (Or.inr rfl) hk hp0 (fun z => absurd z (by decide)))⟩
    · exact ⟨0, a_s, ⟨fun i _ _ => rfl, Or.inl ⟨rfl, k0, Or.inl hm, hY⟩⟩, fun post hp0 _ => start post (fun _ => hp0 rfl) fun z => absurd z hm⟩
end
end
section
/-! the component is told a value -/
section
variable {f_used : Int64} {f_roots : Int64} {f_asked : Int64} {f_trailed : Int32} {f_bound : Int32} {f_pairs : Int32} {f_drafted : Int32} {f_noted : Int32} {f_trials : Int32} {f_mets : Int32} {f_classes : Int32} {a_up : Nat → Int32} {a_kind : Nat → Int32} {a_many : Nat → Int32} {a_parts : Nat → Int32} {a_value : Nat → Int32} {a_trail : Nat → Int32} {a_left : Nat → Int32} {a_right : Nat → Int32} {a_draft : Nat → Int32} {a_stands : Nat → Int32} {a_testX : Nat → Int32} {a_testY : Nat → Int32} {a_triggerX : Nat → Int32} {a_triggerY : Nat → Int32} {a_ends : Nat → Int32} {a_notes : Nat → Int32} {a_oldUsed : Nat → Int64} {a_oldRoots : Nat → Int64} {a_oldAsked : Nat → Int64} {a_oldStands : Nat → Int32} {a_oldTestX : Nat → Int32} {a_oldTestY : Nat → Int32} {a_oldTriggerX : Nat → Int32} {a_oldTriggerY : Nat → Int32} {a_oldEnds : Nat → Int32} {a_oldTrailed : Nat → Int32} {a_oldNoted : Nat → Int32} {a_met : Nat → Int32} {a_classOf : Nat → Int32} {a_finer : Nat → Int32} {a_image : Nat → Int32} {a_seen : Nat → Int32} {a_stack : Nat → Int32} {a_deep : Nat → Int32} {a_company : Nat → Int64} {a_greeted : Nat → Int64}
variable {p kd mn pt tr T rk ds : Nat → Nat} {tn x n : Nat} {U : Nat → Prop} {lab : Int32}
theorem xw_tell37 {post : Int32 → SX → Prop} {t : Nat} (ht : t < 48) (hn : n ≤ 3) (hs : ∀ j, j < n → a_stack j = nI (ds j) ∧ ds j < 48) (h : post 1 (f_used, f_roots, f_asked, f_trailed, f_bound, f_pairs, f_drafted, f_noted, f_trials, f_mets, f_classes, a_up, a_kind, a_many, nA (pwp pt t ds n), a_value, a_trail, a_left, a_right, a_draft, a_stands, a_testX, a_testY, a_triggerX, a_triggerY, a_ends, a_notes, a_oldUsed, a_oldRoots, a_oldAsked, a_oldStands, a_oldTestX, a_oldTestY, a_oldTriggerX, a_oldTriggerY, a_oldEnds, a_oldTrailed, a_oldNoted, a_met, a_classOf, a_finer, a_image, a_seen, a_stack, a_deep, a_company, a_greeted)) : ∀ m j, j ≤ n → n - j < m → wX_tell_37 post (nI n) (nI t) f_used f_roots f_asked f_trailed f_bound f_pairs f_drafted f_noted f_trials f_mets f_classes m (nI j) a_up a_kind a_many (nA (pwp pt t ds j)) a_value a_trail a_left a_right a_draft a_stands a_testX a_testY a_triggerX a_triggerY a_ends a_notes a_oldUsed a_oldRoots a_oldAsked a_oldStands a_oldTestX a_oldTestY a_oldTriggerX a_oldTriggerY a_oldEnds a_oldTrailed a_oldNoted a_met a_classOf a_finer a_image a_seen a_stack a_deep a_company a_greeted := by
  intro m
  induction m with
  | zero => intro j _ h; omega
  | succ m ih =>
    intro j hj hm
    by_cases e : j = n
    · subst e
      exact wh_t (a := j) (b := j) (by omega) h
    · have q := hs j (by omega)
      refine wh_f (a := n) (b := j) (by omega) ?_
      rw [tri, cl_n (k := j), cl_n (k := 3 * t + j), q.1, vb_k (by omega), nA_u]
      exact ⟨in_n (by omega), in_n (by omega), nm_e (up1 (ih (j + 1) (by omega) (by omega)))⟩
theorem xw_tell108 {post : Int32 → SX → Prop} (F : Fo U p T rk) (D : XD U p kd mn pt) (E : TrOK U p kd tr tn) (hx : U x) (hn : n ≤ 3) (hM : cM (xv U T kd mn pt a_value) x = n) (hs : ∀ j, j < n → a_stack j = nI (ds j) ∧ U (ds j))
    (hOk : ∀ b q Tc rkc tr' tn' al ar, Fo U q Tc rkc → Sol (xv U T kd mn pt a_value) (fun a b => ∃ j, j < n ∧ a = ds j ∧ b = cP (xv U T kd mn pt a_value) x j) Tc → Ext U p kd tr tn q kd tr' tn' → post 1 (f_used, f_roots, f_asked, nI tn', b, nI 0, f_drafted, f_noted, f_trials, f_mets, f_classes, nA q, nA kd, nA mn, nA pt, a_value, nA tr', al, ar, a_draft, a_stands, a_testX, a_testY, a_triggerX, a_triggerY, a_ends, a_notes, a_oldUsed, a_oldRoots, a_oldAsked, a_oldStands, a_oldTestX, a_oldTestY, a_oldTriggerX, a_oldTriggerY, a_oldEnds, a_oldTrailed, a_oldNoted, a_met, a_classOf, a_finer, a_image, a_seen, a_stack, a_deep, a_company, a_greeted))
    (hNo : ∀ b q tr' tn' al ar np, Clash (xv U T kd mn pt a_value) (CC (xv U T kd mn pt a_value) (fun a b => ∃ j, j < n ∧ a = ds j ∧ b = cP (xv U T kd mn pt a_value) x j)) → Ext U p kd tr tn q kd tr' tn' → post 0 (f_used, f_roots, f_asked, nI tn', b, nI np, f_drafted, f_noted, f_trials, f_mets, f_classes, nA q, nA kd, nA mn, nA pt, a_value, nA tr', al, ar, a_draft, a_stands, a_testX, a_testY, a_triggerX, a_triggerY, a_ends, a_notes, a_oldUsed, a_oldRoots, a_oldAsked, a_oldStands, a_oldTestX, a_oldTestY, a_oldTriggerX, a_oldTriggerY, a_oldEnds, a_oldTrailed, a_oldNoted, a_met, a_classOf, a_finer, a_image, a_seen, a_stack, a_deep, a_company, a_greeted)) : ∀ m j al ar, j ≤ n → n - j < m → Ar al ds j → Ar ar (fun k => pt (3 * T x + k)) j → wX_tell_108 post (nI n) (nI (T x)) m (nI j) f_used f_roots f_asked (nI tn) f_bound (nI j) f_drafted f_noted f_trials f_mets f_classes (nA p) (nA kd) (nA mn) (nA pt) a_value (nA tr) al ar a_draft a_stands a_testX a_testY a_triggerX a_triggerY a_ends a_notes a_oldUsed a_oldRoots a_oldAsked a_oldStands a_oldTestX a_oldTestY a_oldTriggerX a_oldTriggerY a_oldEnds a_oldTrailed a_oldNoted a_met a_classOf a_finer a_image a_seen a_stack a_deep a_company a_greeted := by
  have W : VW (xv U T kd mn pt a_value) := xv_W F D
  have hP : ∀ j, j < n → U (pt (3 * T x + j)) := fun j hj => vw_P W (x := x) hx (by rw [hM]; exact hj)
  have lt := fo_lt F (fo_T F hx)
  intro m
  induction m with
  | zero => intro j _ _ _ h; omega
  | succ m ih =>
    intro j al ar hj hm hal har
    by_cases e : j = n
    · have e2 := e.symm
      subst e2
      refine wh_t (a := n) (b := n) (by omega) ?_
      have hSU : ∀ a d, (fun a b => ∃ j, j < n ∧ a = ds j ∧ b = cP (xv U T kd mn pt a_value) x j) a d → U a ∧ U d := by
        intro a d ⟨k, hk, e1, e2⟩
        rw [e1, e2]
        exact ⟨(hs k hk).2, hP k hk⟩
      refine xw_join (lf := ds) (rt := fun k => pt (3 * T x + k)) (S := (fun a b => ∃ j, j < n ∧ a = ds j ∧ b = cP (xv U T kd mn pt a_value) x j)) F D hal har hn (fun i hi => ⟨(hs i hi).2, hP i hi⟩) (fun a d => ⟨fun ⟨k, hk, e1, e2⟩ => ⟨k, hk, e1.symm, e2.symm⟩, fun ⟨k, hk, e1, e2⟩ => ⟨k, hk, e1.symm, e2.symm⟩⟩) E ?_ ?_
      · intro b q Tc rkc tr' tn' al ar lf rt Fq J Ex
        exact ⟨rfl, hOk b q Tc rkc tr' tn' al ar Fq (ji_sol W (S := (fun a b => ∃ j, j < n ∧ a = ds j ∧ b = cP (xv U T kd mn pt a_value) x j)) (Tc := Tc) hSU (fun z hz => ⟨fo_T Fq hz, fo_TT Fq hz⟩) J) Ex⟩
      · intro b q tr' tn' al ar np hC Ex
        exact ⟨rfl, hNo b q tr' tn' al ar np hC Ex⟩
    · have q := hs j (by omega)
      have l1 := fo_lt F q.2
      have l2 := fo_lt F (hP j (by omega))
      refine wh_f (a := n) (b := j) (by omega) ?_
      rw [tri, cl_n (k := j), cl_n (k := 3 * T x + j), q.1]
      refine ⟨in_n (by omega), in_n (by omega), xw_pair (np := j) (x := ds j) (y := pt (3 * T x + j)) (by omega) l1 l2 (up1 ?_)⟩
      refine ih (j + 1) _ _ (by omega) (by omega) (fun i hi => ?_) (fun i hi => ?_)
      · by_cases z : i = j
        · rw [z, pk_us]
        · rw [pk_un z]; exact hal i (by omega)
      · by_cases z : i = j
        · rw [z, pk_us]
        · rw [pk_un z]; exact har i (by omega)
theorem xw_tell {post : Int32 → SX → Prop} (F : Fo U p T rk) (D : XD U p kd mn pt) (E : TrOK U p kd tr tn) (hx : U x) (hn : n ≤ 3) (hs : ∀ j, j < n → a_stack j = nI (ds j) ∧ U (ds j))
    (hA : cK (xv U T kd mn pt a_value) x = 0 → post 1 (f_used, f_roots, f_asked, nI (tn + 1), f_bound, 0, f_drafted, f_noted, f_trials, f_mets, f_classes, nA p, nA (un kd (T x) 2), nA (un mn (T x) n), nA (pwp pt (T x) ds n), upd a_value (T x) lab, nA (un tr tn (100 + T x)), a_left, a_right, a_draft, a_stands, a_testX, a_testY, a_triggerX, a_triggerY, a_ends, a_notes, a_oldUsed, a_oldRoots, a_oldAsked, a_oldStands, a_oldTestX, a_oldTestY, a_oldTriggerX, a_oldTriggerY, a_oldEnds, a_oldTrailed, a_oldNoted, a_met, a_classOf, a_finer, a_image, a_seen, a_stack, a_deep, a_company, a_greeted))
    (hB : cK (xv U T kd mn pt a_value) x ≠ 0 → ¬ (cK (xv U T kd mn pt a_value) x = 2 ∧ cV (xv U T kd mn pt a_value) x = lab ∧ cM (xv U T kd mn pt a_value) x = n) → post 0 (f_used, f_roots, f_asked, nI tn, f_bound, 0, f_drafted, f_noted, f_trials, f_mets, f_classes, nA p, nA kd, nA mn, nA pt, a_value, nA tr, a_left, a_right, a_draft, a_stands, a_testX, a_testY, a_triggerX, a_triggerY, a_ends, a_notes, a_oldUsed, a_oldRoots, a_oldAsked, a_oldStands, a_oldTestX, a_oldTestY, a_oldTriggerX, a_oldTriggerY, a_oldEnds, a_oldTrailed, a_oldNoted, a_met, a_classOf, a_finer, a_image, a_seen, a_stack, a_deep, a_company, a_greeted))
    (hOk : cK (xv U T kd mn pt a_value) x ≠ 0 → (cK (xv U T kd mn pt a_value) x = 2 ∧ cV (xv U T kd mn pt a_value) x = lab ∧ cM (xv U T kd mn pt a_value) x = n) → ∀ b q Tc rkc tr' tn' al ar, Fo U q Tc rkc → Sol (xv U T kd mn pt a_value) (fun a b => ∃ j, j < n ∧ a = ds j ∧ b = cP (xv U T kd mn pt a_value) x j) Tc → Ext U p kd tr tn q kd tr' tn' → post 1 (f_used, f_roots, f_asked, nI tn', b, nI 0, f_drafted, f_noted, f_trials, f_mets, f_classes, nA q, nA kd, nA mn, nA pt, a_value, nA tr', al, ar, a_draft, a_stands, a_testX, a_testY, a_triggerX, a_triggerY, a_ends, a_notes, a_oldUsed, a_oldRoots, a_oldAsked, a_oldStands, a_oldTestX, a_oldTestY, a_oldTriggerX, a_oldTriggerY, a_oldEnds, a_oldTrailed, a_oldNoted, a_met, a_classOf, a_finer, a_image, a_seen, a_stack, a_deep, a_company, a_greeted))
    (hNo : cK (xv U T kd mn pt a_value) x ≠ 0 → (cK (xv U T kd mn pt a_value) x = 2 ∧ cV (xv U T kd mn pt a_value) x = lab ∧ cM (xv U T kd mn pt a_value) x = n) → ∀ b q tr' tn' al ar np, Clash (xv U T kd mn pt a_value) (CC (xv U T kd mn pt a_value) (fun a b => ∃ j, j < n ∧ a = ds j ∧ b = cP (xv U T kd mn pt a_value) x j)) → Ext U p kd tr tn q kd tr' tn' → post 0 (f_used, f_roots, f_asked, nI tn', b, nI np, f_drafted, f_noted, f_trials, f_mets, f_classes, nA q, nA kd, nA mn, nA pt, a_value, nA tr', al, ar, a_draft, a_stands, a_testX, a_testY, a_triggerX, a_triggerY, a_ends, a_notes, a_oldUsed, a_oldRoots, a_oldAsked, a_oldStands, a_oldTestX, a_oldTestY, a_oldTriggerX, a_oldTriggerY, a_oldEnds, a_oldTrailed, a_oldNoted, a_met, a_classOf, a_finer, a_image, a_seen, a_stack, a_deep, a_company, a_greeted)) : wpX_tell post (f_used, f_roots, f_asked, nI tn, f_bound, 0, f_drafted, f_noted, f_trials, f_mets, f_classes, nA p, nA kd, nA mn, nA pt, a_value, nA tr, a_left, a_right, a_draft, a_stands, a_testX, a_testY, a_triggerX, a_triggerY, a_ends, a_notes, a_oldUsed, a_oldRoots, a_oldAsked, a_oldStands, a_oldTestX, a_oldTestY, a_oldTriggerX, a_oldTriggerY, a_oldEnds, a_oldTrailed, a_oldNoted, a_met, a_classOf, a_finer, a_image, a_seen, a_stack, a_deep, a_company, a_greeted) (nI x) lab (nI n) := by
  have W : VW (xv U T kd mn pt a_value) := xv_W F D
  have lt := fo_lt F (fo_T F hx)
  have dt := D (T x) (fo_T F hx) (fo_pT F hx)
  have eK : cK (xv U T kd mn pt a_value) x = kd (T x) := rfl
  have eV : cV (xv U T kd mn pt a_value) x = a_value (T x) := rfl
  have htr := tr_le E
  unfold wpX_tell
  refine xw_top F hx ⟨in_n lt, ?_⟩
  rw [cl_n (k := T x), nA_e, nA_e]
  by_cases k0 : kd (T x) = 0
  · refine br_t (by rw [k0]; rfl) ?_
    have E1 := tr_le (ext_set E (fo_T F hx) lt k0 (w := 2) (by decide)).2.2.2.2
    refine xw_set (w := 2) (by omega) lt (by decide) ⟨in_n lt, nmr (nA (un mn (T x) n)) ?_ (Exists.intro 4 ?_)⟩
    · rw [vb_2 (by omega), nA_u, un_un]
    · exact xw_tell37 lt hn (fun j hj => ⟨(hs j hj).1, fo_lt F (hs j hj).2⟩) (hA k0) 4 0 (by omega) (by omega)
  · refine br_f (fun z => k0 (nI_inj (b := 0) z)) ⟨in_n lt, ?_⟩
    by_cases k1 : kd (T x) = 1
    · exact br_t (by rw [k1]; rfl) (hB k0 fun z => by rw [eK] at z; omega)
    · have k2 : kd (T x) = 2 := by omega
      have eM : cM (xv U T kd mn pt a_value) x = mn (T x) := xv_M2 k2
      have m3 := (dt.2 k2).1
      refine br_f (fun z => k1 (nI_inj (b := 1) z)) ⟨in_n lt, ?_⟩
      by_cases ev : a_value (T x) = lab
      · refine br_t ev ⟨in_n lt, ?_⟩
        by_cases em : mn (T x) = n
        · refine br_t (by rw [em]) (Exists.intro 4 ?_)
          have mt : cK (xv U T kd mn pt a_value) x = 2 ∧ cV (xv U T kd mn pt a_value) x = lab ∧ cM (xv U T kd mn pt a_value) x = n := ⟨k2, ev, by rw [eM]; exact em⟩
          exact xw_tell108 F D E hx hn mt.2.2 hs (hOk k0 mt) (hNo k0 mt) 4 0 a_left a_right (by omega) (by omega) ar_0 ar_0
        · exact br_f (fun z => em (nI_inj z)) (hB k0 fun z => em (by rw [← eM]; exact z.2.2))
      · exact br_f ev (hB k0 fun z => ev z.2.1)
end
section
variable {f_used : Int64} {f_roots : Int64} {f_asked : Int64} {f_trailed : Int32} {f_bound : Int32} {f_pairs : Int32} {f_drafted : Int32} {f_noted : Int32} {f_trials : Int32} {f_mets : Int32} {f_classes : Int32} {a_up : Nat → Int32} {a_kind : Nat → Int32} {a_many : Nat → Int32} {a_parts : Nat → Int32} {a_value : Nat → Int32} {a_trail : Nat → Int32} {a_left : Nat → Int32} {a_right : Nat → Int32} {a_draft : Nat → Int32} {a_stands : Nat → Int32} {a_testX : Nat → Int32} {a_testY : Nat → Int32} {a_triggerX : Nat → Int32} {a_triggerY : Nat → Int32} {a_ends : Nat → Int32} {a_notes : Nat → Int32} {a_oldUsed : Nat → Int64} {a_oldRoots : Nat → Int64} {a_oldAsked : Nat → Int64} {a_oldStands : Nat → Int32} {a_oldTestX : Nat → Int32} {a_oldTestY : Nat → Int32} {a_oldTriggerX : Nat → Int32} {a_oldTriggerY : Nat → Int32} {a_oldEnds : Nat → Int32} {a_oldTrailed : Nat → Int32} {a_oldNoted : Nat → Int32} {a_met : Nat → Int32} {a_classOf : Nat → Int32} {a_finer : Nat → Int32} {a_image : Nat → Int32} {a_seen : Nat → Int32} {a_stack : Nat → Int32} {a_deep : Nat → Int32} {a_company : Nat → Int64} {a_greeted : Nat → Int64}
variable {p kd mn pt tr T rk ds t : Nat → Nat} {tn B L : Nat} {used roots asked : Int64} {id : Nat → Nat} {sd tx ty gx gy en nt s s' w sv : Nat → Int32} {N x n : Nat} {A : Nat → Int64} {lab : Int32}
theorem mid_set {w : Nat} (F : Fo (uB used) p T rk) (D : XD (uB used) p kd mn pt) (hM : (Mid L used roots asked p kd mn pt a_value tr tn sd tx ty gx gy en N nt a_oldUsed a_oldRoots a_oldAsked a_oldStands a_oldTestX a_oldTestY a_oldTriggerX a_oldTriggerY a_oldEnds a_oldTrailed a_oldNoted s sv)) (hx : uB used x) (k0 : cK (xv (uB used) T kd mn pt a_value) x = 0) (hw : w = 1 ∨ w = 2) (hn : n ≤ 3) (hds : ∀ j, j < n → uB used (ds j)) (hY : YR (xv (uB used) T (un kd (T x) w) (un mn (T x) n) (pwp pt (T x) ds n) (upd a_value (T x) lab)) t s') (hhi : ∀ i, 432 ≤ i → i < 633 → s' i = s i) : (Mid L used roots asked p (un kd (T x) w) (un mn (T x) n) (pwp pt (T x) ds n) (upd a_value (T x) lab) (un tr tn (100 + T x)) (tn + 1) sd tx ty gx gy en N nt a_oldUsed a_oldRoots a_oldAsked a_oldStands a_oldTestX a_oldTestY a_oldTriggerX a_oldTriggerY a_oldEnds a_oldTrailed a_oldNoted s' sv) := by
  obtain ⟨⟨_, m1, m2, m3, m4, m5⟩, hT, hL⟩ := hM
  have E := ext_set hT (fo_T F hx) (fo_lt F (fo_T F hx)) (show kd (T x) = 0 from k0) (w := w) (by omega)
  refine ⟨⟨⟨T, rk, t, F, xd_set F D hx hw hn hds, hY⟩, mb_ag m1 fun i a b => hhi i (by omega) (by omega), mt_ag m2 fun i a b => hhi i (by omega) (by omega), mg_ag m3 fun i a b => hhi i (by omega) (by omega), me_ag m4 fun i a b => hhi i (by omega) (by omega), mn_ag m5 fun i a b => hhi i (by omega) (by omega)⟩, E.2.2.2.2, ?_⟩
  refine lev_gen hL (fun _ h => h) E.1 E.2.1 (Nat.le_refl _) (fun t ha x _ => by rw [ext_P E ha]) (fun t ha x _ => by rw [ext_K E ha]) (fun y _ hk => ?_) fun _ _ _ => rfl
  have ne : y ≠ T x := fun z => hk (by rw [z]; exact k0)
  exact ⟨pk_un ne, un_n ne, fun k hk => pwp_o n (by omega)⟩
theorem mid_join {q rkc tr' Tc : Nat → Nat} {tn' : Nat} {S : Nat → Nat → Prop} (F : Fo (uB used) p T rk) (D : XD (uB used) p kd mn pt) (hM : (Mid L used roots asked p kd mn pt a_value tr tn sd tx ty gx gy en N nt a_oldUsed a_oldRoots a_oldAsked a_oldStands a_oldTestX a_oldTestY a_oldTriggerX a_oldTriggerY a_oldEnds a_oldTrailed a_oldNoted s sv)) (Fq : Fo (uB used) q Tc rkc) (hs : Sol (xv (uB used) T kd mn pt a_value) S Tc) (E : Ext (uB used) p kd tr tn q kd tr' tn') (hY : YR (xv (uB used) Tc kd mn pt a_value) t s') (hhi : ∀ i, 432 ≤ i → i < 633 → s' i = s i) : (Mid L used roots asked q kd mn pt a_value tr' tn' sd tx ty gx gy en N nt a_oldUsed a_oldRoots a_oldAsked a_oldStands a_oldTestX a_oldTestY a_oldTriggerX a_oldTriggerY a_oldEnds a_oldTrailed a_oldNoted s' sv) := by
  obtain ⟨⟨_, m1, m2, m3, m4, m5⟩, hT, hL⟩ := hM
  exact ⟨⟨⟨Tc, rkc, t, Fq, xd_join F D Fq hs, hY⟩, mb_ag m1 fun i a b => hhi i (by omega) (by omega), mt_ag m2 fun i a b => hhi i (by omega) (by omega), mg_ag m3 fun i a b => hhi i (by omega) (by omega), me_ag m4 fun i a b => hhi i (by omega) (by omega), mn_ag m5 fun i a b => hhi i (by omega) (by omega)⟩, E.2.2.2.2, lev_ext hL E (Nat.le_refl _) fun _ _ _ => rfl⟩
theorem mid_yr (F : Fo (uB used) p T rk) (D : XD (uB used) p kd mn pt) (hM : (Mid L used roots asked p kd mn pt a_value tr tn sd tx ty gx gy en N nt a_oldUsed a_oldRoots a_oldAsked a_oldStands a_oldTestX a_oldTestY a_oldTriggerX a_oldTriggerY a_oldEnds a_oldTrailed a_oldNoted s sv)) (hY : YR (xv (uB used) T kd mn pt a_value) t s') (hhi : ∀ i, 432 ≤ i → i < 633 → s' i = s i) : (Mid L used roots asked p kd mn pt a_value tr tn sd tx ty gx gy en N nt a_oldUsed a_oldRoots a_oldAsked a_oldStands a_oldTestX a_oldTestY a_oldTriggerX a_oldTriggerY a_oldEnds a_oldTrailed a_oldNoted s' sv) := by
  obtain ⟨⟨_, m1, m2, m3, m4, m5⟩, hT, hL⟩ := hM
  exact ⟨⟨⟨T, rk, t, F, D, hY⟩, mb_ag m1 fun i a b => hhi i (by omega) (by omega), mt_ag m2 fun i a b => hhi i (by omega) (by omega), mg_ag m3 fun i a b => hhi i (by omega) (by omega), me_ag m4 fun i a b => hhi i (by omega) (by omega), mn_ag m5 fun i a b => hhi i (by omega) (by omega)⟩, hT, hL⟩
end
end
section
/-! calls that tell: equal, number, make -/
theorem t0_e {L tn : Nat} (h : L = 0 → tn = 0) : t0 L tn = tn := by
  unfold t0
  by_cases e : L = 0
  · rw [if_pos e, h e]
  · rw [if_neg e]
theorem sol_nil2 {c : Vw} (W : VW c) {S : Nat → Nat → Prop} (hS : ∀ a b, ¬ S a b) : Sol c S (cT c) := by
  have : S = fun _ _ => False := funext fun a => funext fun b => propext ⟨fun h => hS a b h, fun h => h.elim⟩
  rw [this]; exact sol_nil W
theorem i_vc_equal {k : Nat} {u : SX} {v : SY} (I : i_Rel k u v) (hk : k + 4 ≤ 2048) (v1 : Int32) (v2 : Int32) : wpX_equal (fun r u' => wpY_equal (fun r' v' => r' = r ∧ i_Rel (k + 4) u' v') v v1 v2) u v1 v2 := by
  refine rel_el (P := fun u v => wpX_equal (fun r u' => wpY_equal (fun r' v' => r' = r ∧ i_Rel (k + 4) u' v') v v1 v2) u v1 v2) ?_ I
  intro f_bound f_mets f_classes a_value a_left a_right a_draft a_oldUsed a_oldRoots a_oldAsked a_oldStands a_oldTestX a_oldTestY a_oldTriggerX a_oldTriggerY a_oldEnds a_oldTrailed a_oldNoted a_met a_classOf a_finer a_image a_seen a_stack a_deep a_company a_greeted used roots asked p kd mn pt tr tn sd tx ty gx gy en N nt L dn dr yf3 s sv y1 w y2 y3 y4 y5 A y6 hM ⟨h1, h2, h3, h4, h5⟩
  unfold wpX_equal
  have I' : i_Rel (k + 4) (used, roots, asked, nI tn, f_bound, 0, nI dn, nI N, nI L, f_mets, f_classes, nA p, nA kd, nA mn, nA pt, a_value, nA tr, a_left, a_right, a_draft, sd, tx, ty, gx, gy, en, nt, a_oldUsed, a_oldRoots, a_oldAsked, a_oldStands, a_oldTestX, a_oldTestY, a_oldTriggerX, a_oldTriggerY, a_oldEnds, a_oldTrailed, a_oldNoted, a_met, a_classOf, a_finer, a_image, a_seen, a_stack, a_deep, a_company, a_greeted) (nI L, nI dn, yf3, s, sv, y1, w, y2, y3, y4, y5, A, y6) := rel_mk hM ⟨h1, h2, by omega, h4, h5⟩
  rcases us_or (uB used) v1 with ⟨x, lx, hx, rfl⟩ | hx
  · refine xu_t hM hx (br_f (by decide) ?_)
    rcases us_or (uB used) v2 with ⟨y, ly, hy, rfl⟩ | hy
    · refine xu_t hM hy (br_f (by decide) ?_)
      have hM' := hM
      obtain ⟨⟨⟨T, rk, id, F, D, Y⟩, m1, m2, m3, m4, m5⟩, hT, hL⟩ := hM'
      have W : VW (xv (uB used) T kd mn pt a_value) := xv_W F D
      obtain ⟨r, s', hr, hyt⟩ := ye_tell (f_trials := nI L) (f_drafted := nI dn) (f_found := yf3) (a_s := s) (a_saved := sv) (a_draft := y1) (a_who := w) (a_met := y2) (a_stack := y3) (a_fresh := y4) (a_deep := y5) (a_alike := A) (a_meets := y6) W Y hx (y := y) hy
      refine xw_pair (np := 0) (by decide) lx ly ?_
      refine xw_join (np := 1) (lf := fun _ => x) (rt := fun _ => y) (S := fun a b => a = x ∧ b = y) F D (fun i hi => ?_) (fun i hi => ?_) (by decide) (fun i hi => ⟨hx, hy⟩) (fun a d => ?_) hT ?_ ?_
      · rw [show i = 0 by omega]; exact pk_us
      · rw [show i = 0 by omega]; exact pk_us
      · exact ⟨fun ⟨e1, e2⟩ => ⟨0, by decide, e1.symm, e2.symm⟩, fun ⟨_, _, e1, e2⟩ => ⟨e1.symm, e2.symm⟩⟩
      · intro b q Tc rkc tr' tn' al ar lf rt Fq J Ex
        have hsol := ji_sol W (S := fun a b => a = x ∧ b = y) (Tc := Tc) (fun a d h => ⟨h.1 ▸ hx, h.2 ▸ hy⟩) (fun z hz => ⟨fo_T Fq hz, fo_TT Fq hz⟩) J
        rcases hr with ⟨rfl, _, t, tl, tt, tlo, thi⟩ | ⟨_, hc, _⟩
        · have hY' : YR (xv (uB used) Tc kd mn pt a_value) t s' := yr_joinX F D Y hsol tl tt tlo fun i a b => thi i a (by omega)
          refine xy_fin_yes (yf1 := nI L) (yf2 := nI dn) (yf3 := yf3) (y1 := y1) (y2 := y2) (y3 := y3) (y4 := y4) (y5 := y5) (y6 := y6) (w := w) (A := A) (GY := fun post => ∀ Q : Int32 → SY → Prop, (fun v' => Q 1 v') = post → wpY_equal Q (nI L, nI dn, yf3, s, sv, y1, w, y2, y3, y4, y5, A, y6) (nI x) (nI y)) (mid_join F D hM Fq hsol Ex hY' fun i a b => thi i (by omega) b) h1 (by omega) (fun post hp Q e => ?_) ?_
          · subst e
            unfold wpY_equal
            exact yu_t hM hx (br_f (by decide) (yu_t hM hy (br_f (by decide) (hyt _ (br_f (by decide) hp)))))
          · intro f_bound a_left a_right p tr tn gx sd N' nt s w A g1 g2 g3 g4
            exact g4 (fun v' => 1 = 1 ∧ i_Rel (k + 4) _ v') ⟨rfl, rel_mk g3 ⟨h1, g2, by omega, h4, h5⟩⟩ _ rfl
        · exact absurd hc hsol.2.1
      · intro b q tr' tn' al ar np hC Ex
        rcases hr with ⟨_, hc, _⟩ | ⟨rfl, _, hlo⟩
        · exact absurd hC hc
        · refine xw_fin_no Ex h1 ?_
          rw [t0_e h2]
          unfold wpY_equal
          refine yu_t hM hx (br_f (by decide) (yu_t hM hy (br_f (by decide) (hyt _ (br_t rfl ⟨rfl, ?_⟩)))))
          exact rel_mk (mid_sag (mid_tr hM Ex.2.1) hlo) ⟨h1, h2, by omega, h4, h5⟩
    · unfold wpY_equal
      exact xu_f hy (br_t rfl (yu_t hM hx (br_f (by decide) (yu_f hM hy (br_t rfl ⟨rfl, I'⟩)))))
  · unfold wpY_equal
    exact xu_f hx (br_t rfl (yu_f hM hx (br_t rfl ⟨rfl, I'⟩)))
theorem i_vc_number {k : Nat} {u : SX} {v : SY} (I : i_Rel k u v) (hk : k + 4 ≤ 2048) (v1 : Int32) (v2 : Int32) : wpX_number (fun r u' => wpY_number (fun r' v' => r' = r ∧ i_Rel (k + 4) u' v') v v1 v2) u v1 v2 := by
  refine rel_el (P := fun u v => wpX_number (fun r u' => wpY_number (fun r' v' => r' = r ∧ i_Rel (k + 4) u' v') v v1 v2) u v1 v2) ?_ I
  intro f_bound f_mets f_classes a_value a_left a_right a_draft a_oldUsed a_oldRoots a_oldAsked a_oldStands a_oldTestX a_oldTestY a_oldTriggerX a_oldTriggerY a_oldEnds a_oldTrailed a_oldNoted a_met a_classOf a_finer a_image a_seen a_stack a_deep a_company a_greeted used roots asked p kd mn pt tr tn sd tx ty gx gy en N nt L dn dr yf3 s sv y1 w y2 y3 y4 y5 A y6 hM ⟨h1, h2, h3, h4, h5⟩
  unfold wpX_number
  have I' : i_Rel (k + 4) (used, roots, asked, nI tn, f_bound, 0, nI dn, nI N, nI L, f_mets, f_classes, nA p, nA kd, nA mn, nA pt, a_value, nA tr, a_left, a_right, a_draft, sd, tx, ty, gx, gy, en, nt, a_oldUsed, a_oldRoots, a_oldAsked, a_oldStands, a_oldTestX, a_oldTestY, a_oldTriggerX, a_oldTriggerY, a_oldEnds, a_oldTrailed, a_oldNoted, a_met, a_classOf, a_finer, a_image, a_seen, a_stack, a_deep, a_company, a_greeted) (nI L, nI dn, yf3, s, sv, y1, w, y2, y3, y4, y5, A, y6) := rel_mk hM ⟨h1, h2, by omega, h4, h5⟩
  rcases us_or (uB used) v1 with ⟨x, lx, hx, rfl⟩ | hx
  · refine xu_t hM hx (br_f (by decide) ?_)
    have hM' := hM
    obtain ⟨⟨⟨T, rk, id, F, D, Y⟩, m1, m2, m3, m4, m5⟩, hT, hL⟩ := hM'
    have W : VW (xv (uB used) T kd mn pt a_value) := xv_W F D
    obtain ⟨r, s', ⟨hhi, hto⟩, hyt⟩ := ye_tellOf (f_trials := nI L) (f_drafted := nI dn) (f_found := yf3) (a_s := s) (a_saved := sv) (a_draft := y1) (a_who := w) (a_met := y2) (a_stack := y3) (a_fresh := y4) (a_deep := y5) (a_alike := A) (a_meets := y6) (x := x) (w := 1) (n := 0) (ds := fun _ => 0) (v := v2) F D Y hx (Or.inl rfl) (by decide) (fun _ => rfl) (fun j hj => absurd hj (by omega)) (fun j hj => absurd hj (by omega))
    have lt := fo_lt F (fo_T F hx)
    have dt := D (T x) (fo_T F hx) (fo_pT F hx)
    have htr := tr_le hT
    have yes : ∀ {p kd mn pt tr tn} {a_value : Nat → Int32} {v : Int32}, r = 1 → (Mid L used roots asked p kd mn pt a_value tr tn sd tx ty gx gy en N nt a_oldUsed a_oldRoots a_oldAsked a_oldStands a_oldTestX a_oldTestY a_oldTriggerX a_oldTriggerY a_oldEnds a_oldTrailed a_oldNoted s' sv) → wX_number_74 (fun r u' => wpY_number (fun r' v' => r' = r ∧ i_Rel (k + 4) u' v') (nI L, nI dn, yf3, s, sv, y1, w, y2, y3, y4, y5, A, y6) (nI x) v2) v 1 used roots asked (nI tn) f_bound 0 (nI dn) (nI N) (nI L) f_mets f_classes (nA p) (nA kd) (nA mn) (nA pt) a_value (nA tr) a_left a_right a_draft sd tx ty gx gy en nt a_oldUsed a_oldRoots a_oldAsked a_oldStands a_oldTestX a_oldTestY a_oldTriggerX a_oldTriggerY a_oldEnds a_oldTrailed a_oldNoted a_met a_classOf a_finer a_image a_seen a_stack a_deep a_company a_greeted := by
      intro p kd mn pt tr tn a_value v hr hm
      subst hr
      refine xy_fin_yes (yf1 := nI L) (yf2 := nI dn) (yf3 := yf3) (y1 := y1) (y2 := y2) (y3 := y3) (y4 := y4) (y5 := y5) (y6 := y6) (w := w) (A := A) (GY := fun post => ∀ Q : Int32 → SY → Prop, (fun v' => Q 1 v') = post → wpY_number Q (nI L, nI dn, yf3, s, sv, y1, w, y2, y3, y4, y5, A, y6) (nI x) v2) hm h1 (by omega) (fun post hp Q e => ?_) ?_
      · subst e
        unfold wpY_number
        exact yu_t hM hx (br_f (by decide) (hyt _ (fun z => absurd z (by decide)) fun _ => hp))
      · intro f_bound a_left a_right p tr tn gx sd N' nt s w A g1 g2 g3 g4
        exact g4 (fun v' => 1 = 1 ∧ i_Rel (k + 4) _ v') ⟨rfl, rel_mk g3 ⟨h1, g2, by omega, h4, h5⟩⟩ _ rfl
    refine xw_top F hx ⟨in_n lt, ?_⟩
    rw [cl_n (k := T x), nA_e]
    have e56 : ∀ (P : Int32 → SX → Prop) (z : Int32), (kd (T x) = 0 → wX_number_74 P (nI tn) z used roots asked (nI (tn + 1)) f_bound 0 (nI dn) (nI N) (nI L) f_mets f_classes (nA p) (nA (un kd (T x) 1)) (nA (un mn (T x) 0)) (nA pt) (upd a_value (T x) v2) (nA (un tr tn (100 + T x))) a_left a_right a_draft sd tx ty gx gy en nt a_oldUsed a_oldRoots a_oldAsked a_oldStands a_oldTestX a_oldTestY a_oldTriggerX a_oldTriggerY a_oldEnds a_oldTrailed a_oldNoted a_met a_classOf a_finer a_image a_seen a_stack a_deep a_company a_greeted) → (¬ kd (T x) = 0 → wX_number_74 P (nI tn) z used roots asked (nI tn) f_bound 0 (nI dn) (nI N) (nI L) f_mets f_classes (nA p) (nA kd) (nA mn) (nA pt) a_value (nA tr) a_left a_right a_draft sd tx ty gx gy en nt a_oldUsed a_oldRoots a_oldAsked a_oldStands a_oldTestX a_oldTestY a_oldTriggerX a_oldTriggerY a_oldEnds a_oldTrailed a_oldNoted a_met a_classOf a_finer a_image a_seen a_stack a_deep a_company a_greeted) → wX_number_56 P v2 (nI (T x)) (nI tn) z used roots asked (nI tn) f_bound 0 (nI dn) (nI N) (nI L) f_mets f_classes (nA p) (nA kd) (nA mn) (nA pt) a_value (nA tr) a_left a_right a_draft sd tx ty gx gy en nt a_oldUsed a_oldRoots a_oldAsked a_oldStands a_oldTestX a_oldTestY a_oldTriggerX a_oldTriggerY a_oldEnds a_oldTrailed a_oldNoted a_met a_classOf a_finer a_image a_seen a_stack a_deep a_company a_greeted := by
      intro P z ha hb
      refine And.intro (in_n lt) ?_
      rw [cl_n (k := T x), nA_e]
      by_cases k0 : kd (T x) = 0
      · have E1 := tr_le (ext_set hT (fo_T F hx) lt k0 (w := 1) (by decide)).2.2.2.2
        exact br_t (by rw [k0]; rfl) (xw_set (w := 1) (by omega) lt (by decide) (ha k0))
      · exact br_f (fun q => k0 (nI_inj (b := 0) q)) (hb k0)
    by_cases k0 : kd (T x) = 0
    · refine br_t (by rw [k0]; rfl) (e56 _ 1 (fun _ => ?_) (fun z => absurd k0 z))
      rcases hto with ⟨_, z, _⟩ | ⟨hr, _, t, hY'⟩ | ⟨_, z, _⟩
      · exact absurd k0 z
      · exact yes hr (mid_set (n := 0) (ds := fun _ => 0) F D hM hx k0 (Or.inl rfl) (by decide) (fun j hj => absurd hj (by omega)) hY' hhi)
      · exact absurd k0 z
    · have eM0 : kd (T x) = 1 → cM (xv (uB used) T kd mn pt a_value) x = 0 := fun z => xv_M0 (by omega)
      have good : (kd (T x) = 1 ∧ a_value (T x) = v2) → wX_number_51 (fun r u' => wpY_number (fun r' v' => r' = r ∧ i_Rel (k + 4) u' v') (nI L, nI dn, yf3, s, sv, y1, w, y2, y3, y4, y5, A, y6) (nI x) v2) v2 (nI (T x)) (nI tn) used roots asked (nI tn) f_bound 0 (nI dn) (nI N) (nI L) f_mets f_classes (nA p) (nA kd) (nA mn) (nA pt) a_value (nA tr) a_left a_right a_draft sd tx ty gx gy en nt a_oldUsed a_oldRoots a_oldAsked a_oldStands a_oldTestX a_oldTestY a_oldTriggerX a_oldTriggerY a_oldEnds a_oldTrailed a_oldNoted a_met a_classOf a_finer a_image a_seen a_stack a_deep a_company a_greeted := by
        intro ⟨z1, z2⟩
        have mt : cK (xv (uB used) T kd mn pt a_value) x = 1 ∧ cV (xv (uB used) T kd mn pt a_value) x = v2 ∧ cM (xv (uB used) T kd mn pt a_value) x = 0 := ⟨z1, z2, eM0 z1⟩
        refine e56 _ 1 (fun q => absurd q k0) (fun _ => ?_)
        rcases hto with ⟨_, _, hc, _⟩ | ⟨_, z, _⟩ | ⟨hr, _, _, _, hs⟩
        · have hn := (sol_nil2 W (S := fun a b => ∃ j, j < 0 ∧ a = 0 ∧ b = cP (xv (uB used) T kd mn pt a_value) x j) fun a b ⟨j, hj, _⟩ => absurd hj (by omega)).2.1
          rcases hc with hc | hc
          · exact absurd mt hc
          · exact absurd hc hn
        · exact absurd z k0
        · obtain ⟨t, hY'⟩ := hs T (sol_nil2 W fun a b ⟨j, hj, _⟩ => absurd hj (by omega))
          exact yes hr (mid_yr F D hM hY' hhi)
      have bad : ¬ (kd (T x) = 1 ∧ a_value (T x) = v2) → wX_number_55 (fun r u' => wpY_number (fun r' v' => r' = r ∧ i_Rel (k + 4) u' v') (nI L, nI dn, yf3, s, sv, y1, w, y2, y3, y4, y5, A, y6) (nI x) v2) v2 (nI (T x)) (nI tn) used roots asked (nI tn) f_bound 0 (nI dn) (nI N) (nI L) f_mets f_classes (nA p) (nA kd) (nA mn) (nA pt) a_value (nA tr) a_left a_right a_draft sd tx ty gx gy en nt a_oldUsed a_oldRoots a_oldAsked a_oldStands a_oldTestX a_oldTestY a_oldTriggerX a_oldTriggerY a_oldEnds a_oldTrailed a_oldNoted a_met a_classOf a_finer a_image a_seen a_stack a_deep a_company a_greeted := by
        intro nz
        refine e56 _ 0 (fun q => absurd q k0) (fun _ => ?_)
        rcases hto with ⟨hr, _, _, hY'⟩ | ⟨_, z, _⟩ | ⟨_, _, z, _⟩
        · refine xw_fin_no (ext_0 hT) h1 ?_
          rw [t0_e h2]
          unfold wpY_number
          refine yu_t hM hx (br_f (by decide) (hyt _ (fun _ => ⟨rfl, rel_mk (mid_yr F D hM hY' hhi) ⟨h1, h2, by omega, h4, h5⟩⟩) fun z => absurd (hr.symm.trans z) (by decide)))
        · exact absurd z k0
        · exact absurd ⟨z.1, z.2.1⟩ nz
      refine br_f (fun z => k0 (nI_inj (b := 0) z)) ⟨in_n lt, ?_⟩
      by_cases k1 : kd (T x) = 1
      · refine br_t (by rw [k1]; rfl) ⟨in_n lt, br_c (fun z => good ⟨k1, z⟩) fun z => bad fun q => z q.2⟩
      · exact br_f (fun z => k1 (nI_inj (b := 1) z)) (bad fun q => k1 q.1)
  · unfold wpY_number
    exact xu_f hx (br_t rfl (yu_f hM hx (br_t rfl ⟨rfl, I'⟩)))
end
section
/-! make -/
/-- what comes behind tell, in make -/
def wX_make_fin (post : Int32 → SX → Prop) (x4 r : Int32) (u : SX) : Prop := match u with
  | (f_used, f_roots, f_asked, f_trailed, f_bound, f_pairs, f_drafted, f_noted, f_trials, f_mets, f_classes, a_up, a_kind, a_many, a_parts, a_value, a_trail, a_left, a_right, a_draft, a_stands, a_testX, a_testY, a_triggerX, a_triggerY, a_ends, a_notes, a_oldUsed, a_oldRoots, a_oldAsked, a_oldStands, a_oldTestX, a_oldTestY, a_oldTriggerX, a_oldTriggerY, a_oldEnds, a_oldTrailed, a_oldNoted, a_met, a_classOf, a_finer, a_image, a_seen, a_stack, a_deep, a_company, a_greeted) => wpX_finishes (fun r u => post r u) (f_used, f_roots, f_asked, f_trailed, f_bound, f_pairs, 0, f_noted, f_trials, f_mets, f_classes, a_up, a_kind, a_many, a_parts, a_value, a_trail, a_left, a_right, a_draft, a_stands, a_testX, a_testY, a_triggerX, a_triggerY, a_ends, a_notes, a_oldUsed, a_oldRoots, a_oldAsked, a_oldStands, a_oldTestX, a_oldTestY, a_oldTriggerX, a_oldTriggerY, a_oldEnds, a_oldTrailed, a_oldNoted, a_met, a_classOf, a_finer, a_image, a_seen, a_stack, a_deep, a_company, a_greeted) r x4
section
variable {f_used : Int64} {f_roots : Int64} {f_asked : Int64} {f_trailed : Int32} {f_bound : Int32} {f_pairs : Int32} {f_drafted : Int32} {f_noted : Int32} {f_trials : Int32} {f_mets : Int32} {f_classes : Int32} {a_up : Nat → Int32} {a_kind : Nat → Int32} {a_many : Nat → Int32} {a_parts : Nat → Int32} {a_value : Nat → Int32} {a_trail : Nat → Int32} {a_left : Nat → Int32} {a_right : Nat → Int32} {a_draft : Nat → Int32} {a_stands : Nat → Int32} {a_testX : Nat → Int32} {a_testY : Nat → Int32} {a_triggerX : Nat → Int32} {a_triggerY : Nat → Int32} {a_ends : Nat → Int32} {a_notes : Nat → Int32} {a_oldUsed : Nat → Int64} {a_oldRoots : Nat → Int64} {a_oldAsked : Nat → Int64} {a_oldStands : Nat → Int32} {a_oldTestX : Nat → Int32} {a_oldTestY : Nat → Int32} {a_oldTriggerX : Nat → Int32} {a_oldTriggerY : Nat → Int32} {a_oldEnds : Nat → Int32} {a_oldTrailed : Nat → Int32} {a_oldNoted : Nat → Int32} {a_met : Nat → Int32} {a_classOf : Nat → Int32} {a_finer : Nat → Int32} {a_image : Nat → Int32} {a_seen : Nat → Int32} {a_stack : Nat → Int32} {a_deep : Nat → Int32} {a_company : Nat → Int64} {a_greeted : Nat → Int64}
variable {dn : Nat} {dr : Nat → Nat}
theorem xw_make26 {post : Int32 → SX → Prop} {x1 x2 : Int32} {g0 : Nat} (hd : ∀ j, j < 3 → a_draft j = nI (dr j) ∧ dr j < 48) (hdn : dn ≤ 3) (hG : g0 = 1 → (∀ i, i < dn → uB f_used (dr i)) → ∃ n, wX_make_70 post x1 x2 f_trailed f_used f_roots f_asked f_trailed f_bound f_pairs (nI dn) f_noted f_trials f_mets f_classes n 0 a_up a_kind a_many a_parts a_value a_trail a_left a_right a_draft a_stands a_testX a_testY a_triggerX a_triggerY a_ends a_notes a_oldUsed a_oldRoots a_oldAsked a_oldStands a_oldTestX a_oldTestY a_oldTriggerX a_oldTriggerY a_oldEnds a_oldTrailed a_oldNoted a_met a_classOf a_finer a_image a_seen a_stack a_deep a_company a_greeted) (hN : ¬ (g0 = 1 ∧ ∀ i, i < dn → uB f_used (dr i)) → post (-1) (f_used, f_roots, f_asked, f_trailed, f_bound, f_pairs, nI dn, f_noted, f_trials, f_mets, f_classes, a_up, a_kind, a_many, a_parts, a_value, a_trail, a_left, a_right, a_draft, a_stands, a_testX, a_testY, a_triggerX, a_triggerY, a_ends, a_notes, a_oldUsed, a_oldRoots, a_oldAsked, a_oldStands, a_oldTestX, a_oldTestY, a_oldTriggerX, a_oldTriggerY, a_oldEnds, a_oldTrailed, a_oldNoted, a_met, a_classOf, a_finer, a_image, a_seen, a_stack, a_deep, a_company, a_greeted)) : ∀ n j g, j ≤ dn → dn - j < n → (g = 0 ∨ g = 1) → (g = 1 ↔ (g0 = 1 ∧ ∀ i, i < j → uB f_used (dr i))) → wX_make_26 post x1 x2 f_used f_roots f_asked f_trailed f_bound f_pairs (nI dn) f_noted f_trials f_mets f_classes a_up a_kind a_many a_parts a_value a_trail a_left a_right a_draft a_stands a_testX a_testY a_triggerX a_triggerY a_ends a_notes a_oldUsed a_oldRoots a_oldAsked a_oldStands a_oldTestX a_oldTestY a_oldTriggerX a_oldTriggerY a_oldEnds a_oldTrailed a_oldNoted a_met a_classOf a_finer a_image a_seen a_stack a_deep a_company a_greeted n (nI g) (nI j) := by
  intro n
  induction n with
  | zero => intro j _ _ h; omega
  | succ n ih =>
    intro j g hj hn hg hgg
    by_cases e : j = dn
    · subst e
      refine wh_t (a := j) (b := j) (by omega) ?_
      rcases hg with rfl | rfl
      · exact br_t rfl (hN fun z => absurd (hgg.2 z) (by decide))
      · have := hgg.1 rfl
        exact br_f (by decide) (hG this.1 this.2)
    · have q := hd j (by omega)
      refine wh_f (a := dn) (b := j) (by omega) ⟨in_n (by omega), ?_⟩
      rw [cl_n (k := j), q.1]
      have next : ∀ r g', (nI g &&& r = nI g') → (g' = 0 ∨ g' = 1) → (g' = 1 ↔ (g0 = 1 ∧ ∀ i, i < j + 1 → uB f_used (dr i))) → ∀ x3, x3 = nI g &&& r → ∀ x4, x4 = nI j + 1 → wX_make_26 post x1 x2 f_used f_roots f_asked f_trailed f_bound f_pairs (nI dn) f_noted f_trials f_mets f_classes a_up a_kind a_many a_parts a_value a_trail a_left a_right a_draft a_stands a_testX a_testY a_triggerX a_triggerY a_ends a_notes a_oldUsed a_oldRoots a_oldAsked a_oldStands a_oldTestX a_oldTestY a_oldTriggerX a_oldTriggerY a_oldEnds a_oldTrailed a_oldNoted a_met a_classOf a_finer a_image a_seen a_stack a_deep a_company a_greeted n x3 x4 := by
        intro r g' e1 e2 e3
        exact nmr (nI g') e1 (up1 (ih (j + 1) g' (by omega) (by omega) e2 e3))
      by_cases hu : uB f_used (dr j)
      · refine xw_us_t q.2 hu (next 1 g (by rcases hg with rfl | rfl <;> decide) hg ?_)
        rw [hgg]
        refine ⟨fun z => ⟨z.1, fun i hi => ?_⟩, fun z => ⟨z.1, fun i hi => z.2 i (by omega)⟩⟩
        by_cases z2 : i = j
        · rw [z2]; exact hu
        · exact z.2 i (by omega)
      · refine xw_us_f (fun y hy e => ?_) (next 0 0 (by rcases hg with rfl | rfl <;> decide) (Or.inl rfl) ⟨fun z => absurd z (by decide), fun z => absurd (z.2 j (by omega)) hu⟩)
        have : dr j = y := nI_inj e
        rw [← this]; exact ts_nt hu
theorem xw_make70 {post : Int32 → SX → Prop} {x1 x2 x4 : Int32} (hd : ∀ j, j < 3 → a_draft j = nI (dr j) ∧ dr j < 48) (hdn : dn ≤ 3) (H : ∀ a_stack, (∀ i, i < dn → a_stack i = nI (dr i)) → wpX_tell (fun r_53 u => wX_make_fin post x4 r_53 u) (f_used, f_roots, f_asked, f_trailed, f_bound, f_pairs, nI dn, f_noted, f_trials, f_mets, f_classes, a_up, a_kind, a_many, a_parts, a_value, a_trail, a_left, a_right, a_draft, a_stands, a_testX, a_testY, a_triggerX, a_triggerY, a_ends, a_notes, a_oldUsed, a_oldRoots, a_oldAsked, a_oldStands, a_oldTestX, a_oldTestY, a_oldTriggerX, a_oldTriggerY, a_oldEnds, a_oldTrailed, a_oldNoted, a_met, a_classOf, a_finer, a_image, a_seen, a_stack, a_deep, a_company, a_greeted) x1 x2 (nI dn)) : ∀ m j a_stack, j ≤ dn → dn - j < m → (∀ i, i < j → a_stack i = nI (dr i)) → wX_make_70 post x1 x2 x4 f_used f_roots f_asked f_trailed f_bound f_pairs (nI dn) f_noted f_trials f_mets f_classes m (nI j) a_up a_kind a_many a_parts a_value a_trail a_left a_right a_draft a_stands a_testX a_testY a_triggerX a_triggerY a_ends a_notes a_oldUsed a_oldRoots a_oldAsked a_oldStands a_oldTestX a_oldTestY a_oldTriggerX a_oldTriggerY a_oldEnds a_oldTrailed a_oldNoted a_met a_classOf a_finer a_image a_seen a_stack a_deep a_company a_greeted := by
  intro m
  induction m with
  | zero => intro j _ _ h; omega
  | succ m ih =>
    intro j a_stack hj hm hs
    by_cases e : j = dn
    · subst e
      exact wh_t (a := j) (b := j) (by omega) (H a_stack hs)
    · have q := hd j (by omega)
      refine wh_f (a := dn) (b := j) (by omega) ?_
      rw [cl_n (k := j), q.1, vb_k (by omega)]
      refine ⟨in_n (by omega), in_n (by omega), nm_e (up1 (ih (j + 1) _ (by omega) (by omega) fun i hi => ?_))⟩
      by_cases z : i = j
      · rw [z, pk_us]
      · rw [pk_un z]; exact hs i (by omega)
end
section
variable {f_trials : Int32} {f_drafted : Int32} {f_found : Int32} {a_s : Nat → Int32} {a_saved : Nat → Int32} {a_draft : Nat → Int32} {a_who : Nat → Int32} {a_met : Nat → Int32} {a_stack : Nat → Int32} {a_fresh : Nat → Int32} {a_deep : Nat → Int32} {a_alike : Nat → Int64} {a_meets : Nat → Int64}
variable {dn : Nat} {dr : Nat → Nat} {used : Int64}
theorem yw_make22 {post : Int32 → SY → Prop} {x1 x2 : Int32} (hd : ∀ j, j < 3 → a_draft j = nI (dr j) ∧ dr j < 48) (hdn : dn ≤ 3) (hu1 : ∀ x, uB used x → a_s (384 + x) = 1) (hu0 : ∀ x, x < 48 → ¬ uB used x → a_s (384 + x) = 0) (hG : (∀ i, i < dn → uB used (dr i)) → wpY_tellOf (fun r u => post r u) (f_trials, 0, f_found, a_s, a_saved, a_draft, a_who, a_met, a_stack, a_fresh, a_deep, a_alike, a_meets) x1 2 0 x2 (nI dn)) (hN : ¬ (∀ i, i < dn → uB used (dr i)) → post (-1) (f_trials, nI dn, f_found, a_s, a_saved, a_draft, a_who, a_met, a_stack, a_fresh, a_deep, a_alike, a_meets)) : ∀ n j, j ≤ dn → dn - j < n → (∀ i, i < j → uB used (dr i)) → wY_make_22 post x1 x2 f_trials (nI dn) f_found a_s a_saved a_draft a_who a_met a_stack a_fresh a_deep a_alike a_meets n (nI j) := by
  intro n
  induction n with
  | zero => intro j _ h; omega
  | succ n ih =>
    intro j hj hn hl
    by_cases e : j = dn
    · subst e
      exact wh_t (a := j) (b := j) (by omega) (hG hl)
    · have q := hd j (by omega)
      refine wh_f (a := dn) (b := j) (by omega) ⟨in_n (by omega), ?_⟩
      rw [cl_n (k := j), q.1]
      by_cases hu : uB used (dr j)
      · refine yw_us_t q.2 (hu1 _ hu) (br_f (by decide) (up1 (ih (j + 1) (by omega) (by omega) fun i hi => ?_)))
        by_cases z2 : i = j
        · rw [z2]; exact hu
        · exact hl i (by omega)
      · refine yw_us_f (fun y hy e => ?_) (br_t rfl (hN fun z => hu (z j (by omega))))
        have : dr j = y := nI_inj e
        rw [← this, hu0 _ q.2 hu]; decide
end
theorem i_vc_make {k : Nat} {u : SX} {v : SY} (I : i_Rel k u v) (hk : k + 4 ≤ 2048) (v1 : Int32) (v2 : Int32) : wpX_make (fun r u' => wpY_make (fun r' v' => r' = r ∧ i_Rel (k + 4) u' v') v v1 v2) u v1 v2 := by
  refine rel_el (P := fun u v => wpX_make (fun r u' => wpY_make (fun r' v' => r' = r ∧ i_Rel (k + 4) u' v') v v1 v2) u v1 v2) ?_ I
  intro f_bound f_mets f_classes a_value a_left a_right a_draft a_oldUsed a_oldRoots a_oldAsked a_oldStands a_oldTestX a_oldTestY a_oldTriggerX a_oldTriggerY a_oldEnds a_oldTrailed a_oldNoted a_met a_classOf a_finer a_image a_seen a_stack a_deep a_company a_greeted used roots asked p kd mn pt tr tn sd tx ty gx gy en N nt L dn dr yf3 s sv y1 w y2 y3 y4 y5 A y6 hM ⟨h1, h2, h3, h4, h5⟩
  unfold wpX_make
  have I' : i_Rel (k + 4) (used, roots, asked, nI tn, f_bound, 0, nI dn, nI N, nI L, f_mets, f_classes, nA p, nA kd, nA mn, nA pt, a_value, nA tr, a_left, a_right, a_draft, sd, tx, ty, gx, gy, en, nt, a_oldUsed, a_oldRoots, a_oldAsked, a_oldStands, a_oldTestX, a_oldTestY, a_oldTriggerX, a_oldTriggerY, a_oldEnds, a_oldTrailed, a_oldNoted, a_met, a_classOf, a_finer, a_image, a_seen, a_stack, a_deep, a_company, a_greeted) (nI L, nI dn, yf3, s, sv, y1, w, y2, y3, y4, y5, A, y6) := rel_mk hM ⟨h1, h2, by omega, h4, h5⟩
  have hdX : ∀ j, j < 3 → a_draft j = nI (dr j) ∧ dr j < 48 := fun j hj => ⟨(h5 j hj).1, (h5 j hj).2.2⟩
  have hdY : ∀ j, j < 3 → y1 j = nI (dr j) ∧ dr j < 48 := fun j hj => ⟨(h5 j hj).2.1, (h5 j hj).2.2⟩
  have hu1 : ∀ x, uB used x → s (384 + x) = 1 := fun x h => mid_u1 hM h
  have hu0 : ∀ x, x < 48 → ¬ uB used x → s (384 + x) = 0 := fun x h1 h2 => mid_u0 hM h1 h2
  rcases us_or (uB used) v1 with ⟨x, lx, hx, rfl⟩ | hx
  · refine xu_t hM hx (br_f (by decide) ?_)
    rcases in_or v2 7 (by decide) with ⟨l, hl, rfl⟩ | ⟨g1, g2⟩
    · refine xw_in_t (N := 8) hl (by decide) (br_f (by decide) (Exists.intro 4 (xw_make26 (g0 := 1) hdX h4 (fun _ hau => ?_) (fun hau => ?_) 4 0 1 (by omega) (by omega) (Or.inr rfl) ⟨fun _ => ⟨rfl, fun i hi => absurd hi (by omega)⟩, fun _ => rfl⟩)))
      · refine Exists.intro 4 ?_
        have hM' := hM
        obtain ⟨⟨⟨T, rk, id, F, D, Y⟩, m1, m2, m3, m4, m5⟩, hT, hL⟩ := hM'
        have W : VW (xv (uB used) T kd mn pt a_value) := xv_W F D
        obtain ⟨r, s', ⟨hhi, hto⟩, hyt⟩ := ye_tellOf (f_trials := nI L) (f_drafted := nI 0) (f_found := yf3) (a_s := s) (a_saved := sv) (a_draft := y1) (a_who := w) (a_met := y2) (a_stack := y3) (a_fresh := y4) (a_deep := y5) (a_alike := A) (a_meets := y6) (x := x) (w := 2) (n := dn) (ds := dr) (v := nI l) F D Y hx (Or.inr rfl) h4 (fun z => absurd z (by decide)) (fun j hj => (hdY j (by omega)).1) hau
        have ywalk : ∀ Q : Int32 → SY → Prop, (r = 0 → Q 2 (nI L, nI 0, yf3, s', sv, y1, w, y2, y3, y4, y5, A, y6)) → (r = 1 → wpY_settle (fun u => Q 1 u) (nI L, nI 0, yf3, s', sv, y1, w, y2, y3, y4, y5, A, y6)) → wpY_make Q (nI L, nI dn, yf3, s, sv, y1, w, y2, y3, y4, y5, A, y6) (nI x) (nI l) := by
          intro Q q0 q1
          unfold wpY_make
          refine yu_t hM hx (br_f (by decide) (yin_t2 (n := 7) (by omega) (by decide) (Exists.intro 4 (yw_make22 (used := used) hdY h4 hu1 hu0 (fun _ => ?_) (fun z => absurd hau z) 4 0 (by omega) (by omega) fun i hi => absurd hi (by omega)))))
          exact hyt Q q0 q1
        have yes : ∀ {p kd mn pt tr tn} {f_bound : Int32} {a_value a_left a_right a_stack : Nat → Int32} {v fp : Int32}, r = 1 → (Mid L used roots asked p kd mn pt a_value tr tn sd tx ty gx gy en N nt a_oldUsed a_oldRoots a_oldAsked a_oldStands a_oldTestX a_oldTestY a_oldTriggerX a_oldTriggerY a_oldEnds a_oldTrailed a_oldNoted s' sv) → wpX_finishes (fun r u' => wpY_make (fun r' v' => r' = r ∧ i_Rel (k + 4) u' v') (nI L, nI dn, yf3, s, sv, y1, w, y2, y3, y4, y5, A, y6) (nI x) (nI l)) (used, roots, asked, nI tn, f_bound, fp, 0, nI N, nI L, f_mets, f_classes, nA p, nA kd, nA mn, nA pt, a_value, nA tr, a_left, a_right, a_draft, sd, tx, ty, gx, gy, en, nt, a_oldUsed, a_oldRoots, a_oldAsked, a_oldStands, a_oldTestX, a_oldTestY, a_oldTriggerX, a_oldTriggerY, a_oldEnds, a_oldTrailed, a_oldNoted, a_met, a_classOf, a_finer, a_image, a_seen, a_stack, a_deep, a_company, a_greeted) 1 v := by
          intro p kd mn pt tr tn f_bound a_value a_left a_right a_stack v fp hr hm
          subst hr
          refine xy_fin_yes (yf1 := nI L) (yf2 := nI 0) (yf3 := yf3) (y1 := y1) (y2 := y2) (y3 := y3) (y4 := y4) (y5 := y5) (y6 := y6) (w := w) (A := A) (GY := fun post => ∀ Q : Int32 → SY → Prop, (fun v' => Q 1 v') = post → wpY_make Q (nI L, nI dn, yf3, s, sv, y1, w, y2, y3, y4, y5, A, y6) (nI x) (nI l)) hm h1 (by omega) (fun post hp Q e => ?_) ?_
          · subst e
            exact ywalk Q (fun z => absurd z (by decide)) fun _ => hp
          · intro f_bound a_left a_right p tr tn gx sd N' nt s w A g1 g2 g3 g4
            exact g4 (fun v' => 1 = 1 ∧ i_Rel (k + 4) _ v') ⟨rfl, rel_mk (dn := 0) g3 ⟨h1, g2, by omega, by omega, h5⟩⟩ _ rfl
        have no : ∀ {q tr' tn'} {f_bound : Int32} {a_left a_right a_stack : Nat → Int32} {fp : Int32}, r = 0 → YR (xv (uB used) T kd mn pt a_value) id s' → Ext (uB used) p kd tr tn q kd tr' tn' → wpX_finishes (fun r u' => wpY_make (fun r' v' => r' = r ∧ i_Rel (k + 4) u' v') (nI L, nI dn, yf3, s, sv, y1, w, y2, y3, y4, y5, A, y6) (nI x) (nI l)) (used, roots, asked, nI tn', f_bound, fp, 0, nI N, nI L, f_mets, f_classes, nA q, nA kd, nA mn, nA pt, a_value, nA tr', a_left, a_right, a_draft, sd, tx, ty, gx, gy, en, nt, a_oldUsed, a_oldRoots, a_oldAsked, a_oldStands, a_oldTestX, a_oldTestY, a_oldTriggerX, a_oldTriggerY, a_oldEnds, a_oldTrailed, a_oldNoted, a_met, a_classOf, a_finer, a_image, a_seen, a_stack, a_deep, a_company, a_greeted) 0 (nI tn) := by
          intro q tr' tn' f_bound a_left a_right a_stack fp hr hy Ex
          refine xw_fin_no Ex h1 ?_
          rw [t0_e h2]
          exact ywalk _ (fun _ => ⟨rfl, rel_mk (dn := 0) (mid_tr (mid_yr F D hM hy hhi) Ex.2.1) ⟨h1, h2, by omega, by omega, h5⟩⟩) fun z => absurd (hr.symm.trans z) (by decide)
        refine xw_make70 (dr := dr) hdX h4 ?_ 4 0 a_stack (by omega) (by omega) fun i hi => absurd hi (by omega)
        intro a_stack hst
        refine xw_tell (ds := dr) F D hT hx h4 (fun j hj => ⟨hst j hj, hau j hj⟩) (fun k0 => ?_) (fun k0 nm => ?_) (fun k0 mt b q Tc rkc tr' tn' al ar Fq hs Ex => ?_) (fun k0 mt b q tr' tn' al ar np hC Ex => ?_)
        · rcases hto with ⟨_, z, _⟩ | ⟨hr, _, t, hY'⟩ | ⟨_, z, _⟩
          · exact absurd k0 z
          · exact yes (fp := 0) hr (mid_set F D hM hx k0 (Or.inr rfl) h4 hau hY' hhi)
          · exact absurd k0 z
        · rcases hto with ⟨hr, _, _, hY'⟩ | ⟨_, z, _⟩ | ⟨_, _, z, _⟩
          · exact no (fp := 0) hr hY' (ext_0 hT)
          · exact absurd z k0
          · exact absurd z nm
        · rcases hto with ⟨_, _, hc, _⟩ | ⟨_, z, _⟩ | ⟨hr, _, _, _, hst⟩
          · rcases hc with hc | hc
            · exact absurd mt hc
            · exact absurd hc hs.2.1
          · exact absurd z k0
          · obtain ⟨t, hY'⟩ := hst Tc hs
            exact yes (fp := 0) hr (mid_join F D hM Fq hs Ex hY' hhi)
        · rcases hto with ⟨hr, _, _, hY'⟩ | ⟨_, z, _⟩ | ⟨_, _, _, hnc, _⟩
          · exact no (fp := 0) hr hY' Ex
          · exact absurd z k0
          · exact absurd hC hnc
      · unfold wpY_make
        exact yu_t hM hx (br_f (by decide) (yin_t2 (n := 7) (by omega) (by decide) (Exists.intro 4 (yw_make22 (used := used) hdY h4 hu1 hu0 (fun z => absurd ⟨rfl, z⟩ hau) (fun _ => ⟨rfl, I'⟩) 4 0 (by omega) (by omega) fun i hi => absurd hi (by omega)))))
    · refine xw_in_f (N := 8) g1 (by decide) (br_t rfl (Exists.intro 4 (xw_make26 (g0 := 0) hdX h4 (fun z => absurd z (by decide)) (fun _ => ?_) 4 0 0 (by omega) (by omega) (Or.inl rfl) ⟨fun z => absurd z (by decide), fun z => absurd z.1 (by decide)⟩)))
      unfold wpY_make
      exact yu_t hM hx (br_f (by decide) (yin_f2 (n := 7) g2 ⟨rfl, I'⟩))
  · refine xu_f hx (br_t rfl (Exists.intro 4 (xw_make26 (g0 := 0) hdX h4 (fun z => absurd z (by decide)) (fun _ => ?_) 4 0 0 (by omega) (by omega) (Or.inl rfl) ⟨fun z => absurd z (by decide), fun z => absurd z.1 (by decide)⟩)))
    unfold wpY_make
    exact yu_f hM hx (br_t rfl ⟨rfl, I'⟩)
end
section
/-! put -/
theorem yr_drop {U U' : Nat → Prop} {p T rk kd mn pt id : Nat → Nat} {val g g' : Nat → Int32} {z : Nat} (F : Fo U p T rk) (D : XD U p kd mn pt) (hz : z < 48) (hn : ¬ U z) (hU : ∀ x, U' x ↔ U x ∨ x = z) (h : YR (xv U' (un T z z) (un kd z 0) mn pt val) (un id z z) g) (hid : id z = z) (e3 : g' (384 + z) = 0) (eo : ∀ i, i < 432 → i ≠ 384 + z → g' i = g i) : YR (xv U T kd mn pt val) id g' := by
  have W : VW (xv U T kd mn pt val) := xv_W F D
  have W' : VW (xv U' (un T z z) (un kd z 0) mn pt val) := xv_W (fo_take F hz hn hU) (xd_take D hU)
  obtain ⟨h1, h2, h3, h4, h5, h6⟩ := h
  have hTz : ∀ x, U x → T x ≠ z := fun x h q => hn (q ▸ fo_T F h)
  have hxz : ∀ x, U x → x ≠ z := fun x h q => hn (q ▸ h)
  have hT : ∀ x, U x → un T z z x = T x := fun x h => un_n (hxz x h)
  have hK : ∀ x, U x → un kd z 0 (un T z z x) = kd (T x) := fun x h => by rw [hT x h, un_n (hTz x h)]
  have hu : ∀ x, U x → U' x := fun x h => (hU x).2 (Or.inl h)
  have hnt : g (48 + z) = 0 := by
    by_cases q : g (48 + z) = 0
    · exact q
    · have := (h5 z ((hU z).2 (Or.inr rfl)) q).1
      have e : cK (xv U' (un T z z) (un kd z 0) mn pt val) z = 0 := by show un kd z 0 (un T z z z) = 0; rw [un_s, un_s]
      exact absurd e this
  refine ⟨fun x hx => ?_, fun x hx hnx => ?_, fun x hx => ?_, fun x y hx hy => ?_, fun x hx hnx => ?_, fun x hx hk => ?_⟩
  · rw [eo x (by omega) (by omega)]
    have := h1 x hx
    by_cases e : x = z
    · rw [e, un_s] at this; rw [e, hid]; exact this
    · rw [un_n e] at this; exact this
  · have hnx : ¬ U x := hnx
    by_cases e : x = z
    · rw [e, eo _ (by omega) (by omega)]; exact ⟨hid, hnt, e3⟩
    · have := h2 x hx (fun q => (((hU x).1 q).elim hnx e))
      rw [un_n e] at this
      rw [eo _ (by omega) (by omega), eo _ (by omega) (by omega)]; exact this
  · have hx : U x := hx
    have lx := fo_lt F hx
    have ne := hxz x hx
    have q := h3 x (hu x hx)
    rw [un_n ne] at q
    have q3 : U' (id x) := q.2.2.1
    have q4 : un T z z (id x) = un T z z x := q.2.2.2
    rw [hT x hx] at q4
    have nz : id x ≠ z := fun e => hTz x hx (by rw [← q4, e, un_s])
    rw [un_n nz] at q4
    rw [eo _ (by omega) (by omega)]
    exact ⟨q.1, q.2.1, ((hU _).1 q3).resolve_right nz, q4⟩
  · have hx : U x := hx
    have hy : U y := hy
    have q := h4 x y (hu x hx) (hu y hy)
    rw [un_n (hxz x hx), un_n (hxz y hy)] at q
    show id x = id y ↔ T x = T y
    rw [← hT x hx, ← hT y hy]; exact q
  · have hx : U x := hx
    have lx := fo_lt F hx
    have m3 := vw_M W (x := x) hx
    rw [eo _ (by omega) (by omega)] at hnx
    obtain ⟨a, b, d, f, i, j⟩ := h5 x (hu x hx) hnx
    have eM : cM (xv U' (un T z z) (un kd z 0) mn pt val) x = cM (xv U T kd mn pt val) x := by
      rw [xv_M, xv_M, hK x hx, hT x hx]
    have eK : cK (xv U' (un T z z) (un kd z 0) mn pt val) x = cK (xv U T kd mn pt val) x := hK x hx
    have eV : cV (xv U' (un T z z) (un kd z 0) mn pt val) x = cV (xv U T kd mn pt val) x := by rw [xv_V, xv_V, hT x hx]
    rw [eK] at a b d f
    rw [eM] at i j
    rw [eV] at d f
    unfold Tld
    rw [eo _ (by omega) (by omega), eo _ (by omega) (by omega), eo _ (by omega) (by omega), eo _ (by omega) (by omega)]
    refine ⟨a, b, d, f, i, fun k hk => ?_⟩
    obtain ⟨q, q1, q2, q3⟩ := j k hk
    have pU := vw_P W (x := x) hx hk
    have q3 : un T z z q = un T z z (pt (3 * un T z z x + k)) := q3
    rw [hT x hx, hT (pt (3 * T x + k)) pU] at q3
    have qz : q ≠ z := fun e => hTz (pt (3 * T x + k)) pU (by rw [← q3, e, un_s])
    have qU : U q := ((hU q).1 q2).resolve_right qz
    rw [hT q qU] at q3
    exact ⟨q, by rw [eo _ (by omega) (by omega)]; exact q1, qU, q3⟩
  · have hx : U x := hx
    have hk : kd (T x) ≠ 0 := hk
    obtain ⟨u, a, b, d⟩ := h6 x (hu x hx) (by show un kd z 0 (un T z z x) ≠ 0; rw [hK x hx]; exact hk)
    have b : un T z z u = un T z z x := b
    rw [hT x hx] at b
    have uz : u ≠ z := fun e => hTz x hx (by rw [← b, e, un_s])
    have uU : U u := ((hU u).1 a).resolve_right uz
    have lu := fo_lt F uU
    rw [hT u uU] at b
    exact ⟨u, uU, b, by rw [eo _ (by omega) (by omega)]; exact d⟩
theorem used_back {used : Int64} {z : Nat} (hz : z < 48) (hn : ¬ uB used z) : (used ||| ((1 : Int64) <<< ((nI z).toInt64 &&& 63))) &&& (((1 : Int64) <<< ((nI z).toInt64 &&& 63)) ^^^ (-1)) = used := by
  apply bL_ext
  intro x _
  rw [bL_an1 _ (by omega), bL_or1 _ (by omega)]
  by_cases e : z = x
  · subst e
    rw [show bL used z = false from ts_nt hn, decide_eq_true rfl]; rfl
  · rw [decide_eq_false e, Bool.or_false]
    cases bL used x <;> rfl
section
variable {f_used : Int64} {f_roots : Int64} {f_asked : Int64} {f_trailed : Int32} {f_bound : Int32} {f_pairs : Int32} {f_drafted : Int32} {f_noted : Int32} {f_trials : Int32} {f_mets : Int32} {f_classes : Int32} {a_up : Nat → Int32} {a_kind : Nat → Int32} {a_many : Nat → Int32} {a_parts : Nat → Int32} {a_value : Nat → Int32} {a_trail : Nat → Int32} {a_left : Nat → Int32} {a_right : Nat → Int32} {a_draft : Nat → Int32} {a_stands : Nat → Int32} {a_testX : Nat → Int32} {a_testY : Nat → Int32} {a_triggerX : Nat → Int32} {a_triggerY : Nat → Int32} {a_ends : Nat → Int32} {a_notes : Nat → Int32} {a_oldUsed : Nat → Int64} {a_oldRoots : Nat → Int64} {a_oldAsked : Nat → Int64} {a_oldStands : Nat → Int32} {a_oldTestX : Nat → Int32} {a_oldTestY : Nat → Int32} {a_oldTriggerX : Nat → Int32} {a_oldTriggerY : Nat → Int32} {a_oldEnds : Nat → Int32} {a_oldTrailed : Nat → Int32} {a_oldNoted : Nat → Int32} {a_met : Nat → Int32} {a_classOf : Nat → Int32} {a_finer : Nat → Int32} {a_image : Nat → Int32} {a_seen : Nat → Int32} {a_stack : Nat → Int32} {a_deep : Nat → Int32} {a_company : Nat → Int64} {a_greeted : Nat → Int64}
variable {p kd mn pt tr T rk : Nat → Nat} {tn B L : Nat} {used roots asked : Int64} {id : Nat → Nat} {sd tx ty gx gy en nt s s' w sv : Nat → Int32} {N : Nat} {A : Nat → Int64}
theorem mid_un {z : Nat} (h : (Mid L used roots asked p kd mn pt a_value tr tn sd tx ty gx gy en N nt a_oldUsed a_oldRoots a_oldAsked a_oldStands a_oldTestX a_oldTestY a_oldTriggerX a_oldTriggerY a_oldEnds a_oldTrailed a_oldNoted s sv)) (hn : ¬ uB used z) : (Mid L used roots asked (un p z z) (un kd z 0) mn pt a_value tr tn sd tx ty gx gy en N nt a_oldUsed a_oldRoots a_oldAsked a_oldStands a_oldTestX a_oldTestY a_oldTriggerX a_oldTriggerY a_oldEnds a_oldTrailed a_oldNoted s sv) := by
  obtain ⟨hC, hT, hL⟩ := h
  have hxz : ∀ x, uB used x → x ≠ z := fun x h q => hn (q ▸ h)
  refine ⟨core_ag hC (fun x hx => un_n (hxz x hx)) (fun x hx => un_n (hxz x hx)) (fun _ _ _ => ⟨rfl, rfl, fun _ _ => rfl⟩) fun _ _ _ => rfl, ⟨fun j hj => ?_, hT.2⟩, lev_gen hL (fun _ h => h) (Nat.le_refl _) (fun _ _ => rfl) (Nat.le_refl _) (fun t _ x hx => uP_un (hxz x hx)) (fun t _ x hx => uK_un (hxz x hx)) (fun _ _ _ => ⟨rfl, rfl, fun _ _ => rfl⟩) fun _ _ _ => rfl⟩
  rcases hT.1 j hj with ⟨a, b, d⟩ | ⟨x, a, b, d, e⟩
  · exact Or.inl ⟨a, b, by rw [un_n (hxz _ b)]; exact d⟩
  · exact Or.inr ⟨x, a, b, d, by rw [un_n (hxz _ d)]; exact e⟩
end
/-- what the reference does in put behind tellOf -/
def putQ (Q : Int32 → SY → Prop) (y0 yy : Int32) (j z e0 : Nat) : Int32 → SY → Prop := fun r_59 u => match u with
  | (f_trials, f_drafted, f_found, a_s, a_saved, a_draft, a_who, a_met, a_stack, a_fresh, a_deep, a_alike, a_meets) => ∀ a_draft_74 : Nat → Int32, a_draft_74 = upd a_draft 0 y0 → ∀ a_draft_76 : Nat → Int32, a_draft_76 = upd a_draft_74 1 yy → ((r_59 = 2 → (vp_in (568 + nI j) 681 ∧ ∀ a_s_79 : Nat → Int32, a_s_79 = upd a_s (568 + nI j).toNatClampNeg (nI e0) → (vp_in (384 + nI z) 681 ∧ ∀ a_s_81 : Nat → Int32, a_s_81 = upd a_s_79 (384 + nI z).toNatClampNeg 0 → Q r_59 (f_trials, f_drafted, f_found, a_s_81, a_saved, a_draft_76, a_who, a_met, a_stack, a_fresh, a_deep, a_alike, a_meets)))) ∧ (¬ r_59 = 2 → Q r_59 (f_trials, f_drafted, f_found, a_s, a_saved, a_draft_76, a_who, a_met, a_stack, a_fresh, a_deep, a_alike, a_meets)))
theorem draft_back {y1 : Nat → Int32} {a b : Int32} : upd (upd (upd (upd y1 0 a) 1 b) 0 (y1 0)) 1 (y1 1) = y1 := by
  funext i
  by_cases e1 : i = 1
  · rw [e1, pk_us]
  · rw [pk_un e1]
    by_cases e0 : i = 0
    · rw [e0, pk_us]
    · rw [pk_un e0, pk_un e1, pk_un e0]
theorem i_vc_put {k : Nat} {u : SX} {v : SY} (I : i_Rel k u v) (hk : k + 4 ≤ 2048) (v1 : Int32) (v2 : Int32) : wpX_put (fun r u' => wpY_put (fun r' v' => r' = r ∧ i_Rel (k + 4) u' v') v v1 v2) u v1 v2 := by
  refine rel_el (P := fun u v => wpX_put (fun r u' => wpY_put (fun r' v' => r' = r ∧ i_Rel (k + 4) u' v') v v1 v2) u v1 v2) ?_ I
  intro f_bound f_mets f_classes a_value a_left a_right a_draft a_oldUsed a_oldRoots a_oldAsked a_oldStands a_oldTestX a_oldTestY a_oldTriggerX a_oldTriggerY a_oldEnds a_oldTrailed a_oldNoted a_met a_classOf a_finer a_image a_seen a_stack a_deep a_company a_greeted used roots asked p kd mn pt tr tn sd tx ty gx gy en N nt L dn dr yf3 s sv y1 w y2 y3 y4 y5 A y6 hM ⟨h1, h2, h3, h4, h5⟩
  unfold wpX_put
  have I' : i_Rel (k + 4) (used, roots, asked, nI tn, f_bound, 0, nI dn, nI N, nI L, f_mets, f_classes, nA p, nA kd, nA mn, nA pt, a_value, nA tr, a_left, a_right, a_draft, sd, tx, ty, gx, gy, en, nt, a_oldUsed, a_oldRoots, a_oldAsked, a_oldStands, a_oldTestX, a_oldTestY, a_oldTriggerX, a_oldTriggerY, a_oldEnds, a_oldTrailed, a_oldNoted, a_met, a_classOf, a_finer, a_image, a_seen, a_stack, a_deep, a_company, a_greeted) (nI L, nI dn, yf3, s, sv, y1, w, y2, y3, y4, y5, A, y6) := rel_mk hM ⟨h1, h2, by omega, h4, h5⟩
  rcases in_or v1 3 (by decide) with ⟨j, hj, rfl⟩ | ⟨g1, g2⟩
  · refine xw_in_t (N := 4) hj (by decide) (br_f (by decide) ?_)
    obtain ⟨n1, _, n2⟩ := hM.1.2.2.2.2.1 j hj
    rw [cl_n (k := j)]
    refine ⟨in_n hj, ?_⟩
    rcases n2 with ez | ⟨e0, ee, he⟩
    · rw [ez]
      refine br_t m1_neg ?_
      unfold wpY_put
      refine yin_t (n := 3) (by omega) (by decide) ?_
      rw [aL_568, cl_n (k := 568 + j), n1, ez]
      exact ⟨in_n (by omega), br_t m1_neg ⟨rfl, I'⟩⟩
    · have le := mid_lt hM he
      rw [ee]
      refine br_f (nI_nn (by omega)) ?_
      rcases us_or (uB used) v2 with ⟨x, lx, hx, rfl⟩ | hx
      · refine xu_t hM hx (br_f (by decide) (xw_spare fun z hz hlo hz' => ⟨in_n hj, nm_e ?_⟩))
        have yhead : ∀ Q : Int32 → SY → Prop, wpY_spare (fun r_20 => (0 ≤ r_20 → wpY_use (fun u => match u with | (f_trials, f_drafted, f_found, a_s, a_saved, a_draft, a_who, a_met, a_stack, a_fresh, a_deep, a_alike, a_meets) => ∀ x4_49 : Int32, x4_49 = a_draft 0 → ∀ x5_50 : Int32, x5_50 = a_draft 1 → ∀ a_draft_52 : Nat → Int32, a_draft_52 = upd a_draft 0 (nI x) → ∀ a_draft_54 : Nat → Int32, a_draft_54 = upd a_draft_52 1 r_20 → vp_in (568 + nI j) 681 ∧ ∀ x6_56 : Int32, x6_56 = a_s (568 + nI j).toNatClampNeg → vp_in (568 + nI j) 681 ∧ ∀ a_s_58 : Nat → Int32, a_s_58 = upd a_s (568 + nI j).toNatClampNeg r_20 → wpY_tellOf (fun r_59 u => match u with | (g_trials, g_drafted, g_found, b_s, b_saved, b_draft, b_who, b_met, b_stack, b_fresh, b_deep, b_alike, b_meets) => ∀ a_draft_74 : Nat → Int32, a_draft_74 = upd b_draft 0 x4_49 → ∀ a_draft_76 : Nat → Int32, a_draft_76 = upd a_draft_74 1 x5_50 → ((r_59 = 2 → (vp_in (568 + nI j) 681 ∧ ∀ a_s_79 : Nat → Int32, a_s_79 = upd b_s (568 + nI j).toNatClampNeg x6_56 → (vp_in (384 + r_20) 681 ∧ ∀ a_s_81 : Nat → Int32, a_s_81 = upd a_s_79 (384 + r_20).toNatClampNeg 0 → Q r_59 (g_trials, g_drafted, g_found, a_s_81, b_saved, a_draft_76, b_who, b_met, b_stack, b_fresh, b_deep, b_alike, b_meets)))) ∧ (¬ r_59 = 2 → Q r_59 (g_trials, g_drafted, g_found, b_s, b_saved, a_draft_76, b_who, b_met, b_stack, b_fresh, b_deep, b_alike, b_meets)))) (f_trials, f_drafted, f_found, a_s_58, a_saved, a_draft_54, a_who, a_met, a_stack, a_fresh, a_deep, a_alike, a_meets) x6_56 2 0 7 2) (nI L, nI dn, yf3, s, sv, y1, w, y2, y3, y4, y5, A, y6) r_20) ∧ (¬ 0 ≤ r_20 → Q (-2) (nI L, nI dn, yf3, s, sv, y1, w, y2, y3, y4, y5, A, y6))) (nI L, nI dn, yf3, s, sv, y1, w, y2, y3, y4, y5, A, y6) → wpY_put Q (nI L, nI dn, yf3, s, sv, y1, w, y2, y3, y4, y5, A, y6) (nI j) (nI x) := by
          intro Q h
          unfold wpY_put
          refine yin_t (n := 3) (by omega) (by decide) ⟨by rw [aL_568]; exact in_n (by omega), ?_⟩
          have e1 : s ((568 : Int32) + nI j).toNatClampNeg = nI e0 := by rw [aL_568, cl_n (k := 568 + j), n1, ee]
          refine br_f (by rw [e1]; exact nI_nn (by omega)) (yu_t hM hx (br_f (by decide) ?_))
          exact h
        by_cases e48 : z = 48
        · refine br_t (by rw [e48]; rfl) (yhead _ ?_)
          refine yw_spare (fun y hy _ z0 => ?_) (fun _ => br_f (by decide) ⟨rfl, I'⟩)
          rw [mid_u1 hM (hlo y (by omega))] at z0
          exact absurd z0 (by decide)
        · have lz : z < 48 := by omega
          have nz : ¬ uB used z := fun q => by
            have := hz' lz
            rw [show bL used z = true from q] at this
            exact absurd this (by decide)
          have hM' := hM
          obtain ⟨⟨⟨T, rk, id, F, D, Y⟩, m1, m2, m3, m4, m5⟩, hT, hL⟩ := hM'
          have hU : ∀ x, uB (used ||| ((1 : Int64) <<< ((nI z).toInt64 &&& 63))) x ↔ uB used x ∨ x = z := fun x => uB_take lz
          have F1 := fo_take F lz nz hU
          have D1 := xd_take D hU
          have M1 := mid_take hM lz nz
          have M1e := mid_end M1 (v := nI z) hj (Or.inr ⟨z, rfl, (hU z).2 (Or.inr rfl)⟩)
          have uz := useS_z (s := s) lz
          have Y1 : YR (xv (uB (used ||| ((1 : Int64) <<< ((nI z).toInt64 &&& 63)))) (un T z z) (un kd z 0) mn pt a_value) (un id z z) (upd (useS s z) (568 + j) (nI z)) := yr_ag (yr_take F D lz nz hU Y uz.1 uz.2.1 uz.2.2.1 fun i hi a b d => useS_o d a b (by omega) (by omega)) (fun i hi => pk_un (by omega)) (xv_W F1 D1)
          have hds : ∀ i, i < 2 → uB (used ||| ((1 : Int64) <<< ((nI z).toInt64 &&& 63))) ((fun i => if i = 0 then x else z) i) := by
            intro i hi
            show uB _ (if i = 0 then x else z)
            by_cases e : i = 0
            · rw [if_pos e]; exact (hU x).2 (Or.inl hx)
            · rw [if_neg e]; exact (hU z).2 (Or.inr rfl)
          have hyd : ∀ i, i < 2 → upd (upd y1 0 (nI x)) 1 (nI z) i = nI ((fun i => if i = 0 then x else z) i) := by
            intro i hi
            show _ = nI (if i = 0 then x else z)
            by_cases e : i = 0
            · rw [e, if_pos rfl, pk_un (by decide), pk_us]
            · rw [if_neg e, show i = 1 by omega, pk_us]
          have he1 : uB (used ||| ((1 : Int64) <<< ((nI z).toInt64 &&& 63))) e0 := (hU e0).2 (Or.inl he)
          obtain ⟨r, s', ⟨hhi, hto⟩, hyt⟩ := ye_tellOf (f_trials := nI L) (f_drafted := nI dn) (f_found := yf3) (a_s := upd (useS s z) (568 + j) (nI z)) (a_saved := sv) (a_draft := upd (upd y1 0 (nI x)) 1 (nI z)) (a_who := w) (a_met := y2) (a_stack := y3) (a_fresh := y4) (a_deep := y5) (a_alike := A) (a_meets := y6) (x := e0) (w := 2) (n := 2) (ds := fun i => if i = 0 then x else z) (v := 7) F1 D1 Y1 he1 (Or.inr rfl) (by decide) (fun q => absurd q (by decide)) hyd hds
          have ywalk : ∀ Q : Int32 → SY → Prop, (r = 0 → putQ Q (y1 0) (y1 1) j z e0 2 (nI L, nI dn, yf3, s', sv, upd (upd y1 0 (nI x)) 1 (nI z), w, y2, y3, y4, y5, A, y6)) → (r = 1 → wpY_settle (fun u => putQ Q (y1 0) (y1 1) j z e0 1 u) (nI L, nI dn, yf3, s', sv, upd (upd y1 0 (nI x)) 1 (nI z), w, y2, y3, y4, y5, A, y6)) → wpY_put Q (nI L, nI dn, yf3, s, sv, y1, w, y2, y3, y4, y5, A, y6) (nI j) (nI x) := by
            intro Q q0 q1
            refine yhead Q (yw_spare (fun y hy yl y0 => ?_) (fun hall => absurd (mid_u0 hM lz nz) (hall z lz)))
            have : y = z := by
              by_cases a : y < z
              · rw [mid_u1 hM (hlo y a)] at y0
                exact absurd y0 (by decide)
              · by_cases b : z < y
                · exact absurd (mid_u0 hM lz nz) (yl z b)
                · omega
            subst this
            refine br_t (nI_pos' (by omega)) (yw_use lz ?_)
            have e1 : useS s y ((568 : Int32) + nI j).toNatClampNeg = nI e0 := by rw [aL_568, cl_n (k := 568 + j), useS_o (by omega) (by omega) (by omega) (by omega) (by omega), n1, ee]
            have e2 : vp_in (568 + nI j) 681 := by rw [aL_568]; exact in_n (by omega)
            refine nm_e (nm_e (nm_e (nm_e ⟨e2, nmr (nI e0) e1 ⟨e2, nmr (upd (useS s y) (568 + j) (nI y)) (by rw [aL_568, cl_n (k := 568 + j)]) ?_⟩⟩)))
            exact hyt (putQ Q (y1 0) (y1 1) j y e0) q0 q1
          refine br_f (fun q => e48 (nI_inj (b := 48) q)) (xw_take lz ?_)
          refine nmr (upd a_stack 0 (nI x)) (by rw [vb_2 (by omega)]) (nmr (upd (upd a_stack 0 (nI x)) 1 (nI z)) (by rw [vb_2 (by omega)]) ?_)
          have hT1 := M1.2.1
          have hst : ∀ i, i < 2 → upd (upd a_stack 0 (nI x)) 1 (nI z) i = nI ((fun i => if i = 0 then x else z) i) ∧ uB (used ||| ((1 : Int64) <<< ((nI z).toInt64 &&& 63))) ((fun i => if i = 0 then x else z) i) := by
            intro i hi
            refine ⟨?_, hds i hi⟩
            show _ = nI (if i = 0 then x else z)
            by_cases e : i = 0
            · rw [e, if_pos rfl, pk_un (by decide), pk_us]
            · rw [if_neg e, show i = 1 by omega, pk_us]
          have yes : ∀ {p kd mn pt tr tn} {f_bound : Int32} {a_value a_left a_right : Nat → Int32} {v fp : Int32}, r = 1 → (Mid L (used ||| ((1 : Int64) <<< ((nI z).toInt64 &&& 63))) roots asked p kd mn pt a_value tr tn sd tx ty gx gy (upd en j (nI z)) N nt a_oldUsed a_oldRoots a_oldAsked a_oldStands a_oldTestX a_oldTestY a_oldTriggerX a_oldTriggerY a_oldEnds a_oldTrailed a_oldNoted s' sv) → vp_in (nI j) 4 ∧ ∀ a_ends_256, a_ends_256 = upd en j (vp_nar .byte (nI z).toInt8.toInt32) → wX_put_119 (fun r u' => wpY_put (fun r' v' => r' = r ∧ i_Rel (k + 4) u' v') (nI L, nI dn, yf3, s, sv, y1, w, y2, y3, y4, y5, A, y6) (nI j) (nI x)) v 1 (used ||| ((1 : Int64) <<< ((nI z).toInt64 &&& 63))) roots asked (nI tn) f_bound fp (nI dn) (nI N) (nI L) f_mets f_classes (nA p) (nA kd) (nA mn) (nA pt) a_value (nA tr) a_left a_right a_draft sd tx ty gx gy a_ends_256 nt a_oldUsed a_oldRoots a_oldAsked a_oldStands a_oldTestX a_oldTestY a_oldTriggerX a_oldTriggerY a_oldEnds a_oldTrailed a_oldNoted a_met a_classOf a_finer a_image a_seen (upd (upd a_stack 0 (nI x)) 1 (nI z)) a_deep a_company a_greeted := by
            intro p kd mn pt tr tn f_bound a_value a_left a_right v fp hr hm
            refine ⟨in_n hj, nmr (upd en j (nI z)) (by rw [vb_2 (by omega)]) ?_⟩
            subst hr
            refine xy_fin_yes (yf1 := nI L) (yf2 := nI dn) (yf3 := yf3) (y1 := upd (upd y1 0 (nI x)) 1 (nI z)) (y2 := y2) (y3 := y3) (y4 := y4) (y5 := y5) (y6 := y6) (w := w) (A := A) (GY := fun post => ∀ Q : Int32 → SY → Prop, (fun v' => putQ Q (y1 0) (y1 1) j z e0 1 v') = post → wpY_put Q (nI L, nI dn, yf3, s, sv, y1, w, y2, y3, y4, y5, A, y6) (nI j) (nI x)) hm h1 (by omega) (fun post hp Q e => ?_) ?_
            · subst e
              exact ywalk Q (fun q => absurd q (by decide)) fun _ => hp
            · intro f_bound a_left a_right p tr tn gx sd N' nt s w A g1 g2 g3 g4
              refine g4 (fun v' => putQ (fun r' v'' => r' = 1 ∧ i_Rel (k + 4) _ v'') (y1 0) (y1 1) j z e0 1 v') ?_ _ rfl
              refine nm_e (nmr y1 draft_back (br_f (by decide) ⟨rfl, rel_mk g3 ⟨h1, g2, by omega, h4, h5⟩⟩))
          have no : ∀ {q tr' tn'} {f_bound : Int32} {a_left a_right : Nat → Int32} {fp : Int32}, r = 0 → YR (xv (uB (used ||| ((1 : Int64) <<< ((nI z).toInt64 &&& 63)))) (un T z z) (un kd z 0) mn pt a_value) (un id z z) s' → Ext (uB (used ||| ((1 : Int64) <<< ((nI z).toInt64 &&& 63)))) (un p z z) (un kd z 0) tr tn q (un kd z 0) tr' tn' → ∀ f_used_206, f_used_206 = (used ||| ((1 : Int64) <<< ((nI z).toInt64 &&& 63))) &&& (((1 : Int64) <<< ((nI z).toInt64 &&& 63)) ^^^ (-1)) → wX_put_119 (fun r u' => wpY_put (fun r' v' => r' = r ∧ i_Rel (k + 4) u' v') (nI L, nI dn, yf3, s, sv, y1, w, y2, y3, y4, y5, A, y6) (nI j) (nI x)) (nI tn) 0 f_used_206 roots asked (nI tn') f_bound fp (nI dn) (nI N) (nI L) f_mets f_classes (nA q) (nA (un kd z 0)) (nA mn) (nA pt) a_value (nA tr') a_left a_right a_draft sd tx ty gx gy en nt a_oldUsed a_oldRoots a_oldAsked a_oldStands a_oldTestX a_oldTestY a_oldTriggerX a_oldTriggerY a_oldEnds a_oldTrailed a_oldNoted a_met a_classOf a_finer a_image a_seen (upd (upd a_stack 0 (nI x)) 1 (nI z)) a_deep a_company a_greeted := by
            intro q tr' tn' f_bound a_left a_right fp hr hy Ex
            refine nmr used (used_back lz nz) ?_
            refine xw_fin_no (p := un p z z) Ex h1 ?_
            rw [t0_e h2]
            refine ywalk _ (fun _ => ?_) fun q => absurd (hr.symm.trans q) (by decide)
            refine nm_e (nmr y1 draft_back (br_t rfl ⟨by rw [aL_568]; exact in_n (by omega), nmr (upd s' (568 + j) (nI e0)) (by rw [aL_568, cl_n (k := 568 + j)]) ⟨by rw [aL_384]; exact in_n (by omega), nmr (upd (upd s' (568 + j) (nI e0)) (384 + z) 0) (by rw [aL_384, cl_n (k := 384 + z)]) ⟨rfl, ?_⟩⟩⟩))
            have hidz : id z = z := (Y.2.1 z lz nz).1
            have hy2 : YR (xv (uB used) T kd mn pt a_value) id (upd (upd s' (568 + j) (nI e0)) (384 + z) 0) := yr_drop F D lz nz hU hy hidz pk_us fun i hi a => by rw [pk_un a, pk_un (by omega)]
            have hh2 : ∀ i, 432 ≤ i → i < 633 → upd (upd s' (568 + j) (nI e0)) (384 + z) 0 i = s i := by
              intro i a b
              rw [pk_un (by omega)]
              by_cases e : i = 568 + j
              · rw [e, pk_us, n1, ee]
              · rw [pk_un e, hhi i a b, pk_un e]
                by_cases e1 : i = 432 + z
                · rw [e1, uz.2.2.2.1, (m1.2.2.2 z lz).1, b01_f (ts_nt fun q => nz (m1.2.1 z q))]; rfl
                · by_cases e2 : i = 480 + z
                  · rw [e2, uz.2.2.2.2, (m1.2.2.2 z lz).2, b01_f (ts_nt fun q => nz (m1.2.2.1 z q))]; rfl
                  · exact useS_o (by omega) (by omega) (by omega) e1 e2
            exact rel_mk (mid_tr (mid_un (mid_yr F D hM hy2 hh2) nz) Ex.2.1) ⟨h1, h2, by omega, h4, h5⟩
          refine xw_tell (ds := fun i => if i = 0 then x else z) (n := 2) F1 D1 hT1 he1 (by decide) hst (fun k0 => br_f (by decide) ?_) (fun k0 nm => br_t rfl ?_) (fun k0 mt b q Tc rkc tr' tn' al ar Fq hs Ex => br_f (by decide) ?_) (fun k0 mt b q tr' tn' al ar np hC Ex => br_t rfl ?_)
          · rcases hto with ⟨_, q, _⟩ | ⟨hr, _, t, hY'⟩ | ⟨_, q, _⟩
            · exact absurd k0 q
            · exact yes (fp := 0) hr (mid_set F1 D1 M1e he1 k0 (Or.inr rfl) (by decide) hds hY' hhi)
            · exact absurd k0 q
          · rcases hto with ⟨hr, _, _, hY'⟩ | ⟨_, q, _⟩ | ⟨_, _, q, _⟩
            · exact no (fp := 0) hr hY' (ext_0 hT1)
            · exact absurd q k0
            · exact absurd q nm
          · rcases hto with ⟨_, _, hc, _⟩ | ⟨_, q, _⟩ | ⟨hr, _, _, _, hst⟩
            · rcases hc with hc | hc
              · exact absurd mt hc
              · exact absurd hc hs.2.1
            · exact absurd q k0
            · obtain ⟨t, hY'⟩ := hst Tc hs
              exact yes (fp := 0) hr (mid_join F1 D1 M1e Fq hs Ex hY' hhi)
          · rcases hto with ⟨hr, _, _, hY'⟩ | ⟨_, q, _⟩ | ⟨_, _, _, hnc, _⟩
            · exact no (fp := 0) hr hY' Ex
            · exact absurd q k0
            · exact absurd hC hnc
      · refine xu_f hx (br_t rfl ?_)
        unfold wpY_put
        refine yin_t (n := 3) (by omega) (by decide) ?_
        rw [aL_568, cl_n (k := 568 + j), n1, ee]
        exact ⟨in_n (by omega), br_f (nI_nn (by omega)) (yu_f hM hx (br_t rfl ⟨rfl, I'⟩))⟩
  · unfold wpY_put
    exact xw_in_f (N := 4) g1 (by decide) (br_t rfl (yin_f (n := 3) g2 ⟨rfl, I'⟩))
end
section
/-! trials: begin, finish; the constructors -/
theorem ma4 (L j : Nat) : (4 : Int32) * nI L + nI j = nI (4 * L + j) := by rw [show (4 : Int32) = nI 4 from rfl, pk_mul, nI_add]
theorem ma8 (L j : Nat) : (8 : Int32) * nI L + nI j = nI (8 * L + j) := by rw [show (8 : Int32) = nI 8 from rfl, pk_mul, nI_add]
theorem ma633 (L j : Nat) : (633 : Int32) * nI L + nI j = nI (633 * L + j) := by rw [show (633 : Int32) = nI 633 from rfl, pk_mul, nI_add]
/-- a row is copied to a place in another row -/
def Cp (o o0 a : Nat → Int32) (b j : Nat) : Prop := (∀ i, i < j → o (b + i) = a i) ∧ ∀ i, i < b → o i = o0 i
theorem cp_0 {o a : Nat → Int32} {b : Nat} : Cp o o a b 0 := ⟨fun i h => absurd h (by omega), fun _ _ => rfl⟩
theorem cp_s {o o0 a : Nat → Int32} {b j : Nat} (h : Cp o o0 a b j) : Cp (upd o (b + j) (a j)) o0 a b (j + 1) := by
  refine ⟨fun i hi => ?_, fun i hi => ?_⟩
  · by_cases e : i = j
    · rw [e, pk_us]
    · rw [pk_un (by omega)]; exact h.1 i (by omega)
  · rw [pk_un (by omega)]; exact h.2 i hi
/-- a row's first cells are another row's from a place on -/
def Bk (a o : Nat → Int32) (b j : Nat) : Prop := ∀ i, i < j → a i = o (b + i)
theorem bk_0 {a o : Nat → Int32} {b : Nat} : Bk a o b 0 := fun i h => absurd h (by omega)
theorem bk_s {a o : Nat → Int32} {b j : Nat} (h : Bk a o b j) : Bk (upd a j (o (b + j))) o b (j + 1) := by
  intro i hi
  by_cases e : i = j
  · rw [e, pk_us]
  · rw [pk_un e]; exact h i (by omega)
theorem core_pt {used roots asked : Int64} {p kd mn pt : Nat → Nat} {val sd tx ty gx gy en sd' tx' ty' gx' gy' en' nt g g' : Nat → Int32} {N : Nat} (h : Core used roots asked p kd mn pt val sd tx ty gx gy en N nt g) (e1 : ∀ k, k < 8 → sd' k = sd k) (e2 : ∀ k, k < 8 → tx' k = tx k) (e3 : ∀ k, k < 8 → ty' k = ty k) (e4 : ∀ k, k < 8 → gx' k = gx k) (e5 : ∀ k, k < 8 → gy' k = gy k) (e6 : ∀ k, k < 4 → en' k = en k) (eg : ∀ i, i < 633 → g' i = g i) : Core used roots asked p kd mn pt val sd' tx' ty' gx' gy' en' N nt g' := by
  obtain ⟨⟨T, rk, id, F, D, Y⟩, m1, m2, m3, m4, m5⟩ := h
  refine ⟨⟨T, rk, id, F, D, yr_ag Y (fun i hi => eg i (by omega)) (xv_W F D)⟩, mb_ag m1 fun i a b => eg i (by omega), fun k hk => ?_, fun k hk => ?_, fun k hk => ?_, mn_ag m5 fun i a b => eg i (by omega)⟩
  · rw [eg _ (by omega), eg _ (by omega), eg _ (by omega), e1 k hk, e2 k hk, e3 k hk]; exact m2 k hk
  · rw [eg _ (by omega), eg _ (by omega), e4 k hk, e5 k hk]; exact m3 k hk
  · rw [eg _ (by omega), e6 k hk]; exact m4 k hk
section
variable {f_used : Int64} {f_roots : Int64} {f_asked : Int64} {f_trailed : Int32} {f_bound : Int32} {f_pairs : Int32} {f_drafted : Int32} {f_noted : Int32} {f_trials : Int32} {f_mets : Int32} {f_classes : Int32} {a_up : Nat → Int32} {a_kind : Nat → Int32} {a_many : Nat → Int32} {a_parts : Nat → Int32} {a_value : Nat → Int32} {a_trail : Nat → Int32} {a_left : Nat → Int32} {a_right : Nat → Int32} {a_draft : Nat → Int32} {a_stands : Nat → Int32} {a_testX : Nat → Int32} {a_testY : Nat → Int32} {a_triggerX : Nat → Int32} {a_triggerY : Nat → Int32} {a_ends : Nat → Int32} {a_notes : Nat → Int32} {a_oldUsed : Nat → Int64} {a_oldRoots : Nat → Int64} {a_oldAsked : Nat → Int64} {a_oldStands : Nat → Int32} {a_oldTestX : Nat → Int32} {a_oldTestY : Nat → Int32} {a_oldTriggerX : Nat → Int32} {a_oldTriggerY : Nat → Int32} {a_oldEnds : Nat → Int32} {a_oldTrailed : Nat → Int32} {a_oldNoted : Nat → Int32} {a_met : Nat → Int32} {a_classOf : Nat → Int32} {a_finer : Nat → Int32} {a_image : Nat → Int32} {a_seen : Nat → Int32} {a_stack : Nat → Int32} {a_deep : Nat → Int32} {a_company : Nat → Int64} {a_greeted : Nat → Int64}
variable {L : Nat} {os ox oy ogx ogy oe : Nat → Int32}
theorem xw_beg173 {post : Int32 → SX → Prop} (hL : L < 3) (hs : ∀ k, k < 4 → Sm (a_ends k)) (H : ∀ a_oldEnds, Cp a_oldEnds oe a_ends (4 * L) 4 → post f_trials (f_used, f_roots, f_asked, f_trailed, f_bound, f_pairs, f_drafted, f_noted, f_trials, f_mets, f_classes, a_up, a_kind, a_many, a_parts, a_value, a_trail, a_left, a_right, a_draft, a_stands, a_testX, a_testY, a_triggerX, a_triggerY, a_ends, a_notes, a_oldUsed, a_oldRoots, a_oldAsked, a_oldStands, a_oldTestX, a_oldTestY, a_oldTriggerX, a_oldTriggerY, a_oldEnds, a_oldTrailed, a_oldNoted, a_met, a_classOf, a_finer, a_image, a_seen, a_stack, a_deep, a_company, a_greeted)) : ∀ n j a_oldEnds, j ≤ 4 → 4 - j < n → Cp a_oldEnds oe a_ends (4 * L) j → wX_begin_173 post (nI L) f_used f_roots f_asked f_trailed f_bound f_pairs f_drafted f_noted f_trials f_mets f_classes n (nI j) a_up a_kind a_many a_parts a_value a_trail a_left a_right a_draft a_stands a_testX a_testY a_triggerX a_triggerY a_ends a_notes a_oldUsed a_oldRoots a_oldAsked a_oldStands a_oldTestX a_oldTestY a_oldTriggerX a_oldTriggerY a_oldEnds a_oldTrailed a_oldNoted a_met a_classOf a_finer a_image a_seen a_stack a_deep a_company a_greeted := by
  intro n
  induction n with
  | zero => intro j _ _ h; omega
  | succ n ih =>
    intro j a_oldEnds hj hn hc
    by_cases e : j = 4
    · subst e
      exact wh_t (a := 4) (b := 4) (by omega) (H _ hc)
    · refine wh_f (a := 4) (b := j) (by omega) ?_
      rw [ma4, cl_n (k := j), cl_n (k := 4 * L + j), sm_v (hs j (by omega))]
      exact ⟨in_n (by omega), in_n (by omega), nm_e (up1 (ih (j + 1) _ (by omega) (by omega) (cp_s hc)))⟩
theorem xw_beg74 {post : Int32 → SX → Prop} (hL : L < 3) (hs : ∀ k, k < 4 → Sm (a_ends k)) (h8 : ∀ k, k < 8 → Sm (a_stands k) ∧ Sm (a_testX k) ∧ Sm (a_testY k) ∧ Sm (a_triggerX k) ∧ Sm (a_triggerY k)) (H : ∀ a_oldStands a_oldTestX a_oldTestY a_oldTriggerX a_oldTriggerY a_oldEnds, Cp a_oldStands os a_stands (8 * L) 8 → Cp a_oldTestX ox a_testX (8 * L) 8 → Cp a_oldTestY oy a_testY (8 * L) 8 → Cp a_oldTriggerX ogx a_triggerX (8 * L) 8 → Cp a_oldTriggerY ogy a_triggerY (8 * L) 8 → Cp a_oldEnds oe a_ends (4 * L) 4 → post f_trials (f_used, f_roots, f_asked, f_trailed, f_bound, f_pairs, f_drafted, f_noted, f_trials, f_mets, f_classes, a_up, a_kind, a_many, a_parts, a_value, a_trail, a_left, a_right, a_draft, a_stands, a_testX, a_testY, a_triggerX, a_triggerY, a_ends, a_notes, a_oldUsed, a_oldRoots, a_oldAsked, a_oldStands, a_oldTestX, a_oldTestY, a_oldTriggerX, a_oldTriggerY, a_oldEnds, a_oldTrailed, a_oldNoted, a_met, a_classOf, a_finer, a_image, a_seen, a_stack, a_deep, a_company, a_greeted)) : ∀ n j a_oldStands a_oldTestX a_oldTestY a_oldTriggerX a_oldTriggerY, j ≤ 8 → 8 - j < n → Cp a_oldStands os a_stands (8 * L) j → Cp a_oldTestX ox a_testX (8 * L) j → Cp a_oldTestY oy a_testY (8 * L) j → Cp a_oldTriggerX ogx a_triggerX (8 * L) j → Cp a_oldTriggerY ogy a_triggerY (8 * L) j → wX_begin_74 post (nI L) f_used f_roots f_asked f_trailed f_bound f_pairs f_drafted f_noted f_trials f_mets f_classes n (nI j) a_up a_kind a_many a_parts a_value a_trail a_left a_right a_draft a_stands a_testX a_testY a_triggerX a_triggerY a_ends a_notes a_oldUsed a_oldRoots a_oldAsked a_oldStands a_oldTestX a_oldTestY a_oldTriggerX a_oldTriggerY oe a_oldTrailed a_oldNoted a_met a_classOf a_finer a_image a_seen a_stack a_deep a_company a_greeted := by
  intro n
  induction n with
  | zero => intro j _ _ _ _ _ _ h; omega
  | succ n ih =>
    intro j a_oldStands a_oldTestX a_oldTestY a_oldTriggerX a_oldTriggerY hj hn c1 c2 c3 c4 c5
    by_cases e : j = 8
    · subst e
      refine wh_t (a := 8) (b := 8) (by omega) (Exists.intro 5 ?_)
      exact xw_beg173 (oe := oe) hL hs (fun a_oldEnds c6 => H _ _ _ _ _ _ c1 c2 c3 c4 c5 c6) 5 0 oe (by omega) (by omega) cp_0
    · obtain ⟨s1, s2, s3, s4, s5⟩ := h8 j (by omega)
      refine wh_f (a := 8) (b := j) (by omega) ?_
      rw [ma8, cl_n (k := j), cl_n (k := 8 * L + j), sm_v s1, sm_v s2, sm_v s3, sm_v s4, sm_v s5]
      have i1 : vp_in (nI j) 8 := in_n (by omega)
      have i2 : vp_in (nI (8 * L + j)) 24 := in_n (by omega)
      exact ⟨i1, i2, nm_e ⟨i1, i2, nm_e ⟨i1, i2, nm_e ⟨i1, i2, nm_e ⟨i1, i2, nm_e (up1 (ih (j + 1) _ _ _ _ _ (by omega) (by omega) (cp_s c1) (cp_s c2) (cp_s c3) (cp_s c4) (cp_s c5)))⟩⟩⟩⟩⟩
theorem xw_und151 {post : SX → Prop} (hL : L < 3) (hs : ∀ k, k < 4 → Sm (a_oldEnds (4 * L + k))) (H : ∀ a_ends, Bk a_ends a_oldEnds (4 * L) 4 → post (f_used, f_roots, f_asked, f_trailed, f_bound, f_pairs, f_drafted, f_noted, f_trials, f_mets, f_classes, a_up, a_kind, a_many, a_parts, a_value, a_trail, a_left, a_right, a_draft, a_stands, a_testX, a_testY, a_triggerX, a_triggerY, a_ends, a_notes, a_oldUsed, a_oldRoots, a_oldAsked, a_oldStands, a_oldTestX, a_oldTestY, a_oldTriggerX, a_oldTriggerY, a_oldEnds, a_oldTrailed, a_oldNoted, a_met, a_classOf, a_finer, a_image, a_seen, a_stack, a_deep, a_company, a_greeted)) : ∀ n j a_ends, j ≤ 4 → 4 - j < n → Bk a_ends a_oldEnds (4 * L) j → wX_undo_151 post (nI L) f_used f_roots f_asked f_trailed f_bound f_pairs f_drafted f_noted f_trials f_mets f_classes n (nI j) a_up a_kind a_many a_parts a_value a_trail a_left a_right a_draft a_stands a_testX a_testY a_triggerX a_triggerY a_ends a_notes a_oldUsed a_oldRoots a_oldAsked a_oldStands a_oldTestX a_oldTestY a_oldTriggerX a_oldTriggerY a_oldEnds a_oldTrailed a_oldNoted a_met a_classOf a_finer a_image a_seen a_stack a_deep a_company a_greeted := by
  intro n
  induction n with
  | zero => intro j _ _ h; omega
  | succ n ih =>
    intro j a_ends hj hn hc
    by_cases e : j = 4
    · subst e
      exact wh_t (a := 4) (b := 4) (by omega) (H _ hc)
    · refine wh_f (a := 4) (b := j) (by omega) ?_
      rw [ma4, cl_n (k := j), cl_n (k := 4 * L + j), sm_v (hs j (by omega))]
      exact ⟨in_n (by omega), in_n (by omega), nm_e (up1 (ih (j + 1) _ (by omega) (by omega) (bk_s hc)))⟩
theorem xw_und52 {post : SX → Prop} {en : Nat → Int32} (hL : L < 3) (hs : ∀ k, k < 4 → Sm (a_oldEnds (4 * L + k))) (h8 : ∀ k, k < 8 → Sm (a_oldStands (8 * L + k)) ∧ Sm (a_oldTestX (8 * L + k)) ∧ Sm (a_oldTestY (8 * L + k)) ∧ Sm (a_oldTriggerX (8 * L + k)) ∧ Sm (a_oldTriggerY (8 * L + k))) (H : ∀ a_stands a_testX a_testY a_triggerX a_triggerY a_ends, Bk a_stands a_oldStands (8 * L) 8 → Bk a_testX a_oldTestX (8 * L) 8 → Bk a_testY a_oldTestY (8 * L) 8 → Bk a_triggerX a_oldTriggerX (8 * L) 8 → Bk a_triggerY a_oldTriggerY (8 * L) 8 → Bk a_ends a_oldEnds (4 * L) 4 → post (f_used, f_roots, f_asked, f_trailed, f_bound, f_pairs, f_drafted, f_noted, f_trials, f_mets, f_classes, a_up, a_kind, a_many, a_parts, a_value, a_trail, a_left, a_right, a_draft, a_stands, a_testX, a_testY, a_triggerX, a_triggerY, a_ends, a_notes, a_oldUsed, a_oldRoots, a_oldAsked, a_oldStands, a_oldTestX, a_oldTestY, a_oldTriggerX, a_oldTriggerY, a_oldEnds, a_oldTrailed, a_oldNoted, a_met, a_classOf, a_finer, a_image, a_seen, a_stack, a_deep, a_company, a_greeted)) : ∀ n j a_stands a_testX a_testY a_triggerX a_triggerY, j ≤ 8 → 8 - j < n → Bk a_stands a_oldStands (8 * L) j → Bk a_testX a_oldTestX (8 * L) j → Bk a_testY a_oldTestY (8 * L) j → Bk a_triggerX a_oldTriggerX (8 * L) j → Bk a_triggerY a_oldTriggerY (8 * L) j → wX_undo_52 post (nI L) f_used f_roots f_asked f_trailed f_bound f_pairs f_drafted f_noted f_trials f_mets f_classes n (nI j) a_up a_kind a_many a_parts a_value a_trail a_left a_right a_draft a_stands a_testX a_testY a_triggerX a_triggerY en a_notes a_oldUsed a_oldRoots a_oldAsked a_oldStands a_oldTestX a_oldTestY a_oldTriggerX a_oldTriggerY a_oldEnds a_oldTrailed a_oldNoted a_met a_classOf a_finer a_image a_seen a_stack a_deep a_company a_greeted := by
  intro n
  induction n with
  | zero => intro j _ _ _ _ _ _ h; omega
  | succ n ih =>
    intro j a_stands a_testX a_testY a_triggerX a_triggerY hj hn c1 c2 c3 c4 c5
    by_cases e : j = 8
    · subst e
      refine wh_t (a := 8) (b := 8) (by omega) (Exists.intro 5 ?_)
      exact xw_und151 hL hs (fun a_ends c6 => H _ _ _ _ _ _ c1 c2 c3 c4 c5 c6) 5 0 en (by omega) (by omega) bk_0
    · obtain ⟨s1, s2, s3, s4, s5⟩ := h8 j (by omega)
      refine wh_f (a := 8) (b := j) (by omega) ?_
      rw [ma8, cl_n (k := j), cl_n (k := 8 * L + j), sm_v s1, sm_v s2, sm_v s3, sm_v s4, sm_v s5]
      have i1 : vp_in (nI j) 8 := in_n (by omega)
      have i2 : vp_in (nI (8 * L + j)) 24 := in_n (by omega)
      exact ⟨i2, i1, nm_e ⟨i2, i1, nm_e ⟨i2, i1, nm_e ⟨i2, i1, nm_e ⟨i2, i1, nm_e (up1 (ih (j + 1) _ _ _ _ _ (by omega) (by omega) (bk_s c1) (bk_s c2) (bk_s c3) (bk_s c4) (bk_s c5)))⟩⟩⟩⟩⟩
end
section
variable {f_trials : Int32} {f_drafted : Int32} {f_found : Int32} {a_s : Nat → Int32} {a_saved : Nat → Int32} {a_draft : Nat → Int32} {a_who : Nat → Int32} {a_met : Nat → Int32} {a_stack : Nat → Int32} {a_fresh : Nat → Int32} {a_deep : Nat → Int32} {a_alike : Nat → Int64} {a_meets : Nat → Int64}
variable {L : Nat} {sv : Nat → Int32}
theorem yw_beg12 {post : Int32 → SY → Prop} (hL : L < 3) (H : ∀ a_saved, Cp a_saved sv a_s (633 * L) 633 → post (nI (L + 1)) (nI (L + 1), f_drafted, f_found, a_s, a_saved, a_draft, a_who, a_met, a_stack, a_fresh, a_deep, a_alike, a_meets)) : ∀ n j a_saved, j ≤ 633 → 633 - j < n → Cp a_saved sv a_s (633 * L) j → wY_begin_12 post (nI L) f_drafted f_found n (nI j) a_s a_saved a_draft a_who a_met a_stack a_fresh a_deep a_alike a_meets := by
  intro n
  induction n with
  | zero => intro j _ _ h; omega
  | succ n ih =>
    intro j a_saved hj hn hc
    by_cases e : j = 633
    · subst e
      exact wh_t (a := 633) (b := 633) (by omega) (up1 (H _ hc))
    · refine wh_f (a := 633) (b := j) (by omega) ?_
      rw [ma633, cl_n (k := j), cl_n (k := 633 * L + j)]
      exact ⟨in_n (by omega), in_n (by omega), nm_e (up1 (ih (j + 1) _ (by omega) (by omega) (cp_s hc)))⟩
theorem yw_fin21 {post : Int32 → SY → Prop} (hL : L < 3) (H : ∀ a_s, Bk a_s a_saved (633 * L) 633 → post 1 (nI L, f_drafted, f_found, a_s, a_saved, a_draft, a_who, a_met, a_stack, a_fresh, a_deep, a_alike, a_meets)) : ∀ n j a_s, j ≤ 633 → 633 - j < n → Bk a_s a_saved (633 * L) j → wY_finish_21 post 0 (nI L) f_drafted f_found n (nI j) a_s a_saved a_draft a_who a_met a_stack a_fresh a_deep a_alike a_meets := by
  intro n
  induction n with
  | zero => intro j _ _ h; omega
  | succ n ih =>
    intro j a_s hj hn hc
    by_cases e : j = 633
    · subst e
      exact wh_t (a := 633) (b := 633) (by omega) (H _ hc)
    · refine wh_f (a := 633) (b := j) (by omega) (br_t rfl ?_)
      rw [ma633, cl_n (k := j), cl_n (k := 633 * L + j)]
      exact ⟨in_n (by omega), in_n (by omega), nm_e (up1 (ih (j + 1) _ (by omega) (by omega) (bk_s hc)))⟩
end
theorem i_vc_begin {k : Nat} {u : SX} {v : SY} (I : i_Rel k u v) (hk : k + 4 ≤ 2048) : wpX_begin (fun r u' => wpY_begin (fun r' v' => r' = r ∧ i_Rel (k + 4) u' v') v) u := by
  refine rel_el (P := fun u v => wpX_begin (fun r u' => wpY_begin (fun r' v' => r' = r ∧ i_Rel (k + 4) u' v') v) u) ?_ I
  intro f_bound f_mets f_classes a_value a_left a_right a_draft a_oldUsed a_oldRoots a_oldAsked a_oldStands a_oldTestX a_oldTestY a_oldTriggerX a_oldTriggerY a_oldEnds a_oldTrailed a_oldNoted a_met a_classOf a_finer a_image a_seen a_stack a_deep a_company a_greeted used roots asked p kd mn pt tr tn sd tx ty gx gy en N nt L dn dr yf3 s sv y1 w y2 y3 y4 y5 A y6 hM ⟨h1, h2, h3, h4, h5⟩
  unfold wpX_begin
  by_cases e : L = 3
  · refine br_t (by rw [e]; rfl) ?_
    unfold wpY_begin
    exact br_t (by rw [e]; rfl) ⟨rfl, rel_mk hM ⟨h1, h2, by omega, h4, h5⟩⟩
  · have ne : ¬ nI L = 3 := fun z => e (nI_inj (b := 3) z)
    have hL3 : L < 3 := by omega
    have i3 : vp_in (nI L) 3 := in_n hL3
    obtain ⟨hC, hT, ot, on, hL⟩ := hM
    refine br_f ne (up1 ?_)
    rw [cl_n (k := L)]
    refine ⟨i3, nm_e ⟨i3, nm_e ⟨i3, nm_e ⟨i3, nm_e ⟨i3, nm_e (Exists.intro 9 ?_)⟩⟩⟩⟩⟩
    refine xw_beg74 (os := a_oldStands) (ox := a_oldTestX) (oy := a_oldTestY) (ogx := a_oldTriggerX) (ogy := a_oldTriggerY) (oe := a_oldEnds) hL3 (fun k hk => (hC.2.2.2.2.1 k hk).2.1) (fun k hk => ⟨(hC.2.2.1 k hk).2.2.2.2.2.1, (hC.2.2.1 k hk).2.2.2.1, (hC.2.2.1 k hk).2.2.2.2.1, (hC.2.2.2.1 k hk).2.2.1, (hC.2.2.2.1 k hk).2.2.2.1⟩) ?_ 9 0 a_oldStands a_oldTestX a_oldTestY a_oldTriggerX a_oldTriggerY (by omega) (by omega) cp_0 cp_0 cp_0 cp_0 cp_0
    intro os ox oy ogx ogy oe c1 c2 c3 c4 c5 c6
    unfold wpY_begin
    refine br_f ne (Exists.intro 634 (yw_beg12 (sv := sv) hL3 (fun sv' c7 => ?_) 634 0 sv (by omega) (by omega) cp_0))
    refine ⟨rfl, rel_mk (L := L + 1) ⟨hC, hT, (fun m => if m = L then tn else ot m), (fun m => if m = L then N else on m), fun m hm => ?_⟩ ⟨by omega, fun z => absurd z (by omega), by omega, h4, h5⟩⟩
    by_cases em : m = L
    · subst em
      dsimp only
      rw [if_pos rfl, if_pos rfl, pk_us, pk_us, pk_uLs, pk_uLs, pk_uLs, uP_0 (Nat.le_refl _), uK_0 (Nat.le_refl _)]
      refine ⟨rfl, rfl, Nat.le_refl _, Nat.le_refl _, fun x h => h, fun m' hm' => ?_, core_pt hC c1.1 c2.1 c3.1 c4.1 c5.1 c6.1 c7.1, hT⟩
      by_cases e2 : m' = m
      · subst e2
        rw [if_pos rfl, if_pos rfl, pk_uLs]
        exact ⟨Nat.le_refl _, Nat.le_refl _, fun x h => h⟩
      · rw [if_neg e2, if_neg e2, pk_uLn e2]
        have q := hL m' (by omega)
        exact ⟨q.2.2.1, q.2.2.2.1, q.2.2.2.2.1⟩
    · have q := hL m (by omega)
      dsimp only
      rw [if_neg em, if_neg em, pk_un em, pk_un em, pk_uLn em, pk_uLn em, pk_uLn em]
      obtain ⟨q1, q2, q3, q4, q5, q6, q7, q8⟩ := q
      refine ⟨q1, q2, q3, q4, q5, fun m' hm' => ?_, core_pt q7 (fun k hk => c1.2 _ (by omega)) (fun k hk => c2.2 _ (by omega)) (fun k hk => c3.2 _ (by omega)) (fun k hk => c4.2 _ (by omega)) (fun k hk => c5.2 _ (by omega)) (fun k hk => c6.2 _ (by omega)) (fun i hi => c7.2 _ (by omega)), q8⟩
      have e2 : m' ≠ L := by omega
      rw [if_neg e2, if_neg e2, pk_uLn e2]
      exact q6 m' hm'
theorem i_vc_finish {k : Nat} {u : SX} {v : SY} (I : i_Rel k u v) (hk : k + 4 ≤ 2048) (v1 : Int32) : wpX_finish (fun r u' => wpY_finish (fun r' v' => r' = r ∧ i_Rel (k + 4) u' v') v (lw_bz v1)) u (lw_bz v1) := by
  refine rel_el (P := fun u v => wpX_finish (fun r u' => wpY_finish (fun r' v' => r' = r ∧ i_Rel (k + 4) u' v') v (lw_bz v1)) u (lw_bz v1)) ?_ I
  intro f_bound f_mets f_classes a_value a_left a_right a_draft a_oldUsed a_oldRoots a_oldAsked a_oldStands a_oldTestX a_oldTestY a_oldTriggerX a_oldTriggerY a_oldEnds a_oldTrailed a_oldNoted a_met a_classOf a_finer a_image a_seen a_stack a_deep a_company a_greeted used roots asked p kd mn pt tr tn sd tx ty gx gy en N nt L dn dr yf3 s sv y1 w y2 y3 y4 y5 A y6 hM ⟨h1, h2, h3, h4, h5⟩
  unfold wpX_finish
  cases L with
  | zero =>
    refine br_t rfl ?_
    unfold wpY_finish
    exact br_t rfl ⟨rfl, rel_mk (L := 0) hM ⟨h1, h2, by omega, h4, h5⟩⟩
  | succ L =>
    have ne : ¬ nI (L + 1) = 0 := fun z => by have := nI_inj (b := 0) z; omega
    have hL3 : L < 3 := by omega
    have i3 : vp_in (nI L) 3 := in_n hL3
    obtain ⟨hC, hT, ot, on, hL⟩ := hM
    refine br_f ne (nmr (nI L) (nI_pred L) ?_)
    rcases lw_bz_01 v1 with e | e
    · rw [e]
      refine br_t rfl ?_
      obtain ⟨q1, q2, q3, q4, q5, q6, q7, q8⟩ := hL L (by omega)
      have lq := tr_le q8
      unfold wpX_undo
      dsimp only
      rw [cl_n (k := L), q1]
      refine ⟨i3, xw_back hT q3 ?_⟩
      refine ⟨i3, nm_e ⟨i3, nm_e ⟨i3, nm_e ⟨i3, nmr (nI (on L)) q2 (Exists.intro 9 ?_)⟩⟩⟩⟩
      obtain ⟨_, m1, m2, m3, m4, m5⟩ := q7
      have q7 := (hL L (by omega)).2.2.2.2.2.2.1
      refine xw_und52 (en := en) hL3 (fun k hk => (m4 k hk).2.1) (fun k hk => ⟨(m2 k hk).2.2.2.2.2.1, (m2 k hk).2.2.2.1, (m2 k hk).2.2.2.2.1, (m3 k hk).2.2.1, (m3 k hk).2.2.2.1⟩) ?_ 9 0 sd tx ty gx gy (by omega) (by omega) bk_0 bk_0 bk_0 bk_0 bk_0
      intro sd' tx' ty' gx' gy' en' b1 b2 b3 b4 b5 b6
      have last : ∀ s', Bk s' sv (633 * L) 633 → Mid L (a_oldUsed L) (a_oldRoots L) (a_oldAsked L) (uP tr (ot L) tn p) (uK tr (ot L) tn kd) mn pt a_value tr (ot L) sd' tx' ty' gx' gy' en' (on L) nt a_oldUsed a_oldRoots a_oldAsked a_oldStands a_oldTestX a_oldTestY a_oldTriggerX a_oldTriggerY a_oldEnds a_oldTrailed a_oldNoted s' sv := by
        intro s' b7
        refine ⟨core_pt q7 b1 b2 b3 b4 b5 b6 b7, q8, ot, on, fun m hm => ?_⟩
        obtain ⟨w1, w2, w3, w4, w5, w6, w7, w8⟩ := hL m (by omega)
        obtain ⟨z1, z2, z3⟩ := q6 m (by omega)
        refine ⟨w1, w2, z1, z2, z3, w6, ?_, ?_⟩
        · rw [uP_m z1 q3, uK_m z1 q3]; exact w7
        · rw [uP_m z1 q3, uK_m z1 q3]; exact w8
      have yfin : ∀ Q : Int32 → SY → Prop, (∀ s', Bk s' sv (633 * L) 633 → Q 1 (nI L, nI dn, yf3, s', sv, y1, w, y2, y3, y4, y5, A, y6)) → wpY_finish Q (nI (L + 1), nI dn, yf3, s, sv, y1, w, y2, y3, y4, y5, A, y6) 0 := by
        intro Q h
        unfold wpY_finish
        refine br_f ne (nmr (nI L) (nI_pred L) (Exists.intro 634 (yw_fin21 hL3 h 634 0 s (by omega) (by omega) bk_0)))
      by_cases e0 : L = 0
      · refine And.intro (fun _ => yfin _ fun s' b7 => ⟨rfl, ?_⟩) (fun z => absurd (by rw [e0]; rfl) z)
        have := mid_t0 (last s' b7)
        rw [t0, if_pos e0] at this
        exact rel_mk (tn := 0) this ⟨by omega, fun _ => rfl, by omega, h4, h5⟩
      · refine And.intro (fun z => absurd (nI_inj (b := 0) z) e0) (fun _ => yfin _ fun s' b7 => ⟨rfl, ?_⟩)
        exact rel_mk (last s' b7) ⟨by omega, fun z => absurd z e0, by omega, h4, h5⟩
    · rw [e]
      have hM' : (Mid L used roots asked p kd mn pt a_value tr tn sd tx ty gx gy en N nt a_oldUsed a_oldRoots a_oldAsked a_oldStands a_oldTestX a_oldTestY a_oldTriggerX a_oldTriggerY a_oldEnds a_oldTrailed a_oldNoted s sv) := ⟨hC, hT, ot, on, fun m hm => hL m (by omega)⟩
      have yfin : ∀ Q : Int32 → SY → Prop, Q 1 (nI L, nI dn, yf3, s, sv, y1, w, y2, y3, y4, y5, A, y6) → wpY_finish Q (nI (L + 1), nI dn, yf3, s, sv, y1, w, y2, y3, y4, y5, A, y6) 1 := by
        intro Q h
        unfold wpY_finish
        exact br_f ne (nmr (nI L) (nI_pred L) (Exists.intro 1 (wh_f (a := 633) (b := 0) (by omega) (br_f (by decide) h))))
      refine br_f (by decide) ?_
      by_cases e0 : L = 0
      · refine And.intro (fun _ => yfin _ ⟨rfl, ?_⟩) (fun z => absurd (by rw [e0]; rfl) z)
        have := mid_t0 hM'
        rw [t0, if_pos e0] at this
        exact rel_mk (tn := 0) this ⟨by omega, fun _ => rfl, by omega, h4, h5⟩
      · refine And.intro (fun z => absurd (nI_inj (b := 0) z) e0) (fun _ => yfin _ ⟨rfl, ?_⟩)
        exact rel_mk hM' ⟨by omega, fun z => absurd z e0, by omega, h4, h5⟩
end
section
/-! the constructors -/
section
variable {f_used : Int64} {f_roots : Int64} {f_asked : Int64} {f_trailed : Int32} {f_bound : Int32} {f_pairs : Int32} {f_drafted : Int32} {f_noted : Int32} {f_trials : Int32} {f_mets : Int32} {f_classes : Int32} {a_up : Nat → Int32} {a_kind : Nat → Int32} {a_many : Nat → Int32} {a_parts : Nat → Int32} {a_value : Nat → Int32} {a_trail : Nat → Int32} {a_left : Nat → Int32} {a_right : Nat → Int32} {a_draft : Nat → Int32} {a_stands : Nat → Int32} {a_testX : Nat → Int32} {a_testY : Nat → Int32} {a_triggerX : Nat → Int32} {a_triggerY : Nat → Int32} {a_ends : Nat → Int32} {a_notes : Nat → Int32} {a_oldUsed : Nat → Int64} {a_oldRoots : Nat → Int64} {a_oldAsked : Nat → Int64} {a_oldStands : Nat → Int32} {a_oldTestX : Nat → Int32} {a_oldTestY : Nat → Int32} {a_oldTriggerX : Nat → Int32} {a_oldTriggerY : Nat → Int32} {a_oldEnds : Nat → Int32} {a_oldTrailed : Nat → Int32} {a_oldNoted : Nat → Int32} {a_met : Nat → Int32} {a_classOf : Nat → Int32} {a_finer : Nat → Int32} {a_image : Nat → Int32} {a_seen : Nat → Int32} {a_stack : Nat → Int32} {a_deep : Nat → Int32} {a_company : Nat → Int64} {a_greeted : Nat → Int64}
theorem xw_init313 {post : SX → Prop} (H : ∀ a_ends, (∀ i, i < 4 → a_ends i = -1) → post (f_used, f_roots, f_asked, f_trailed, f_bound, f_pairs, f_drafted, f_noted, f_trials, f_mets, f_classes, a_up, a_kind, a_many, a_parts, a_value, a_trail, a_left, a_right, a_draft, a_stands, a_testX, a_testY, a_triggerX, a_triggerY, a_ends, a_notes, a_oldUsed, a_oldRoots, a_oldAsked, a_oldStands, a_oldTestX, a_oldTestY, a_oldTriggerX, a_oldTriggerY, a_oldEnds, a_oldTrailed, a_oldNoted, a_met, a_classOf, a_finer, a_image, a_seen, a_stack, a_deep, a_company, a_greeted)) : ∀ n j a_ends, j ≤ 4 → 4 - j < n → (∀ i, i < j → a_ends i = -1) → wX_init_313 post f_used f_roots f_asked f_trailed f_bound f_pairs f_drafted f_noted f_trials f_mets f_classes n (nI j) a_up a_kind a_many a_parts a_value a_trail a_left a_right a_draft a_stands a_testX a_testY a_triggerX a_triggerY a_ends a_notes a_oldUsed a_oldRoots a_oldAsked a_oldStands a_oldTestX a_oldTestY a_oldTriggerX a_oldTriggerY a_oldEnds a_oldTrailed a_oldNoted a_met a_classOf a_finer a_image a_seen a_stack a_deep a_company a_greeted := by
  intro n
  induction n with
  | zero => intro j _ _ h; omega
  | succ n ih =>
    intro j a_ends hj hn hc
    by_cases e : j = 4
    · subst e
      exact wh_t (a := 4) (b := 4) (by omega) (H _ hc)
    · refine wh_f (a := 4) (b := j) (by omega) ?_
      rw [cl_n (k := j), vb_m1]
      refine ⟨in_n (by omega), nm_e (up1 (ih (j + 1) _ (by omega) (by omega) fun i hi => ?_))⟩
      by_cases z : i = j
      · rw [z, pk_us]
      · rw [pk_un z]; exact hc i (by omega)
theorem xw_init292 {post : SX → Prop} {en : Nat → Int32} (H : ∀ a_triggerX a_ends, (∀ i, i < 8 → a_triggerX i = -1) → (∀ i, i < 4 → a_ends i = -1) → post (f_used, f_roots, f_asked, f_trailed, f_bound, f_pairs, f_drafted, f_noted, f_trials, f_mets, f_classes, a_up, a_kind, a_many, a_parts, a_value, a_trail, a_left, a_right, a_draft, a_stands, a_testX, a_testY, a_triggerX, a_triggerY, a_ends, a_notes, a_oldUsed, a_oldRoots, a_oldAsked, a_oldStands, a_oldTestX, a_oldTestY, a_oldTriggerX, a_oldTriggerY, a_oldEnds, a_oldTrailed, a_oldNoted, a_met, a_classOf, a_finer, a_image, a_seen, a_stack, a_deep, a_company, a_greeted)) : ∀ n j a_triggerX, j ≤ 8 → 8 - j < n → (∀ i, i < j → a_triggerX i = -1) → wX_init_292 post f_used f_roots f_asked f_trailed f_bound f_pairs f_drafted f_noted f_trials f_mets f_classes n (nI j) a_up a_kind a_many a_parts a_value a_trail a_left a_right a_draft a_stands a_testX a_testY a_triggerX a_triggerY en a_notes a_oldUsed a_oldRoots a_oldAsked a_oldStands a_oldTestX a_oldTestY a_oldTriggerX a_oldTriggerY a_oldEnds a_oldTrailed a_oldNoted a_met a_classOf a_finer a_image a_seen a_stack a_deep a_company a_greeted := by
  intro n
  induction n with
  | zero => intro j _ _ h; omega
  | succ n ih =>
    intro j a_triggerX hj hn hc
    by_cases e : j = 8
    · subst e
      exact wh_t (a := 8) (b := 8) (by omega) (Exists.intro 5 (xw_init313 (fun a_ends h => H _ a_ends hc h) 5 0 en (by omega) (by omega) fun i hi => absurd hi (by omega)))
    · refine wh_f (a := 8) (b := j) (by omega) ?_
      rw [cl_n (k := j), vb_m1]
      refine ⟨in_n (by omega), nm_e (up1 (ih (j + 1) _ (by omega) (by omega) fun i hi => ?_))⟩
      by_cases z : i = j
      · rw [z, pk_us]
      · rw [pk_un z]; exact hc i (by omega)
end
def YI (a_s : Nat → Int32) (i j l : Nat) : Prop := (∀ x, x < i → a_s x = nI x) ∧ (∀ x, x < j → a_s (552 + x) = -1) ∧ (∀ x, x < l → a_s (568 + x) = -1) ∧ ∀ x, 48 ≤ x → (x < 552 ∨ (560 ≤ x ∧ x < 568) ∨ 572 ≤ x) → a_s x = 0
section
variable {f_trials : Int32} {f_drafted : Int32} {f_found : Int32} {a_s : Nat → Int32} {a_saved : Nat → Int32} {a_draft : Nat → Int32} {a_who : Nat → Int32} {a_met : Nat → Int32} {a_stack : Nat → Int32} {a_fresh : Nat → Int32} {a_deep : Nat → Int32} {a_alike : Nat → Int64} {a_meets : Nat → Int64}
theorem yw_init136 {post : SY → Prop} (H : ∀ a_s, YI a_s 48 8 4 → post (f_trials, f_drafted, f_found, a_s, a_saved, a_draft, a_who, a_met, a_stack, a_fresh, a_deep, a_alike, a_meets)) : ∀ n j a_s, j ≤ 4 → 4 - j < n → YI a_s 48 8 j → wY_init_136 post f_trials f_drafted f_found n (nI j) a_s a_saved a_draft a_who a_met a_stack a_fresh a_deep a_alike a_meets := by
  intro n
  induction n with
  | zero => intro j _ _ h; omega
  | succ n ih =>
    intro j a_s hj hn hc
    by_cases e : j = 4
    · subst e
      exact wh_t (a := 4) (b := 4) (by omega) (H _ hc)
    · refine wh_f (a := 4) (b := j) (by omega) ?_
      rw [aL_568, cl_n (k := 568 + j)]
      refine ⟨in_n (by omega), nm_e (up1 (ih (j + 1) _ (by omega) (by omega) ⟨fun x hx => by rw [pk_un (by omega)]; exact hc.1 x hx, fun x hx => by rw [pk_un (by omega)]; exact hc.2.1 x hx, fun x hx => ?_, fun x h1 h2 => by rw [pk_un (by omega)]; exact hc.2.2.2 x h1 h2⟩))⟩
      by_cases z : x = j
      · rw [z, pk_us]
      · rw [pk_un (by omega)]; exact hc.2.2.1 x (by omega)
theorem yw_init111 {post : SY → Prop} (H : ∀ a_s, YI a_s 48 8 4 → post (f_trials, f_drafted, f_found, a_s, a_saved, a_draft, a_who, a_met, a_stack, a_fresh, a_deep, a_alike, a_meets)) : ∀ n j a_s, j ≤ 8 → 8 - j < n → YI a_s 48 j 0 → wY_init_111 post f_trials f_drafted f_found n (nI j) a_s a_saved a_draft a_who a_met a_stack a_fresh a_deep a_alike a_meets := by
  intro n
  induction n with
  | zero => intro j _ _ h; omega
  | succ n ih =>
    intro j a_s hj hn hc
    by_cases e : j = 8
    · subst e
      exact wh_t (a := 8) (b := 8) (by omega) (Exists.intro 5 (yw_init136 H 5 0 _ (by omega) (by omega) hc))
    · refine wh_f (a := 8) (b := j) (by omega) ?_
      rw [aL_552, cl_n (k := 552 + j)]
      refine ⟨in_n (by omega), nm_e (up1 (ih (j + 1) _ (by omega) (by omega) ⟨fun x hx => by rw [pk_un (by omega)]; exact hc.1 x hx, fun x hx => ?_, fun x hx => absurd hx (by omega), fun x h1 h2 => by rw [pk_un (by omega)]; exact hc.2.2.2 x h1 h2⟩))⟩
      by_cases z : x = j
      · rw [z, pk_us]
      · rw [pk_un (by omega)]; exact hc.2.1 x (by omega)
theorem yw_init88 {post : SY → Prop} (H : ∀ a_s, YI a_s 48 8 4 → post (f_trials, f_drafted, f_found, a_s, a_saved, a_draft, a_who, a_met, a_stack, a_fresh, a_deep, a_alike, a_meets)) : ∀ n j a_s, j ≤ 48 → 48 - j < n → YI a_s j 0 0 → wY_init_88 post f_trials f_drafted f_found n (nI j) a_s a_saved a_draft a_who a_met a_stack a_fresh a_deep a_alike a_meets := by
  intro n
  induction n with
  | zero => intro j _ _ h; omega
  | succ n ih =>
    intro j a_s hj hn hc
    by_cases e : j = 48
    · subst e
      exact wh_t (a := 48) (b := 48) (by omega) (Exists.intro 9 (yw_init111 H 9 0 _ (by omega) (by omega) hc))
    · refine wh_f (a := 48) (b := j) (by omega) ?_
      rw [aL_0, cl_n (k := j)]
      refine ⟨in_n (by omega), nm_e (up1 (ih (j + 1) _ (by omega) (by omega) ⟨fun x hx => ?_, fun x hx => absurd hx (by omega), fun x hx => absurd hx (by omega), fun x h1 h2 => by rw [pk_un (by omega)]; exact hc.2.2.2 x h1 h2⟩))⟩
      by_cases z : x = j
      · rw [z, pk_us]
      · rw [pk_un z]; exact hc.1 x (by omega)
end
theorem i_vc0 : wpX_init (fun u => wpY_init (fun v => i_Rel 0 u v)) := by
  refine Exists.intro 9 (xw_init292 (fun gx en hg he => ?_) 9 0 (fun _ => 0) (by omega) (by omega) fun i hi => absurd hi (by omega))
  refine Exists.intro 49 (yw_init88 (fun s hs => ?_) 49 0 (fun _ => 0) (by omega) (by omega) ⟨fun x hx => absurd hx (by omega), fun x hx => absurd hx (by omega), fun x hx => absurd hx (by omega), fun x _ _ => rfl⟩)
  obtain ⟨s1, s2, s3, s4⟩ := hs
  have n0 : ∀ x, ¬ uB 0 x := fun x h => by
    have h : bL 0 x = true := h
    rw [bL_0] at h; exact absurd h (by decide)
  refine rel_mk (p := fun _ => 0) (kd := fun _ => 0) (mn := fun _ => 0) (pt := fun _ => 0) (tr := fun _ => 0) (tn := 0) (N := 0) (L := 0) (dn := 0) (dr := fun _ => 0) ⟨⟨⟨fun x => x, fun _ => 0, fun x => x, fun x h => absurd h (n0 x), fun x h => absurd h (n0 x), ?_⟩, ⟨fun x h => absurd h (n0 x), fun x h => absurd h (n0 x), fun x h => absurd h (n0 x), fun x hx => ?_⟩, fun k hk => ?_, fun k hk => ?_, fun k hk => ?_, s4 572 (by omega) (by omega), fun k hk => absurd hk (by omega)⟩, ⟨fun j hj => absurd hj (by omega), fun i j hi => absurd hi (by omega)⟩, fun _ => 0, fun _ => 0, fun m hm => absurd hm (by omega)⟩ ⟨by omega, fun _ => rfl, by omega, by omega, fun j hj => ⟨rfl, rfl, show 0 < 48 by decide⟩⟩
  · exact ⟨fun x hx => ⟨s1 x hx, hx⟩, fun x hx _ => ⟨rfl, s4 _ (by omega) (by omega), s4 _ (by omega) (by omega)⟩, fun x h => absurd h (n0 x), fun x y h => absurd h (n0 x), fun x h => absurd h (n0 x), fun x h => absurd h (n0 x)⟩
  · rw [s4 _ (by omega) (by omega), s4 _ (by omega) (by omega), bL_0]
    exact ⟨rfl, rfl⟩
  · refine ⟨s4 _ (by omega) (by omega), s4 _ (by omega) (by omega), s4 _ (by omega) (by omega), sm_n (k := 0) (by decide), sm_n (k := 0) (by decide), sm_n (k := 0) (by decide), fun z => absurd (show (0 : Int32) = 3 from z) (by decide)⟩
  · rw [hg k hk]
    exact ⟨s2 k hk, s4 _ (by omega) (by omega), sm_m, sm_n (k := 0) (by decide), Or.inl rfl⟩
  · rw [he k hk]
    exact ⟨s3 k hk, sm_m, Or.inl rfl⟩
end
section
/-! looking: same, state; counts -/
theorem cnB_mono {f : Nat → Bool} {a b : Nat} (h : a ≤ b) : cnB f a ≤ cnB f b := by
  obtain ⟨d, rfl⟩ : ∃ d, b = a + d := ⟨b - a, by omega⟩
  clear h
  induction d with
  | zero => exact Nat.le_refl _
  | succ d ih =>
    have : cnB f (a + (d + 1)) = cnB f (a + d) + b01 (f (a + d)) := rfl
    omega
theorem cnB_lt {f : Nat → Bool} {a b : Nat} (h : a < b) (hf : f a = true) : cnB f a < cnB f b := by
  have h1 : cnB f (a + 1) = cnB f a + b01 (f a) := rfl
  have h2 := cnB_mono (f := f) (a := a + 1) (b := b) h
  rw [b01_t hf] at h1
  omega
theorem cnB_enum {f : Nat → Bool} : ∀ n i, i < cnB f n → ∃ x, x < n ∧ f x = true ∧ cnB f x = i
  | 0, i, h => absurd (show i < 0 from h) (by omega)
  | n + 1, i, h => by
    by_cases e : i < cnB f n
    · obtain ⟨x, a, b, c⟩ := cnB_enum n i e
      exact ⟨x, by omega, b, c⟩
    · have h : i < cnB f n + b01 (f n) := h
      by_cases z : f n = true
      · rw [b01_t z] at h
        exact ⟨n, by omega, z, by omega⟩
      · rw [b01_f (ts_nt z)] at h
        omega
theorem cnB_inj {f g : Nat → Bool} {n m : Nat} {φ : Nat → Nat} (h : ∀ x, x < n → f x = true → φ x < m ∧ g (φ x) = true) (hi : ∀ x y, x < n → y < n → f x = true → f y = true → φ x = φ y → x = y) : cnB f n ≤ cnB g m := by
  have he : ∀ i, ∃ x, i < cnB f n → x < n ∧ f x = true ∧ cnB f x = i := by
    intro i
    by_cases e : i < cnB f n
    · obtain ⟨x, hx⟩ := cnB_enum n i e
      exact ⟨x, fun _ => hx⟩
    · exact ⟨0, fun z => absurd z e⟩
  have hE := fun i => Classical.choose_spec (he i)
  refine inj_le (cnB f n) (cnB g m) (fun i => cnB g (φ (Classical.choose (he i)))) (fun i hin => ?_) (fun i j hin hjn e => ?_)
  · obtain ⟨a, b, _⟩ := hE i hin
    exact cnB_lt (h _ a b).1 (h _ a b).2
  · obtain ⟨a, b, c⟩ := hE i hin
    obtain ⟨a', b', c'⟩ := hE j hjn
    have e : cnB g (φ (Classical.choose (he i))) = cnB g (φ (Classical.choose (he j))) := e
    have q : φ (Classical.choose (he i)) = φ (Classical.choose (he j)) := by
      by_cases z : φ (Classical.choose (he i)) < φ (Classical.choose (he j))
      · have := cnB_lt (f := g) z (h _ a b).2; omega
      · by_cases z2 : φ (Classical.choose (he j)) < φ (Classical.choose (he i))
        · have := cnB_lt (f := g) z2 (h _ a' b').2; omega
        · omega
    have := hi _ _ a a' b b' q
    rw [← c, ← c', this]
theorem cnB_cut {f : Nat → Bool} {a : Nat} : ∀ d, (∀ i, a ≤ i → i < a + d → f i = false) → cnB f (a + d) = cnB f a
  | 0, _ => rfl
  | d + 1, h => by
    have ih := cnB_cut d fun i h1 h2 => h i h1 (by omega)
    have : cnB f (a + (d + 1)) = cnB f (a + d) + b01 (f (a + d)) := rfl
    rw [this, ih, b01_f (h (a + d) (by omega) (by omega))]
    rfl
section
variable {f_used : Int64} {f_roots : Int64} {f_asked : Int64} {f_trailed : Int32} {f_bound : Int32} {f_pairs : Int32} {f_drafted : Int32} {f_noted : Int32} {f_trials : Int32} {f_mets : Int32} {f_classes : Int32} {a_up : Nat → Int32} {a_kind : Nat → Int32} {a_many : Nat → Int32} {a_parts : Nat → Int32} {a_value : Nat → Int32} {a_trail : Nat → Int32} {a_left : Nat → Int32} {a_right : Nat → Int32} {a_draft : Nat → Int32} {a_stands : Nat → Int32} {a_testX : Nat → Int32} {a_testY : Nat → Int32} {a_triggerX : Nat → Int32} {a_triggerY : Nat → Int32} {a_ends : Nat → Int32} {a_notes : Nat → Int32} {a_oldUsed : Nat → Int64} {a_oldRoots : Nat → Int64} {a_oldAsked : Nat → Int64} {a_oldStands : Nat → Int32} {a_oldTestX : Nat → Int32} {a_oldTestY : Nat → Int32} {a_oldTriggerX : Nat → Int32} {a_oldTriggerY : Nat → Int32} {a_oldEnds : Nat → Int32} {a_oldTrailed : Nat → Int32} {a_oldNoted : Nat → Int32} {a_met : Nat → Int32} {a_classOf : Nat → Int32} {a_finer : Nat → Int32} {a_image : Nat → Int32} {a_seen : Nat → Int32} {a_stack : Nat → Int32} {a_deep : Nat → Int32} {a_company : Nat → Int64} {a_greeted : Nat → Int64}
variable {p kd mn pt tr T rk : Nat → Nat} {tn : Nat} {used : Int64}
theorem xw_same18 {post : Int32 → Prop} {x l : Nat} (F : Fo (uB used) p T rk) (hx : uB used x) (hl : uB used l) (el : T l = T x) (hm : ∀ y, y < l → uB used y → ¬ T y = T x) (hp : post (nI l)) : ∀ n y, y ≤ l → l - y < n → wX_same_18 post (nI (T x)) used f_roots f_asked (nI tn) f_bound f_pairs f_drafted f_noted f_trials f_mets f_classes (nA p) (nA kd) (nA mn) (nA pt) a_value (nA tr) a_left a_right a_draft a_stands a_testX a_testY a_triggerX a_triggerY a_ends a_notes a_oldUsed a_oldRoots a_oldAsked a_oldStands a_oldTestX a_oldTestY a_oldTriggerX a_oldTriggerY a_oldEnds a_oldTrailed a_oldNoted a_met a_classOf a_finer a_image a_seen a_stack a_deep a_company a_greeted n (nI y) := by
  have ll := fo_lt F hl
  have lx := fo_lt F (fo_T F hx)
  intro n
  induction n with
  | zero => intro y _ h; omega
  | succ n ih =>
    intro y hy hn
    unfold wX_same_18
    by_cases e : y = l
    · subst e
      exact xw_us_t (by omega) hl (br_f (by decide) (xw_top F hl (br_t (by rw [el]) hp)))
    · by_cases hu : uB used y
      · have ly := fo_lt F (fo_T F hu)
        exact xw_us_t (by omega) hu (br_f (by decide) (xw_top F hu (br_f (fun z => hm y (by omega) hu (nI_inj z)) (up1 (ih (y + 1) (by omega) (by omega))))))
      · refine xw_us_f (fun k hk e => ?_) (br_t rfl (up1 (ih (y + 1) (by omega) (by omega))))
        have : y = k := nI_inj e
        rw [← this]; exact ts_nt hu
theorem xw_same {post : Int32 → Prop} {x l : Nat} (F : Fo (uB used) p T rk) (hx : uB used x) (hl : uB used l) (el : T l = T x) (hm : ∀ y, y < l → uB used y → ¬ T y = T x) (hp : post (nI l)) : wpX_same post (used, f_roots, f_asked, nI tn, f_bound, f_pairs, f_drafted, f_noted, f_trials, f_mets, f_classes, nA p, nA kd, nA mn, nA pt, a_value, nA tr, a_left, a_right, a_draft, a_stands, a_testX, a_testY, a_triggerX, a_triggerY, a_ends, a_notes, a_oldUsed, a_oldRoots, a_oldAsked, a_oldStands, a_oldTestX, a_oldTestY, a_oldTriggerX, a_oldTriggerY, a_oldEnds, a_oldTrailed, a_oldNoted, a_met, a_classOf, a_finer, a_image, a_seen, a_stack, a_deep, a_company, a_greeted) (nI x) := by
  unfold wpX_same
  exact xw_us_t (fo_lt F hx) hx (br_f (by decide) (xw_top F hx (Exists.intro (l + 1) (xw_same18 F hx hl el hm hp (l + 1) 0 (by omega) (by omega)))))
theorem xw_state46 {post : Int32 → Prop} {w : Nat} {f : Nat → Bool} (hw : w = 1 ∨ w = 2) (hp48 : ∀ x, uB used x → p x < 48) (hk : ∀ x, uB used x → p x = x → kd x ≤ 2) (hf : ∀ x, x < 48 → (f x = true ↔ (uB used x ∧ p x = x ∧ (w = 1 ∨ kd x = 0)))) (hp : post (nI (cnB f 48))) : ∀ n x, x ≤ 48 → 48 - x < n → wX_state_46 post (nI w) used f_roots f_asked (nI tn) f_bound f_pairs f_drafted f_noted f_trials f_mets f_classes (nA p) (nA kd) (nA mn) (nA pt) a_value (nA tr) a_left a_right a_draft a_stands a_testX a_testY a_triggerX a_triggerY a_ends a_notes a_oldUsed a_oldRoots a_oldAsked a_oldStands a_oldTestX a_oldTestY a_oldTriggerX a_oldTriggerY a_oldEnds a_oldTrailed a_oldNoted a_met a_classOf a_finer a_image a_seen a_stack a_deep a_company a_greeted n (nI (cnB f x)) (nI x) := by
  intro n
  induction n with
  | zero => intro x _ h; omega
  | succ n ih =>
    intro x hx hn
    by_cases e : x = 48
    · subst e
      exact wh_t (a := 48) (b := 48) (by omega) hp
    · have lx : x < 48 := by omega
      have hs : cnB f (x + 1) = cnB f x + b01 (f x) := rfl
      have yes : f x = true → wX_state_46 post (nI w) used f_roots f_asked (nI tn) f_bound f_pairs f_drafted f_noted f_trials f_mets f_classes (nA p) (nA kd) (nA mn) (nA pt) a_value (nA tr) a_left a_right a_draft a_stands a_testX a_testY a_triggerX a_triggerY a_ends a_notes a_oldUsed a_oldRoots a_oldAsked a_oldStands a_oldTestX a_oldTestY a_oldTriggerX a_oldTriggerY a_oldEnds a_oldTrailed a_oldNoted a_met a_classOf a_finer a_image a_seen a_stack a_deep a_company a_greeted n (nI (cnB f x + 1)) (nI (x + 1)) := by
        intro z
        have := ih (x + 1) (by omega) (by omega)
        rw [hs, b01_t z] at this
        exact this
      have no : ¬ f x = true → wX_state_46 post (nI w) used f_roots f_asked (nI tn) f_bound f_pairs f_drafted f_noted f_trials f_mets f_classes (nA p) (nA kd) (nA mn) (nA pt) a_value (nA tr) a_left a_right a_draft a_stands a_testX a_testY a_triggerX a_triggerY a_ends a_notes a_oldUsed a_oldRoots a_oldAsked a_oldStands a_oldTestX a_oldTestY a_oldTriggerX a_oldTriggerY a_oldEnds a_oldTrailed a_oldNoted a_met a_classOf a_finer a_image a_seen a_stack a_deep a_company a_greeted n (nI (cnB f x)) (nI (x + 1)) := by
        intro z
        have := ih (x + 1) (by omega) (by omega)
        rw [hs, b01_f (ts_nt z)] at this
        exact this
      refine wh_f (a := 48) (b := x) (by omega) ?_
      by_cases hu : uB used x
      · refine xw_us_t lx hu (br_f (by decide) ?_)
        have lp := hp48 x hu
        rw [cl_n (k := x), nA_e, nA_e]
        refine ⟨in_n lx, ?_⟩
        by_cases ep : p x = x
        · have lk := hk x hu ep
          refine br_t (by rw [ep]) ?_
          by_cases ew : w = 1
          · exact br_t (by rw [ew]; rfl) (up1 (up1 (yes ((hf x lx).2 ⟨hu, ep, Or.inl ew⟩))))
          · refine br_f (fun z => ew (nI_inj (b := 1) z)) ⟨in_n lx, br_c (fun z => up1 (up1 (yes ((hf x lx).2 ⟨hu, ep, Or.inr (nI_inj (b := 0) z)⟩)))) fun z => up1 (no fun q => ?_)⟩
            rcases ((hf x lx).1 q).2.2 with q | q
            · exact ew q
            · exact z (by rw [q]; rfl)
        · exact br_f (fun z => ep (nI_inj z)) (up1 (no fun q => ep ((hf x lx).1 q).2.1))
      · refine xw_us_f (fun k hk e => ?_) (br_t rfl (up1 (no fun q => hu ((hf x lx).1 q).1)))
        have : x = k := nI_inj e
        rw [← this]; exact ts_nt hu
end
section
variable {f_trials : Int32} {f_drafted : Int32} {f_found : Int32} {a_s : Nat → Int32} {a_saved : Nat → Int32} {a_draft : Nat → Int32} {a_who : Nat → Int32} {a_met : Nat → Int32} {a_stack : Nat → Int32} {a_fresh : Nat → Int32} {a_deep : Nat → Int32} {a_alike : Nat → Int64} {a_meets : Nat → Int64}
variable {c : Vw} {id : Nat → Nat}
theorem yw_state46 {post : Int32 → SY → Prop} (W : VW c) (hY : YR c id a_s) (hw : Who c a_s a_who) {w : Nat} {f : Nat → Bool} (hw2 : w ≤ 2) (hf : ∀ x, x < 48 → (f x = true ↔ (cU c x ∧ (w = 0 ∨ (id x = x ∧ (w = 1 ∨ cK c x = 0)))))) (hp : post (nI (cnB f 48)) (f_trials, f_drafted, f_found, a_s, a_saved, a_draft, a_who, a_met, a_stack, a_fresh, a_deep, a_alike, a_meets)) : ∀ n x, x ≤ 48 → 48 - x < n → wY_state_46 post (nI w) f_trials f_drafted f_found a_s a_saved a_draft a_who a_met a_stack a_fresh a_deep a_alike a_meets n (nI (cnB f x)) (nI x) := by
  intro n
  induction n with
  | zero => intro x _ h; omega
  | succ n ih =>
    intro x hx hn
    by_cases e : x = 48
    · subst e
      exact wh_t (a := 48) (b := 48) (by omega) hp
    · have lx : x < 48 := by omega
      have hs : cnB f (x + 1) = cnB f x + b01 (f x) := rfl
      have yes : f x = true → wY_state_46 post (nI w) f_trials f_drafted f_found a_s a_saved a_draft a_who a_met a_stack a_fresh a_deep a_alike a_meets n (nI (cnB f x + 1)) (nI (x + 1)) := by
        intro z
        have := ih (x + 1) (by omega) (by omega)
        rw [hs, b01_t z] at this
        exact this
      have no : ¬ f x = true → wY_state_46 post (nI w) f_trials f_drafted f_found a_s a_saved a_draft a_who a_met a_stack a_fresh a_deep a_alike a_meets n (nI (cnB f x)) (nI (x + 1)) := by
        intro z
        have := ih (x + 1) (by omega) (by omega)
        rw [hs, b01_f (ts_nt z)] at this
        exact this
      refine wh_f (a := 48) (b := x) (by omega) ?_
      rw [aL_384, aL_0, cl_n (k := 384 + x), cl_n (k := x), (hY.1 x lx).1]
      have li := (hY.1 x lx).2
      refine ⟨in_n (by omega), ?_⟩
      by_cases hu : cU c x
      · refine br_t (hY.2.2.1 x hu).1 ?_
        by_cases e0 : w = 0
        · exact br_t (by rw [e0]; rfl) (up1 (up1 (yes ((hf x lx).2 ⟨hu, Or.inl e0⟩))))
        · refine br_f (fun z => e0 (nI_inj (b := 0) z)) ⟨in_n (by omega), ?_⟩
          by_cases ei : id x = x
          · refine br_t (by rw [ei]) ?_
            by_cases e1 : w = 1
            · exact br_t (by rw [e1]; rfl) (up1 (up1 (yes ((hf x lx).2 ⟨hu, Or.inr ⟨ei, Or.inl e1⟩⟩))))
            · refine br_f (fun z => e1 (nI_inj (b := 1) z)) ⟨in_n lx, ?_⟩
              by_cases k0 : cK c x = 0
              · rw [hw.2.1 x hu k0]
                exact br_f m1_n0 (up1 (up1 (yes ((hf x lx).2 ⟨hu, Or.inr ⟨ei, Or.inr k0⟩⟩))))
              · obtain ⟨v, ev, hv, _⟩ := hw.1 x hu k0
                have lv := vw_lt W hv
                rw [ev]
                refine br_t (nI_pos' (by omega)) (up1 (no fun q => ?_))
                rcases ((hf x lx).1 q).2 with q | ⟨_, q | q⟩
                · exact e0 q
                · exact e1 q
                · exact k0 q
          · refine br_f (fun z => ei (nI_inj z)) (up1 (no fun q => ?_))
            rcases ((hf x lx).1 q).2 with q | ⟨q, _⟩
            · exact e0 q
            · exact ei q
      · exact br_f (by rw [(hY.2.1 x lx hu).2.2]; decide) (up1 (no fun q => hu ((hf x lx).1 q).1))
end
theorem i_vc_same {k : Nat} {u : SX} {v : SY} (I : i_Rel k u v) (hk : k + 4 ≤ 2048) (v1 : Int32) : wpX_same (fun r => wpY_same (fun r' => r' = r ∧ i_Rel (k + 4) u v) v v1) u v1 := by
  have I' := i_up I
  refine rel_el (P := fun u v => i_Rel (k + 4) u v → wpX_same (fun r => wpY_same (fun r' => r' = r ∧ i_Rel (k + 4) u v) v v1) u v1) ?_ I I'
  intro f_bound f_mets f_classes a_value a_left a_right a_draft a_oldUsed a_oldRoots a_oldAsked a_oldStands a_oldTestX a_oldTestY a_oldTriggerX a_oldTriggerY a_oldEnds a_oldTrailed a_oldNoted a_met a_classOf a_finer a_image a_seen a_stack a_deep a_company a_greeted used roots asked p kd mn pt tr tn sd tx ty gx gy en N nt L dn dr yf3 s sv y1 w y2 y3 y4 y5 A y6 hM hR I'
  rcases us_or (uB used) v1 with ⟨x, lx, hx, rfl⟩ | hx
  · have hM' := hM
    obtain ⟨⟨⟨T, rk, id, F, D, Y⟩, m1, m2, m3, m4, m5⟩, hT, hL⟩ := hM'
    have q := Y.2.2.1 x hx
    refine xw_same (l := id x) F hx q.2.2.1 q.2.2.2 (fun y hy hu e => ?_) ?_
    · have e1 := (Y.2.2.2.1 y x hu hx).2 e
      have := (Y.2.2.1 y hu).2.1
      omega
    · unfold wpY_same
      refine yu_t hM hx (br_f (by decide) ?_)
      rw [aL_0, cl_n (k := x), (Y.1 x lx).1]
      exact ⟨in_n (by omega), rfl, I'⟩
  · unfold wpX_same wpY_same
    exact xu_f hx (br_t rfl (yu_f hM hx (br_t rfl ⟨rfl, I'⟩)))
theorem i_vc_state {k : Nat} {u : SX} {v : SY} (I : i_Rel k u v) (hk : k + 4 ≤ 2048) (v1 : Int32) : wpX_state (fun r => wpY_state (fun r' v' => r' = r ∧ i_Rel (k + 4) u v') v v1) u v1 := by
  refine rel_el (P := fun u v => wpX_state (fun r => wpY_state (fun r' v' => r' = r ∧ i_Rel (k + 4) u v') v v1) u v1) ?_ I
  intro f_bound f_mets f_classes a_value a_left a_right a_draft a_oldUsed a_oldRoots a_oldAsked a_oldStands a_oldTestX a_oldTestY a_oldTriggerX a_oldTriggerY a_oldEnds a_oldTrailed a_oldNoted a_met a_classOf a_finer a_image a_seen a_stack a_deep a_company a_greeted used roots asked p kd mn pt tr tn sd tx ty gx gy en N nt L dn dr yf3 s sv y1 w y2 y3 y4 y5 A y6 hM ⟨h1, h2, h3, h4, h5⟩
  have I' : i_Rel (k + 4) (used, roots, asked, nI tn, f_bound, 0, nI dn, nI N, nI L, f_mets, f_classes, nA p, nA kd, nA mn, nA pt, a_value, nA tr, a_left, a_right, a_draft, sd, tx, ty, gx, gy, en, nt, a_oldUsed, a_oldRoots, a_oldAsked, a_oldStands, a_oldTestX, a_oldTestY, a_oldTriggerX, a_oldTriggerY, a_oldEnds, a_oldTrailed, a_oldNoted, a_met, a_classOf, a_finer, a_image, a_seen, a_stack, a_deep, a_company, a_greeted) (nI L, nI dn, yf3, s, sv, y1, w, y2, y3, y4, y5, A, y6) := rel_mk hM ⟨h1, h2, by omega, h4, h5⟩
  unfold wpX_state
  rcases in_or v1 4 (by decide) with ⟨j, hj, rfl⟩ | ⟨g1, g2⟩
  · refine yin_t (n := 4) (by omega) (by decide) ?_
    have hM' := hM
    obtain ⟨⟨⟨T, rk, id, F, D, Y⟩, m1, m2, m3, m4, m5⟩, hT, hL⟩ := hM'
    have W : VW (xv (uB used) T kd mn pt a_value) := xv_W F D
    have ywalk : ∀ (Q : Int32 → SY → Prop) (f : Nat → Bool), j ≤ 2 → (∀ x, x < 48 → (f x = true ↔ (cU (xv (uB used) T kd mn pt a_value) x ∧ (j = 0 ∨ (id x = x ∧ (j = 1 ∨ cK (xv (uB used) T kd mn pt a_value) x = 0)))))) → (∀ w, Q (nI (cnB f 48)) (nI L, nI dn, yf3, s, sv, y1, w, y2, y3, y4, y5, A, y6)) → wpY_state Q (nI L, nI dn, yf3, s, sv, y1, w, y2, y3, y4, y5, A, y6) (nI j) := by
      intro Q f h2 hf hq
      unfold wpY_state
      refine br_f (fun z => by have := nI_inj (b := 3) z; omega) (br_f (fun z => by have := nI_inj (b := 4) z; omega) (yin_t2 (n := 4) (by omega) (by decide) (yw_values W Y fun w' hw => Exists.intro 49 ?_)))
      exact yw_state46 W Y hw h2 hf (hq w') 49 0 (by omega) (by omega)
    have Iw : ∀ w, i_Rel (k + 4) (used, roots, asked, nI tn, f_bound, 0, nI dn, nI N, nI L, f_mets, f_classes, nA p, nA kd, nA mn, nA pt, a_value, nA tr, a_left, a_right, a_draft, sd, tx, ty, gx, gy, en, nt, a_oldUsed, a_oldRoots, a_oldAsked, a_oldStands, a_oldTestX, a_oldTestY, a_oldTriggerX, a_oldTriggerY, a_oldEnds, a_oldTrailed, a_oldNoted, a_met, a_classOf, a_finer, a_image, a_seen, a_stack, a_deep, a_company, a_greeted) (nI L, nI dn, yf3, s, sv, y1, w, y2, y3, y4, y5, A, y6) := fun w => rel_mk hM ⟨h1, h2, by omega, h4, h5⟩
    have dec : ∀ P : Nat → Prop, ∃ f : Nat → Bool, ∀ x, f x = true ↔ P x := fun P => ⟨fun x => @decide (P x) (Classical.propDecidable _), fun x => @decide_eq_true_iff (P x) (Classical.propDecidable _)⟩
    by_cases e0 : j = 0
    · subst e0
      refine br_t rfl (xw_count _ (ywalk _ (bL used) (by omega) (fun x hx => ⟨fun h => ⟨h, Or.inl rfl⟩, fun h => h.1⟩) fun w => ⟨?_, Iw w⟩))
      have := cnB_cut (f := bL used) (a := 48) 16 fun i a b => ts_nt fun z => by have := m1.1 i z; omega
      show nI (cnB (bL used) 48) = nI (cnB (bL used) 64)
      rw [← this]
    · refine br_f (fun z => e0 (nI_inj (b := 0) z)) ?_
      obtain ⟨f, hf⟩ := dec fun x => uB used x ∧ p x = x ∧ (j = 1 ∨ kd x = 0)
      obtain ⟨g, hg⟩ := dec fun x => cU (xv (uB used) T kd mn pt a_value) x ∧ (j = 0 ∨ (id x = x ∧ (j = 1 ∨ cK (xv (uB used) T kd mn pt a_value) x = 0)))
      have key : (j = 1 ∨ j = 2) → cnB g 48 = cnB f 48 := by
        intro hj2
        have a1 : cnB f 48 ≤ cnB g 48 := by
          refine cnB_inj (φ := id) (fun x hx hfx => ?_) (fun x y hx hy hfx hfy e => ?_)
          · obtain ⟨a, b, d⟩ := (hf x).1 hfx
            have q := Y.2.2.1 x a
            have eT : T x = x := fo_top F a b
            have q4 : T (id x) = T x := q.2.2.2
            refine ⟨(Y.1 x hx).2, (hg _).2 ⟨q.2.2.1, Or.inr ⟨(Y.2.2.2.1 _ _ q.2.2.1 a).2 q4, ?_⟩⟩⟩
            refine d.imp (fun z => z) fun z => ?_
            show kd (T (id x)) = 0
            rw [q4, eT]; exact z
          · obtain ⟨a, b, _⟩ := (hf x).1 hfx
            obtain ⟨a', b', _⟩ := (hf y).1 hfy
            have := (Y.2.2.2.1 x y a a').1 e
            have this : T x = T y := this
            rw [fo_top F a b, fo_top F a' b'] at this
            exact this
        have a2 : cnB g 48 ≤ cnB f 48 := by
          refine cnB_inj (φ := T) (fun x hx hgx => ?_) (fun x y hx hy hgx hgy e => ?_)
          · obtain ⟨a, b⟩ := (hg x).1 hgx
            rcases b with b | ⟨b, d⟩
            · exact absurd b e0
            · refine ⟨fo_lt F (fo_T F a), (hf _).2 ⟨fo_T F a, fo_pT F a, d⟩⟩
          · obtain ⟨a, b⟩ := (hg x).1 hgx
            obtain ⟨a', b'⟩ := (hg y).1 hgy
            rcases b with b | ⟨b, _⟩
            · exact absurd b e0
            · rcases b' with b' | ⟨b', _⟩
              · exact absurd b' e0
              · have := (Y.2.2.2.1 x y a a').2 e
                omega
        omega
      have loop : (j = 1 ∨ j = 2) → ∃ n, wX_state_46 (fun r => wpY_state (fun r' v' => r' = r ∧ i_Rel (k + 4) (used, roots, asked, nI tn, f_bound, 0, nI dn, nI N, nI L, f_mets, f_classes, nA p, nA kd, nA mn, nA pt, a_value, nA tr, a_left, a_right, a_draft, sd, tx, ty, gx, gy, en, nt, a_oldUsed, a_oldRoots, a_oldAsked, a_oldStands, a_oldTestX, a_oldTestY, a_oldTriggerX, a_oldTriggerY, a_oldEnds, a_oldTrailed, a_oldNoted, a_met, a_classOf, a_finer, a_image, a_seen, a_stack, a_deep, a_company, a_greeted) v') (nI L, nI dn, yf3, s, sv, y1, w, y2, y3, y4, y5, A, y6) (nI j)) (nI j) used roots asked (nI tn) f_bound 0 (nI dn) (nI N) (nI L) f_mets f_classes (nA p) (nA kd) (nA mn) (nA pt) a_value (nA tr) a_left a_right a_draft sd tx ty gx gy en nt a_oldUsed a_oldRoots a_oldAsked a_oldStands a_oldTestX a_oldTestY a_oldTriggerX a_oldTriggerY a_oldEnds a_oldTrailed a_oldNoted a_met a_classOf a_finer a_image a_seen a_stack a_deep a_company a_greeted n 0 0 := by
        intro hj2
        refine ⟨49, xw_state46 (f := f) hj2 (fun x hx => fo_lt F (fo_p F hx)) (fun x hx e => (D x hx e).1) (fun x _ => hf x) ?_ 49 0 (by omega) (by omega)⟩
        exact ywalk _ g (by omega) (fun x _ => hg x) fun w => ⟨by rw [key hj2], Iw w⟩
      by_cases e1 : j = 1
      · exact br_t (by rw [e1]; rfl) (loop (Or.inl e1))
      · refine br_f (fun z => e1 (nI_inj (b := 1) z)) ?_
        by_cases e2 : j = 2
        · exact br_t (by rw [e2]; rfl) (loop (Or.inr e2))
        · refine br_f (fun z => e2 (nI_inj (b := 2) z)) ?_
          unfold wpY_state
          by_cases e3 : j = 3
          · subst e3
            exact br_t rfl (br_t rfl (br_t rfl ⟨rfl, I'⟩))
          · have e4 : j = 4 := by omega
            subst e4
            exact br_f (by decide) (br_t rfl (br_f (by decide) (br_t rfl (br_f (by decide) ⟨rfl, I'⟩))))
  · refine yin_f (n := 4) g2 ?_
    unfold wpY_state
    refine br_f (fun z => g1 3 (by decide) z) (br_f (fun z => g1 4 (by decide) z) (yin_f2 (n := 4) g2 ⟨rfl, I'⟩))
end
section
/-! node -/
/-- a stack with c of M parts on it, the last part lowest -/
def psF (a0 : Nat → Int32) (h : Nat) (f : Nat → Nat) (M c : Nat) : Nat → Int32 := fun j => if h ≤ j ∧ j < h + c then nI (f (M - 1 - (j - h))) else a0 j
theorem psF_lo {a0 : Nat → Int32} {h : Nat} {f : Nat → Nat} {M c j : Nat} (hj : j < h) : psF a0 h f M c j = a0 j := if_neg (by omega)
theorem psF_hi {a0 : Nat → Int32} {h : Nat} {f : Nat → Nat} {M c i : Nat} (hi : i < c) : psF a0 h f M c (h + i) = nI (f (M - 1 - i)) := by
  show (if _ then _ else _) = _
  rw [if_pos (by omega), show h + i - h = i by omega]
theorem psF_0 {a0 : Nat → Int32} {h : Nat} {f : Nat → Nat} {M : Nat} : psF a0 h f M 0 = a0 := by
  funext j
  exact if_neg (by omega)
theorem psF_s {a0 : Nat → Int32} {h : Nat} {f : Nat → Nat} {M c : Nat} : upd (psF a0 h f M c) (h + c) (nI (f (M - 1 - c))) = psF a0 h f M (c + 1) := by
  funext j
  by_cases e : j = h + c
  · rw [e, pk_us, psF_hi (by omega)]
  · rw [pk_un e]
    show (if _ then _ else _) = (if _ then _ else _)
    by_cases z : h ≤ j ∧ j < h + c
    · rw [if_pos z, if_pos (by omega)]
    · rw [if_neg z, if_neg (by omega)]
/-- the index that goes down -/
def xi (M c : Nat) : Int32 := if c < M then nI (M - 1 - c) else -1
theorem xi_lt {M c : Nat} (h : c < M) : xi M c = nI (M - 1 - c) := if_pos h
theorem xi_ge {M c : Nat} (h : ¬ c < M) : xi M c = -1 := if_neg h
theorem xi_s {M c : Nat} (h : c < M) : nI (M - 1 - c) + (-1) = xi M (c + 1) := by
  by_cases e : c + 1 < M
  · rw [xi_lt e, pd_n (by omega), show M - 1 - c - 1 = M - 1 - (c + 1) by omega]
  · rw [xi_ge e, show M - 1 - c = 0 by omega]; decide
theorem xi_0 (M : Nat) : nI M - 1 = xi M 0 := by
  cases M with
  | zero => decide
  | succ M => rw [nI_pred, xi_lt (by omega)]; rfl
section
variable {f_used : Int64} {f_roots : Int64} {f_asked : Int64} {f_trailed : Int32} {f_bound : Int32} {f_pairs : Int32} {f_drafted : Int32} {f_noted : Int32} {f_trials : Int32} {f_mets : Int32} {f_classes : Int32} {a_up : Nat → Int32} {a_kind : Nat → Int32} {a_many : Nat → Int32} {a_parts : Nat → Int32} {a_value : Nat → Int32} {a_trail : Nat → Int32} {a_left : Nat → Int32} {a_right : Nat → Int32} {a_draft : Nat → Int32} {a_stands : Nat → Int32} {a_testX : Nat → Int32} {a_testY : Nat → Int32} {a_triggerX : Nat → Int32} {a_triggerY : Nat → Int32} {a_ends : Nat → Int32} {a_notes : Nat → Int32} {a_oldUsed : Nat → Int64} {a_oldRoots : Nat → Int64} {a_oldAsked : Nat → Int64} {a_oldStands : Nat → Int32} {a_oldTestX : Nat → Int32} {a_oldTestY : Nat → Int32} {a_oldTriggerX : Nat → Int32} {a_oldTriggerY : Nat → Int32} {a_oldEnds : Nat → Int32} {a_oldTrailed : Nat → Int32} {a_oldNoted : Nat → Int32} {a_met : Nat → Int32} {a_classOf : Nat → Int32} {a_finer : Nat → Int32} {a_image : Nat → Int32} {a_seen : Nat → Int32} {a_stack : Nat → Int32} {a_deep : Nat → Int32} {a_company : Nat → Int64} {a_greeted : Nat → Int64}
variable {p kd mn pt tr T rk : Nat → Nat} {tn : Nat} {used : Int64}
theorem xw_node84 {post : Int64 → SX → Prop} {J42 : Int32 → Int32 → Int32 → (Nat → Int32) → (Nat → Int32) → (Nat → Int32) → (Nat → Int32) → (Nat → Int32) → (Nat → Int32) → (Nat → Int32) → (Nat → Int32) → (Nat → Int32) → (Nat → Int32) → (Nat → Int32) → (Nat → Int32) → (Nat → Int32) → (Nat → Int32) → (Nat → Int32) → (Nat → Int32) → (Nat → Int64) → (Nat → Int64) → (Nat → Int64) → (Nat → Int32) → (Nat → Int32) → (Nat → Int32) → (Nat → Int32) → (Nat → Int32) → (Nat → Int32) → (Nat → Int32) → (Nat → Int32) → (Nat → Int32) → (Nat → Int32) → (Nat → Int32) → (Nat → Int32) → (Nat → Int32) → (Nat → Int32) → (Nat → Int32) → (Nat → Int64) → (Nat → Int64) →  Prop} {x2 x3 : Int32} {t i h M : Nat} (ht : t < 48) (k2 : kd t = 2) (hM : M ≤ 3) (hh : h + M ≤ 160) (hpt : ∀ j, j < M → pt (3 * t + j) < 48) (HJ : J42 (nI (h + M)) (nI t) (nI (i + 1)) (nA p) (nA kd) (nA mn) (nA pt) a_value (nA tr) a_left a_right a_draft a_stands a_testX a_testY a_triggerX a_triggerY a_ends a_notes a_oldUsed a_oldRoots a_oldAsked a_oldStands a_oldTestX a_oldTestY a_oldTriggerX a_oldTriggerY a_oldEnds a_oldTrailed a_oldNoted a_met a_classOf a_finer a_image a_seen (psF a_stack h (fun j => pt (3 * t + j)) M M) a_deep a_company a_greeted) : ∀ n c, c ≤ M → M - c < n → wX_node_84 post J42 x2 x3 (nI t) (nI i) used f_roots f_asked (nI tn) f_bound f_pairs f_drafted f_noted f_trials f_mets f_classes n (nI (h + c)) (xi M c) (nA p) (nA kd) (nA mn) (nA pt) a_value (nA tr) a_left a_right a_draft a_stands a_testX a_testY a_triggerX a_triggerY a_ends a_notes a_oldUsed a_oldRoots a_oldAsked a_oldStands a_oldTestX a_oldTestY a_oldTriggerX a_oldTriggerY a_oldEnds a_oldTrailed a_oldNoted a_met a_classOf a_finer a_image a_seen (psF a_stack h (fun j => pt (3 * t + j)) M c) a_deep a_company a_greeted := by
  intro n
  induction n with
  | zero => intro c _ h; omega
  | succ n ih =>
    intro c hc hn
    by_cases e : c < M
    · rw [xi_lt e]
      have q := hpt (M - 1 - c) (by omega)
      refine br_f (nI_nn (by omega)) ⟨in_n ht, br_t (by rw [cl_n (k := t), nA_e, k2]; rfl) (up1 ?_)⟩
      rw [tri, cl_n (k := 3 * t + (M - 1 - c)), cl_n (k := h + c), nA_e, vb_k (by omega)]
      refine ⟨in_n (by omega), in_n (by omega), nmr _ psF_s (nmr (xi M (c + 1)) (xi_s e) (ih (c + 1) (by omega) (by omega)))⟩
    · have : c = M := by omega
      subst this
      rw [xi_ge e]
      exact br_t m1_neg (up1 HJ)
/-- pushes of a topmost one's parts, whatever it is -/
theorem xw_node84' {post : Int64 → SX → Prop} {J42 : Int32 → Int32 → Int32 → (Nat → Int32) → (Nat → Int32) → (Nat → Int32) → (Nat → Int32) → (Nat → Int32) → (Nat → Int32) → (Nat → Int32) → (Nat → Int32) → (Nat → Int32) → (Nat → Int32) → (Nat → Int32) → (Nat → Int32) → (Nat → Int32) → (Nat → Int32) → (Nat → Int32) → (Nat → Int32) → (Nat → Int64) → (Nat → Int64) → (Nat → Int64) → (Nat → Int32) → (Nat → Int32) → (Nat → Int32) → (Nat → Int32) → (Nat → Int32) → (Nat → Int32) → (Nat → Int32) → (Nat → Int32) → (Nat → Int32) → (Nat → Int32) → (Nat → Int32) → (Nat → Int32) → (Nat → Int32) → (Nat → Int32) → (Nat → Int32) → (Nat → Int64) → (Nat → Int64) →  Prop} {x2 x3 : Int32} {t i h M : Nat} (ht : t < 48) (kt : kd t ≤ 2) (hM : M = if kd t = 2 then mn t else 0) (hM3 : M ≤ 3) (hh : h + M ≤ 160) (hpt : ∀ j, j < M → pt (3 * t + j) < 48) (HJ : J42 (nI (h + M)) (nI t) (nI (i + 1)) (nA p) (nA kd) (nA mn) (nA pt) a_value (nA tr) a_left a_right a_draft a_stands a_testX a_testY a_triggerX a_triggerY a_ends a_notes a_oldUsed a_oldRoots a_oldAsked a_oldStands a_oldTestX a_oldTestY a_oldTriggerX a_oldTriggerY a_oldEnds a_oldTrailed a_oldNoted a_met a_classOf a_finer a_image a_seen (psF a_stack h (fun j => pt (3 * t + j)) M M) a_deep a_company a_greeted) : ∃ n, wX_node_84 post J42 x2 x3 (nI t) (nI i) used f_roots f_asked (nI tn) f_bound f_pairs f_drafted f_noted f_trials f_mets f_classes n (nI h) (nI (mn t) - 1) (nA p) (nA kd) (nA mn) (nA pt) a_value (nA tr) a_left a_right a_draft a_stands a_testX a_testY a_triggerX a_triggerY a_ends a_notes a_oldUsed a_oldRoots a_oldAsked a_oldStands a_oldTestX a_oldTestY a_oldTriggerX a_oldTriggerY a_oldEnds a_oldTrailed a_oldNoted a_met a_classOf a_finer a_image a_seen a_stack a_deep a_company a_greeted := by
  by_cases k2 : kd t = 2
  · rw [if_pos k2] at hM
    rw [← hM, xi_0]
    have : wX_node_84 post J42 x2 x3 (nI t) (nI i) used f_roots f_asked (nI tn) f_bound f_pairs f_drafted f_noted f_trials f_mets f_classes (M + 1) (nI (h + 0)) (xi M 0) (nA p) (nA kd) (nA mn) (nA pt) a_value (nA tr) a_left a_right a_draft a_stands a_testX a_testY a_triggerX a_triggerY a_ends a_notes a_oldUsed a_oldRoots a_oldAsked a_oldStands a_oldTestX a_oldTestY a_oldTriggerX a_oldTriggerY a_oldEnds a_oldTrailed a_oldNoted a_met a_classOf a_finer a_image a_seen (psF a_stack h (fun j => pt (3 * t + j)) M 0) a_deep a_company a_greeted := xw_node84 ht k2 hM3 hh hpt HJ (M + 1) 0 (by omega) (by omega)
    rw [psF_0] at this
    exact ⟨M + 1, this⟩
  · rw [if_neg k2] at hM
    subst hM
    rw [psF_0] at HJ
    refine ⟨1, br_c (fun _ => up1 HJ) fun _ => ⟨in_n ht, br_f (fun z => k2 ?_) (up1 HJ)⟩⟩
    rw [cl_n (k := t), nA_e] at z
    exact nI_inj (b := 2) z
end
section
variable {f_trials : Int32} {f_drafted : Int32} {f_found : Int32} {a_s : Nat → Int32} {a_saved : Nat → Int32} {a_draft : Nat → Int32} {a_who : Nat → Int32} {a_met : Nat → Int32} {a_stack : Nat → Int32} {a_fresh : Nat → Int32} {a_deep : Nat → Int32} {a_alike : Nat → Int64} {a_meets : Nat → Int64}
theorem yw_node180 {post : Int64 → SY → Prop} {J43 : Int32 → Int32 → (Nat → Int32) → (Nat → Int32) → (Nat → Int32) → (Nat → Int32) → (Nat → Int32) → (Nat → Int32) → (Nat → Int32) → (Nat → Int32) → (Nat → Int64) → (Nat → Int64) →  Prop} {x2 x3 x5 : Int32} {u h M : Nat} {q : Nat → Nat} (hu : u < 48) (hM : M ≤ 3) (eM : a_s (192 + u) = nI M) (hh : h + M ≤ 160) (hq : ∀ j, j < M → a_s (240 + 3 * u + j) = nI (q j)) (HJ : J43 (nI (h + M)) x5 a_s a_saved a_draft a_who a_met (psF a_stack h q M M) a_fresh a_deep a_alike a_meets) : ∀ n d, d ≤ 3 → d < n → wY_node_180 post J43 x2 x3 x5 (nI u) f_trials f_drafted f_found n (nI (h + (M - d))) (if d = 0 then -1 else nI (d - 1)) a_s a_saved a_draft a_who a_met (psF a_stack h q M (M - d)) a_fresh a_deep a_alike a_meets := by
  intro n
  induction n with
  | zero => intro d _ h; omega
  | succ n ih =>
    intro d hd hn
    cases d with
    | zero =>
      rw [if_pos rfl]
      exact br_t m1_neg HJ
    | succ d =>
      have e1 : nI d + (-1) = if d = 0 then -1 else nI (d - 1) := by
        by_cases z : d = 0
        · rw [z, if_pos rfl]; decide
        · rw [if_neg z, pd_n (by omega)]
      rw [if_neg (by omega), show d + 1 - 1 = d by omega]
      refine br_f (nI_nn (by omega)) (br_f (nI_nn (by omega)) ?_)
      rw [aL_192, cl_n (k := 192 + u), eM]
      refine ⟨in_n (by omega), ?_⟩
      have ih := ih d (by omega) (by omega)
      by_cases z : M ≤ d
      · rw [show M - d = M - (d + 1) by omega] at ih
        exact br_t (nI_le z (by omega)) (nmr _ e1 ih)
      · refine br_f (nI_ge (by omega) (by omega)) (up1 ?_)
        rw [aP, cl_n (k := 240 + 3 * u + d), cl_n (k := h + (M - (d + 1))), hq d (by omega)]
        have e2 := psF_s (a0 := a_stack) (h := h) (f := q) (M := M) (c := M - (d + 1))
        rw [show M - 1 - (M - (d + 1)) = d by omega, show M - (d + 1) + 1 = M - d by omega] at e2
        rw [show h + (M - d) = h + (M - (d + 1)) + 1 by omega] at ih
        exact ⟨in_n (by omega), in_n (by omega), nmr _ e2 (nmr _ e1 ih)⟩
theorem ye_node180 {c : Vw} {id : Nat → Nat} (W : VW c) (hY : YR c id a_s) (hw : Who c a_s a_who) {v h : Nat} (hv : cU c v) (hh : h + cM c v ≤ 160) : ∃ q : Nat → Nat, (∀ j, j < cM c v → cU c (q j) ∧ cT c (q j) = cT c (cP c v j)) ∧ ∀ (post : Int64 → SY → Prop) (J43 : Int32 → Int32 → (Nat → Int32) → (Nat → Int32) → (Nat → Int32) → (Nat → Int32) → (Nat → Int32) → (Nat → Int32) → (Nat → Int32) → (Nat → Int32) → (Nat → Int64) → (Nat → Int64) →  Prop) (x2 x3 x5 : Int32), J43 (nI (h + cM c v)) x5 a_s a_saved a_draft a_who a_met (psF a_stack h q (cM c v) (cM c v)) a_fresh a_deep a_alike a_meets → ∃ n, wY_node_180 post J43 x2 x3 x5 (a_who v) f_trials f_drafted f_found n (nI h) 2 a_s a_saved a_draft a_who a_met a_stack a_fresh a_deep a_alike a_meets := by
  by_cases k0 : cK c v = 0
  · have m0 := vw_M0 W hv (by omega)
    rw [hw.2.1 v hv k0, m0]
    refine ⟨fun _ => 0, fun j hj => absurd hj (by omega), fun post J43 x2 x3 x5 HJ => ?_⟩
    rw [psF_0] at HJ
    exact ⟨1, br_f (by decide) (br_t m1_neg HJ)⟩
  · obtain ⟨u, eu, hu, eT, nu⟩ := hw.1 v hv k0
    have Tu := hY.2.2.2.2.1 u hu nu
    obtain ⟨q, hq⟩ := tld_q Tu
    have eM := vw_eM W hu hv eT
    have m3 := vw_M W hv
    rw [eu]
    rw [eM] at hq
    refine ⟨q, fun j hj => ⟨(hq j hj).2.1, by rw [(hq j hj).2.2, vw_eP W hu hv eT j]⟩, fun post J43 x2 x3 x5 HJ => ?_⟩
    have := yw_node180 (f_trials := f_trials) (f_drafted := f_drafted) (f_found := f_found) (post := post) (J43 := J43) (x2 := x2) (x3 := x3) (x5 := x5) (q := q) (M := cM c v) (vw_lt W hu) m3 (by rw [← eM]; exact Tu.2.2.2.2.1) hh (fun j hj => (hq j hj).1) HJ 4 3 (by omega) (by omega)
    rw [show cM c v - 3 = 0 by omega, if_neg (by omega), psF_0] at this
    exact ⟨4, this⟩
end
end
section
/-! node: both sides step by step -/
/-- two stacks of the same height hold the same -/
def Sk (U : Nat → Prop) (T : Nat → Nat) (a b : Nat → Int32) (h : Nat) : Prop := ∀ j, j < h → ∃ x y, a j = nI x ∧ b j = nI y ∧ U x ∧ U y ∧ T x = T y
theorem sk_push {U : Nat → Prop} {T : Nat → Nat} {a b : Nat → Int32} {h M : Nat} {f g : Nat → Nat} (hs : Sk U T a b h) (hf : ∀ j, j < M → U (f j) ∧ U (g j) ∧ T (f j) = T (g j)) : Sk U T (psF a h f M M) (psF b h g M M) (h + M) := by
  intro j hj
  by_cases e : j < h
  · rw [psF_lo e, psF_lo e]; exact hs j e
  · obtain ⟨i, rfl⟩ : ∃ i, j = h + i := ⟨j - h, by omega⟩
    rw [psF_hi (by omega), psF_hi (by omega)]
    have := hf (M - 1 - i) (by omega)
    exact ⟨_, _, rfl, rfl, this.1, this.2.1, this.2.2⟩
theorem sk_le {U : Nat → Prop} {T : Nat → Nat} {a b : Nat → Int32} {h h' : Nat} (hs : Sk U T a b h) (hl : h' ≤ h) : Sk U T a b h' := fun j hj => hs j (by omega)
section
variable {f_used : Int64} {f_roots : Int64} {f_asked : Int64} {f_trailed : Int32} {f_bound : Int32} {f_pairs : Int32} {f_drafted : Int32} {f_noted : Int32} {f_trials : Int32} {f_mets : Int32} {f_classes : Int32} {a_up : Nat → Int32} {a_kind : Nat → Int32} {a_many : Nat → Int32} {a_parts : Nat → Int32} {a_value : Nat → Int32} {a_trail : Nat → Int32} {a_left : Nat → Int32} {a_right : Nat → Int32} {a_draft : Nat → Int32} {a_stands : Nat → Int32} {a_testX : Nat → Int32} {a_testY : Nat → Int32} {a_triggerX : Nat → Int32} {a_triggerY : Nat → Int32} {a_ends : Nat → Int32} {a_notes : Nat → Int32} {a_oldUsed : Nat → Int64} {a_oldRoots : Nat → Int64} {a_oldAsked : Nat → Int64} {a_oldStands : Nat → Int32} {a_oldTestX : Nat → Int32} {a_oldTestY : Nat → Int32} {a_oldTriggerX : Nat → Int32} {a_oldTriggerY : Nat → Int32} {a_oldEnds : Nat → Int32} {a_oldTrailed : Nat → Int32} {a_oldNoted : Nat → Int32} {a_met : Nat → Int32} {a_classOf : Nat → Int32} {a_finer : Nat → Int32} {a_image : Nat → Int32} {a_seen : Nat → Int32} {a_stack : Nat → Int32} {a_deep : Nat → Int32} {a_company : Nat → Int64} {a_greeted : Nat → Int64}
variable {p kd mn pt tr T rk id : Nat → Nat} {tn : Nat} {used : Int64} {s w sv b : Nat → Int32} {A : Nat → Int64}
variable {yf1 yf2 yf3 : Int32} {y1 y2 y3 y4 y5 : Nat → Int32} {y6 : Nat → Int64}
/-- the answers at a pair that is the same -/
theorem node_ans {GY : (Int64 → SY → Prop) → Prop} {post : Int64 → SX → Prop} (F : Fo (uB used) p T rk) (D : XD (uB used) p kd mn pt) (Y : YR (xv (uB used) T kd mn pt a_value) id s) (hw : Who (xv (uB used) T kd mn pt a_value) s w) {k v n : Nat} {x3 : Int32} {h i : Nat} (hk : k < i) (hi : i < 2 ^ 31) (hv : uB used v) (hp : ∀ r, (∀ Q, (∀ (u : SY), u = (yf1, yf2, yf3, s, sv, y1, w, y2, b, y4, y5, A, y6) → Q r u) → GY Q) → post r (used, f_roots, f_asked, nI tn, f_bound, f_pairs, f_drafted, f_noted, f_trials, f_mets, f_classes, nA p, nA kd, nA mn, nA pt, a_value, nA tr, a_left, a_right, a_draft, a_stands, a_testX, a_testY, a_triggerX, a_triggerY, a_ends, a_notes, a_oldUsed, a_oldRoots, a_oldAsked, a_oldStands, a_oldTestX, a_oldTestY, a_oldTriggerX, a_oldTriggerY, a_oldEnds, a_oldTrailed, a_oldNoted, a_met, a_classOf, a_finer, a_image, a_seen, a_stack, a_deep, a_company, a_greeted)) (HY : ∀ Q, (vp_in (nI v) 48 ∧ ((0 ≤ w v → (vp_in (48 + w v) 681 ∧ ((s (48 + w v).toNatClampNeg = 1 → ((x3 = 0 → Q 1 (yf1, yf2, yf3, s, sv, y1, w, y2, b, y4, y5, A, y6)) ∧ (¬ x3 = 0 → (vp_in (96 + w v) 681 ∧ Q ((s (96 + w v).toNatClampNeg).toInt64) (yf1, yf2, yf3, s, sv, y1, w, y2, b, y4, y5, A, y6))))) ∧ (¬ s (48 + w v).toNatClampNeg = 1 → ((x3 = 0 → (vp_in (144 + w v) 681 ∧ (vp_in (192 + w v) 681 ∧ Q (((2 + (4 * s (144 + w v).toNatClampNeg)) + s (192 + w v).toNatClampNeg).toInt64) (yf1, yf2, yf3, s, sv, y1, w, y2, b, y4, y5, A, y6)))) ∧ (¬ x3 = 0 → Q 0 (yf1, yf2, yf3, s, sv, y1, w, y2, b, y4, y5, A, y6))))))) ∧ (¬ 0 ≤ w v → ((x3 = 0 → Q 0 (yf1, yf2, yf3, s, sv, y1, w, y2, b, y4, y5, A, y6)) ∧ (¬ x3 = 0 → (vp_in (0 + nI v) 681 ∧ Q ((s (0 + nI v).toNatClampNeg).toInt64) (yf1, yf2, yf3, s, sv, y1, w, y2, b, y4, y5, A, y6))))))) → GY Q) : wX_node_42 post (nI k) x3 used f_roots f_asked (nI tn) f_bound f_pairs f_drafted f_noted f_trials f_mets f_classes (n + 1) (nI h) (nI (T v)) (nI i) (nA p) (nA kd) (nA mn) (nA pt) a_value (nA tr) a_left a_right a_draft a_stands a_testX a_testY a_triggerX a_triggerY a_ends a_notes a_oldUsed a_oldRoots a_oldAsked a_oldStands a_oldTestX a_oldTestY a_oldTriggerX a_oldTriggerY a_oldEnds a_oldTrailed a_oldNoted a_met a_classOf a_finer a_image a_seen a_stack a_deep a_company a_greeted := by
  have W : VW (xv (uB used) T kd mn pt a_value) := xv_W F D
  have lv := fo_lt F hv
  have lt := fo_lt F (fo_T F hv)
  have dt := D (T v) (fo_T F hv) (fo_pT F hv)
  refine And.intro (fun _ => ?_) (fun z => absurd (nI_lt hk hi) z)
  rw [cl_n (k := T v), nA_e, nA_e]
  by_cases k0 : kd (T v) = 0
  · have e1 := hw.2.1 v hv k0
    rw [e1] at HY
    by_cases e3 : x3 = 0
    · refine br_t e3 ⟨in_n lt, br_f (fun z => by have := nI_inj (b := 2) z; omega) ⟨in_n lt, ?_⟩⟩
      rw [k0]
      exact hp _ fun Q hq => HY Q ⟨in_n lv, br_f m1_n0 (br_t e3 (hq _ rfl))⟩
    · refine br_f e3 ⟨in_n lt, br_t (by rw [k0]; rfl) ?_⟩
      have q := Y.2.2.1 v hv
      have lid := fo_lt F q.2.2.1
      have q4 : T (id v) = T v := q.2.2.2
      refine xw_same (l := id v) F (fo_T F hv) q.2.2.1 (by rw [q4, fo_TT F hv]) (fun y hy hu e => ?_) (hp _ fun Q hq => HY Q ⟨in_n lv, br_f m1_n0 (br_f e3 ⟨by rw [aL_0]; exact in_n (by omega), ?_⟩)⟩)
      · rw [fo_TT F hv] at e
        have e1 := (Y.2.2.2.1 y v hu hv).2 e
        have := (Y.2.2.1 y hu).2.1
        omega
      · rw [aL_0, cl_n (k := v), (Y.1 v lv).1]
        exact hq _ rfl
  · obtain ⟨u, eu, hu, eT, nu⟩ := hw.1 v hv k0
    have lu := fo_lt F hu
    have Tu := Y.2.2.2.2.1 u hu nu
    have eT : T u = T v := eT
    have eK : cK (xv (uB used) T kd mn pt a_value) u = kd (T v) := by rw [xv_K, eT]
    have eV : cV (xv (uB used) T kd mn pt a_value) u = a_value (T v) := by rw [xv_V, eT]
    rw [eu, aL_48, aL_96, aL_144, aL_192, cl_n (k := 48 + u), cl_n (k := 96 + u), cl_n (k := 144 + u), cl_n (k := 192 + u), Tu.2.1, eK] at HY
    have i1 : vp_in (nI (48 + u)) 681 := in_n (by omega)
    have i2 : vp_in (nI (96 + u)) 681 := in_n (by omega)
    have i3 : vp_in (nI (144 + u)) 681 := in_n (by omega)
    have i4 : vp_in (nI (192 + u)) 681 := in_n (by omega)
    have p0 : (0 : Int32) ≤ nI u := nI_pos' (by omega)
    by_cases k1 : kd (T v) = 1
    · have eN := (Tu.2.2.1 (by rw [eK]; exact k1)).1
      rw [eV] at eN
      by_cases e3 : x3 = 0
      · refine br_t e3 ⟨in_n lt, br_f (fun z => by have := nI_inj (b := 2) z; omega) ⟨in_n lt, ?_⟩⟩
        rw [k1]
        exact hp _ fun Q hq => HY Q ⟨in_n lv, br_t p0 ⟨i1, br_t (by rw [k1]; rfl) (br_t e3 (hq _ rfl))⟩⟩
      · refine br_f e3 ⟨in_n lt, br_f (fun z => k0 (nI_inj (b := 0) z)) ⟨in_n lt, br_t (by rw [k1]; rfl) ⟨in_n lt, hp _ fun Q hq => HY Q ⟨in_n lv, br_t p0 ⟨i1, br_t (by rw [k1]; rfl) (br_f e3 ⟨i2, ?_⟩)⟩⟩⟩⟩⟩
        rw [eN]; exact hq _ rfl
    · have k2 : kd (T v) = 2 := by omega
      have eL := (Tu.2.2.2.1 (by rw [eK]; exact k2)).2
      have eM : cM (xv (uB used) T kd mn pt a_value) u = mn (T v) := by rw [xv_M2 (by rw [eT]; exact k2), eT]
      have eC := Tu.2.2.2.2.1
      rw [eV] at eL
      rw [eM] at eC
      have n1 : ¬ nI (kd (T v)) = 1 := fun z => k1 (nI_inj (b := 1) z)
      by_cases e3 : x3 = 0
      · refine br_t e3 ⟨in_n lt, br_t (by rw [k2]; rfl) ⟨in_n lt, in_n lt, hp _ fun Q hq => HY Q ⟨in_n lv, br_t p0 ⟨i1, br_f n1 (br_t e3 ⟨i3, i4, ?_⟩)⟩⟩⟩⟩
        rw [eL, eC]; exact hq _ rfl
      · exact br_f e3 ⟨in_n lt, br_f (fun z => k0 (nI_inj (b := 0) z)) ⟨in_n lt, br_f n1 (hp _ fun Q hq => HY Q ⟨in_n lv, br_t p0 ⟨i1, br_f n1 (br_f e3 (hq _ rfl))⟩⟩)⟩⟩
theorem ls_node {GY : (Int64 → SY → Prop) → Prop} {post : Int64 → SX → Prop} (F : Fo (uB used) p T rk) (D : XD (uB used) p kd mn pt) (Y : YR (xv (uB used) T kd mn pt a_value) id s) (hw : Who (xv (uB used) T kd mn pt a_value) s w) {k : Nat} {x3 : Int32} (hk : k ≤ 40) (hp : ∀ r a_stack b, (∀ Q, (∀ (u : SY), u = (yf1, yf2, yf3, s, sv, y1, w, y2, b, y4, y5, A, y6) → Q r u) → GY Q) → post r (used, f_roots, f_asked, nI tn, f_bound, f_pairs, f_drafted, f_noted, f_trials, f_mets, f_classes, nA p, nA kd, nA mn, nA pt, a_value, nA tr, a_left, a_right, a_draft, a_stands, a_testX, a_testY, a_triggerX, a_triggerY, a_ends, a_notes, a_oldUsed, a_oldRoots, a_oldAsked, a_oldStands, a_oldTestX, a_oldTestY, a_oldTriggerX, a_oldTriggerY, a_oldEnds, a_oldTrailed, a_oldNoted, a_met, a_classOf, a_finer, a_image, a_seen, a_stack, a_deep, a_company, a_greeted)) : ∀ d i h a_stack b x5, i + d = k → h ≤ 1 + 2 * i → Sk (uB used) T a_stack b h → (∀ Q, (∃ n, wY_node_43 Q (nI k) x3 yf1 yf2 yf3 n (nI h) (nI i) s sv y1 w y2 b y4 y5 A y6) → GY Q) → wX_node_42 post (nI k) x3 used f_roots f_asked (nI tn) f_bound f_pairs f_drafted f_noted f_trials f_mets f_classes (d + 2) (nI h) x5 (nI i) (nA p) (nA kd) (nA mn) (nA pt) a_value (nA tr) a_left a_right a_draft a_stands a_testX a_testY a_triggerX a_triggerY a_ends a_notes a_oldUsed a_oldRoots a_oldAsked a_oldStands a_oldTestX a_oldTestY a_oldTriggerX a_oldTriggerY a_oldEnds a_oldTrailed a_oldNoted a_met a_classOf a_finer a_image a_seen a_stack a_deep a_company a_greeted := by
  have W : VW (xv (uB used) T kd mn pt a_value) := xv_W F D
  intro d
  induction d with
  | zero =>
    intro i h a_stack b x5 hi hh hs HY
    refine And.intro (fun z => absurd z (nI_nlt (by omega) (by omega))) (fun _ => ?_)
    cases h with
    | zero =>
      exact br_t rfl (hp _ _ _ fun Q hq => HY Q ⟨1, wh_t (a := 0) (b := 0) (by omega) (hq _ rfl)⟩)
    | succ h =>
      obtain ⟨x, y, ex, ey, hx, hy, eT⟩ := hs h (by omega)
      have lt := fo_lt F (fo_T F hx)
      have ly := fo_lt F hy
      have dt := D (T x) (fo_T F hx) (fo_pT F hx)
      have eM : cM (xv (uB used) T kd mn pt a_value) x = if kd (T x) = 2 then mn (T x) else 0 := rfl
      have m3 := vw_M W (x := x) hx
      refine br_f (fun z => by have := nI_inj (b := 0) z; omega) (nmr (nI h) (pk_m1 h) ⟨in_n (by omega), ?_⟩)
      rw [cl_n (k := h), ex]
      refine xw_top F hx ⟨in_n lt, nm_e ?_⟩
      rw [cl_n (k := T x), nA_e]
      refine xw_node84' lt dt.1 eM m3 (by omega) (fun j hj => fo_lt F (vw_P W (x := x) hx hj)) ?_
      rw [eT]
      refine node_ans F D Y hw (by omega) (by omega) hy (fun r hq => hp r _ b hq) fun Q hq => HY Q ⟨1, wh_f (a := h + 1) (b := 0) (by omega) (nmr (nI h) (pk_m1 h) ⟨in_n (by omega), ?_⟩)⟩
      rw [cl_n (k := h), ey]
      refine nm_e ⟨hq.1, ?_⟩
      rw [cl_n (k := y)]
      exact nm_e (br_t (by rw [show i = k by omega]) hq.2)
  | succ d ih =>
    intro i h a_stack b x5 hi hh hs HY
    refine And.intro (fun z => absurd z (nI_nlt (by omega) (by omega))) (fun _ => ?_)
    cases h with
    | zero =>
      exact br_t rfl (hp _ _ _ fun Q hq => HY Q ⟨1, wh_t (a := 0) (b := 0) (by omega) (hq _ rfl)⟩)
    | succ h =>
      obtain ⟨x, y, ex, ey, hx, hy, eT⟩ := hs h (by omega)
      have lt := fo_lt F (fo_T F hx)
      have ly := fo_lt F hy
      have dt := D (T x) (fo_T F hx) (fo_pT F hx)
      have eM : cM (xv (uB used) T kd mn pt a_value) x = if kd (T x) = 2 then mn (T x) else 0 := rfl
      have m3 := vw_M W (x := x) hx
      have eMy : cM (xv (uB used) T kd mn pt a_value) y = cM (xv (uB used) T kd mn pt a_value) x := vw_eM W (x := y) (y := x) hy hx eT.symm
      refine br_f (fun z => by have := nI_inj (b := 0) z; omega) (nmr (nI h) (pk_m1 h) ⟨in_n (by omega), ?_⟩)
      rw [cl_n (k := h), ex]
      refine xw_top F hx ⟨in_n lt, nm_e ?_⟩
      rw [cl_n (k := T x), nA_e]
      refine xw_node84' lt dt.1 eM m3 (by omega) (fun j hj => fo_lt F (vw_P W (x := x) hx hj)) ?_
      obtain ⟨q, hq, hpush⟩ := ye_node180 (f_trials := yf1) (f_drafted := yf2) (f_found := yf3) (a_s := s) (a_saved := sv) (a_draft := y1) (a_who := w) (a_met := y2) (a_stack := b) (a_fresh := y4) (a_deep := y5) (a_alike := A) (a_meets := y6) W Y hw (v := y) (h := h) hy (by rw [eMy]; omega)
      rw [eMy] at hq hpush
      refine ih (i + 1) (h + cM (xv (uB used) T kd mn pt a_value) x) _ (psF b h q (cM (xv (uB used) T kd mn pt a_value) x) (cM (xv (uB used) T kd mn pt a_value) x)) _ (by omega) (by omega) (sk_push (sk_le hs (by omega)) fun j hj => ⟨vw_P W (x := x) hx hj, (hq j hj).1, ?_⟩) fun Q ⟨n, hQ⟩ => HY Q ⟨n + 1, wh_f (a := h + 1) (b := 0) (by omega) (nmr (nI h) (pk_m1 h) ⟨in_n (by omega), ?_⟩)⟩
      · have e := (hq j hj).2
        rw [vw_eP W (x := y) (y := x) hy hx eT.symm j] at e
        exact e.symm
      · rw [cl_n (k := h), ey]
        refine nm_e ⟨in_n ly, ?_⟩
        rw [cl_n (k := y)]
        exact nm_e (br_f (fun z => by have := nI_inj z; omega) (up1 (hpush _ _ _ _ _ hQ)))
end
theorem i_vc_node {k : Nat} {u : SX} {v : SY} (I : i_Rel k u v) (hk : k + 4 ≤ 2048) (v1 : Int32) (v2 : Int32) (v3 : Int32) : wpX_node (fun r u' => wpY_node (fun r' v' => r' = r ∧ i_Rel (k + 4) u' v') v v1 v2 (lw_bz v3)) u v1 v2 (lw_bz v3) := by
  refine rel_el (P := fun u v => wpX_node (fun r u' => wpY_node (fun r' v' => r' = r ∧ i_Rel (k + 4) u' v') v v1 v2 (lw_bz v3)) u v1 v2 (lw_bz v3)) ?_ I
  intro f_bound f_mets f_classes a_value a_left a_right a_draft a_oldUsed a_oldRoots a_oldAsked a_oldStands a_oldTestX a_oldTestY a_oldTriggerX a_oldTriggerY a_oldEnds a_oldTrailed a_oldNoted a_met a_classOf a_finer a_image a_seen a_stack a_deep a_company a_greeted used roots asked p kd mn pt tr tn sd tx ty gx gy en N nt L dn dr yf3 s sv y1 w y2 y3 y4 y5 A y6 hM ⟨h1, h2, h3, h4, h5⟩
  have I' : i_Rel (k + 4) (used, roots, asked, nI tn, f_bound, 0, nI dn, nI N, nI L, f_mets, f_classes, nA p, nA kd, nA mn, nA pt, a_value, nA tr, a_left, a_right, a_draft, sd, tx, ty, gx, gy, en, nt, a_oldUsed, a_oldRoots, a_oldAsked, a_oldStands, a_oldTestX, a_oldTestY, a_oldTriggerX, a_oldTriggerY, a_oldEnds, a_oldTrailed, a_oldNoted, a_met, a_classOf, a_finer, a_image, a_seen, a_stack, a_deep, a_company, a_greeted) (nI L, nI dn, yf3, s, sv, y1, w, y2, y3, y4, y5, A, y6) := rel_mk hM ⟨h1, h2, by omega, h4, h5⟩
  unfold wpX_node
  rcases us_or (uB used) v1 with ⟨x, lx, hx, rfl⟩ | hx
  · refine xu_t hM hx (br_f (by decide) ?_)
    rcases in_or v2 40 (by decide) with ⟨j, hj, rfl⟩ | ⟨g1, g2⟩
    · refine xw_in_t (N := 41) hj (by decide) (br_f (by decide) ?_)
      have hM' := hM
      obtain ⟨⟨⟨T, rk, id, F, D, Y⟩, m1, m2, m3, m4, m5⟩, hT, hL⟩ := hM'
      have W : VW (xv (uB used) T kd mn pt a_value) := xv_W F D
      obtain ⟨o, ⟨w', hw, rfl⟩, hv⟩ := d_wpY_values (nI L, nI dn, yf3, s, sv, y1, w, y2, y3, y4, y5, A, y6) (fun o => ∃ w', Who (xv (uB used) T kd mn pt a_value) s w' ∧ o = (nI L, nI dn, yf3, s, sv, y1, w', y2, y3, y4, y5, A, y6)) (yw_values W Y fun w' hw => ⟨w', hw, rfl⟩)
      refine nmr (nI 1) (by decide) (nmr (upd a_stack 0 (nI x)) (by rw [vb_2 (by omega)]) (Exists.intro (j + 2) ?_))
      refine ls_node (GY := fun Q => wpY_node Q (nI L, nI dn, yf3, s, sv, y1, w, y2, y3, y4, y5, A, y6) (nI x) (nI j) (lw_bz v3)) (w := w') (yf1 := nI L) (yf2 := nI dn) (yf3 := yf3) (y1 := y1) (y2 := y2) (y4 := y4) (y5 := y5) (y6 := y6) (A := A) (sv := sv) F D Y hw (by omega) (fun r a_stack b hq => ?_) j 0 1 _ (upd y3 0 (nI x)) _ (by omega) (by omega) (fun i hi => ?_) (fun Q ⟨n, hQ⟩ => ?_)
      · exact hq _ fun u hu => by rw [hu]; exact ⟨rfl, rel_mk hM ⟨h1, h2, by omega, h4, h5⟩⟩
      · rw [show i = 0 by omega, pk_us, pk_us]
        exact ⟨x, x, rfl, rfl, hx, hx, rfl⟩
      · unfold wpY_node
        exact yu_t hM hx (br_f (by decide) (yin_t2 (n := 40) (by omega) (by decide) (hv _ (nmr (nI 1) (by decide) (nm_e ⟨n, hQ⟩)))))
    · unfold wpY_node
      exact xw_in_f (N := 41) g1 (by decide) (br_t rfl (yu_t hM hx (br_f (by decide) (yin_f2 (n := 40) g2 ⟨rfl, I'⟩))))
  · unfold wpY_node
    exact xu_f hx (br_t rfl (yu_f hM hx (br_t rfl ⟨rfl, I'⟩)))
end
section
/-! what is in a variable: gather -/
def GOK (c : Vw) (x m : Nat) (mt : Nat → Nat) : Prop := 0 < m ∧ m ≤ 48 ∧ (∀ i, i < m → Rch c x (mt i)) ∧ (∀ i j, i < m → j < m → mt i = mt j → i = j) ∧ ∀ y, Rch c x y → ∃ i, i < m ∧ mt i = y
/-- on its way: what is met, what lies on the stack -/
def GI (c : Vw) (x m : Nat) (mt : Nat → Nat) (h : Nat) (st : Nat → Nat) : Prop :=
  (∀ i, i < m → Rch c x (mt i)) ∧ (∀ i j, i < m → j < m → mt i = mt j → i = j) ∧
  (∀ j, j < h → cU c (st j) ∧ Rch c x (cT c (st j))) ∧
  (∀ i, i < m → ∀ k, k < cM c (mt i) → (∃ i', i' < m ∧ mt i' = cT c (cP c (mt i) k)) ∨ ∃ j, j < h ∧ cT c (st j) = cT c (cP c (mt i) k)) ∧
  ((∃ i, i < m ∧ mt i = cT c x) ∨ ∃ j, j < h ∧ cT c (st j) = cT c x)
theorem gi_le {c : Vw} (W : VW c) {x m h : Nat} {mt st : Nat → Nat} (hx : cU c x) (g : GI c x m mt h st) : m ≤ 48 := inj_le m 48 mt (fun i hi => vw_lt W (rc_U W hx (g.1 i hi)).1) g.2.1
/-- one that was met is taken off -/
theorem gi_skip {c : Vw} {x m h : Nat} {mt st : Nat → Nat} (g : GI c x m mt (h + 1) st) (hm : ∃ i, i < m ∧ mt i = cT c (st h)) : GI c x m mt h st := by
  obtain ⟨g1, g2, g3, g4, g5⟩ := g
  have key : ∀ y, (∃ j, j < h + 1 ∧ cT c (st j) = y) → (∃ i', i' < m ∧ mt i' = y) ∨ ∃ j, j < h ∧ cT c (st j) = y := by
    intro y ⟨j, hj, e⟩
    by_cases z : j = h
    · obtain ⟨i, hi, e2⟩ := hm
      exact Or.inl ⟨i, hi, by rw [e2, ← e, z]⟩
    · exact Or.inr ⟨j, by omega, e⟩
  exact ⟨g1, g2, fun j hj => g3 j (by omega), fun i hi k hk => (g4 i hi k hk).elim Or.inl (key _), g5.elim Or.inl (key _)⟩
theorem gi_new {c : Vw} (W : VW c) {x m h : Nat} {mt st st' : Nat → Nat} (hx : cU c x) (g : GI c x m mt (h + 1) st) (hm : ¬ ∃ i, i < m ∧ mt i = cT c (st h)) (hlo : ∀ j, j < h → st' j = st j) (hhi : ∀ k, k < cM c (cT c (st h)) → st' (h + k) = cP c (cT c (st h)) k) : GI c x (m + 1) (un mt m (cT c (st h))) (h + cM c (cT c (st h))) st' := by
  obtain ⟨g1, g2, g3, g4, g5⟩ := g
  have gh := g3 h (by omega)
  have hU := rc_U W hx gh.2
  have key : ∀ y, (∃ j, j < h + 1 ∧ cT c (st j) = y) → (∃ i', i' < m + 1 ∧ un mt m (cT c (st h)) i' = y) ∨ ∃ j, j < h + cM c (cT c (st h)) ∧ cT c (st' j) = y := by
    intro y ⟨j, hj, e⟩
    by_cases z : j = h
    · exact Or.inl ⟨m, by omega, by rw [un_s, ← e, z]⟩
    · exact Or.inr ⟨j, by omega, by rw [hlo j (by omega)]; exact e⟩
  have up : ∀ y, (∃ i', i' < m ∧ mt i' = y) → ∃ i', i' < m + 1 ∧ un mt m (cT c (st h)) i' = y := fun y ⟨i, hi, e⟩ => ⟨i, by omega, by rw [un_n (by omega)]; exact e⟩
  refine ⟨fun i hi => ?_, fun i j hi hj e => ?_, fun j hj => ?_, fun i hi k hk => ?_, g5.elim (fun q => Or.inl (up _ q)) (key _)⟩
  · by_cases z : i = m
    · rw [z, un_s]; exact gh.2
    · rw [un_n z]; exact g1 i (by omega)
  · by_cases z1 : i = m
    · by_cases z2 : j = m
      · omega
      · rw [z1, un_s, un_n z2] at e
        exact absurd ⟨j, by omega, e.symm⟩ hm
    · by_cases z2 : j = m
      · rw [z2, un_s, un_n z1] at e
        exact absurd ⟨i, by omega, e⟩ hm
      · rw [un_n z1, un_n z2] at e
        exact g2 i j (by omega) (by omega) e
  · by_cases z : j < h
    · rw [hlo j z]; exact g3 j (by omega)
    · obtain ⟨k, rfl⟩ : ∃ k, j = h + k := ⟨j - h, by omega⟩
      rw [hhi k (by omega)]
      exact ⟨vw_P W hU.1 (by omega), rc_s gh.2 (by omega)⟩
  · by_cases z : i = m
    · rw [z, un_s] at hk ⊢
      exact Or.inr ⟨h + k, by omega, by rw [hhi k hk]⟩
    · rw [un_n z] at hk ⊢
      exact (g4 i (by omega) k hk).elim (fun q => Or.inl (up _ q)) (key _)
theorem gi_end {c : Vw} (W : VW c) {x m : Nat} {mt st : Nat → Nat} (hx : cU c x) (g : GI c x m mt 0 st) : GOK c x m mt := by
  have hle := gi_le W hx g
  obtain ⟨g1, g2, g3, g4, g5⟩ := g
  have h5 : ∃ i, i < m ∧ mt i = cT c x := g5.elim (fun q => q) fun ⟨j, hj, _⟩ => absurd hj (by omega)
  refine ⟨by obtain ⟨i, hi, _⟩ := h5; omega, hle, g1, g2, fun y hy => ?_⟩
  refine hy (fun y => ∃ i, i < m ∧ mt i = y) h5 fun z ⟨i, hi, e⟩ k hk => ?_
  rw [← e] at hk ⊢
  exact (g4 i hi k hk).elim (fun q => q) fun ⟨j, hj, _⟩ => absurd hj (by omega)
section
variable {f_used : Int64} {f_roots : Int64} {f_asked : Int64} {f_trailed : Int32} {f_bound : Int32} {f_pairs : Int32} {f_drafted : Int32} {f_noted : Int32} {f_trials : Int32} {f_mets : Int32} {f_classes : Int32} {a_up : Nat → Int32} {a_kind : Nat → Int32} {a_many : Nat → Int32} {a_parts : Nat → Int32} {a_value : Nat → Int32} {a_trail : Nat → Int32} {a_left : Nat → Int32} {a_right : Nat → Int32} {a_draft : Nat → Int32} {a_stands : Nat → Int32} {a_testX : Nat → Int32} {a_testY : Nat → Int32} {a_triggerX : Nat → Int32} {a_triggerY : Nat → Int32} {a_ends : Nat → Int32} {a_notes : Nat → Int32} {a_oldUsed : Nat → Int64} {a_oldRoots : Nat → Int64} {a_oldAsked : Nat → Int64} {a_oldStands : Nat → Int32} {a_oldTestX : Nat → Int32} {a_oldTestY : Nat → Int32} {a_oldTriggerX : Nat → Int32} {a_oldTriggerY : Nat → Int32} {a_oldEnds : Nat → Int32} {a_oldTrailed : Nat → Int32} {a_oldNoted : Nat → Int32} {a_met : Nat → Int32} {a_classOf : Nat → Int32} {a_finer : Nat → Int32} {a_image : Nat → Int32} {a_seen : Nat → Int32} {a_stack : Nat → Int32} {a_deep : Nat → Int32} {a_company : Nat → Int64} {a_greeted : Nat → Int64}
variable {p kd mn pt tr T rk : Nat → Nat} {tn : Nat} {used : Int64}
theorem xw_gather97 {post : SX → Prop} {J39 : Int32 → Int32 → (Nat → Int32) → (Nat → Int32) → (Nat → Int32) → (Nat → Int32) → (Nat → Int32) → (Nat → Int32) → (Nat → Int32) → (Nat → Int32) → (Nat → Int32) → (Nat → Int32) → (Nat → Int32) → (Nat → Int32) → (Nat → Int32) → (Nat → Int32) → (Nat → Int32) → (Nat → Int32) → (Nat → Int64) → (Nat → Int64) → (Nat → Int64) → (Nat → Int32) → (Nat → Int32) → (Nat → Int32) → (Nat → Int32) → (Nat → Int32) → (Nat → Int32) → (Nat → Int32) → (Nat → Int32) → (Nat → Int32) → (Nat → Int32) → (Nat → Int32) → (Nat → Int32) → (Nat → Int32) → (Nat → Int32) → (Nat → Int32) → (Nat → Int64) → (Nat → Int64) →  Prop} {t h M : Nat} {st0 : Nat → Nat} (ht : t < 48) (kt : kd t ≤ 2) (eM : M = if kd t = 2 then mn t else 0) (hM : M ≤ 3) (hh : h + M ≤ 160) (hpt : ∀ j, j < M → pt (3 * t + j) < 48) (HJ : ∀ a_stack st', Ar a_stack st' (h + M) → (∀ j, j < h → st' j = st0 j) → (∀ k, k < M → st' (h + k) = pt (3 * t + k)) → J39 (nI (h + M)) f_mets (nA p) (nA kd) (nA mn) (nA pt) a_value (nA tr) a_left a_right a_draft a_stands a_testX a_testY a_triggerX a_triggerY a_ends a_notes a_oldUsed a_oldRoots a_oldAsked a_oldStands a_oldTestX a_oldTestY a_oldTriggerX a_oldTriggerY a_oldEnds a_oldTrailed a_oldNoted a_met a_classOf a_finer a_image a_seen a_stack a_deep a_company a_greeted) : ∀ n k a_stack st', k ≤ M → M - k < n → Ar a_stack st' (h + k) → (∀ j, j < h → st' j = st0 j) → (∀ i, i < k → st' (h + i) = pt (3 * t + i)) → wX_gather_97 post J39 (nI t) used f_roots f_asked (nI tn) f_bound f_pairs f_drafted f_noted f_trials f_mets f_classes n (nI (h + k)) (nI k) (nA p) (nA kd) (nA mn) (nA pt) a_value (nA tr) a_left a_right a_draft a_stands a_testX a_testY a_triggerX a_triggerY a_ends a_notes a_oldUsed a_oldRoots a_oldAsked a_oldStands a_oldTestX a_oldTestY a_oldTriggerX a_oldTriggerY a_oldEnds a_oldTrailed a_oldNoted a_met a_classOf a_finer a_image a_seen a_stack a_deep a_company a_greeted := by
  intro n
  induction n with
  | zero => intro k _ _ _ h; omega
  | succ n ih =>
    intro k a_stack st' hk hn ha hlo hhi
    show vp_in (nI t) 48 ∧ _
    rw [cl_n (k := t), nA_e, nA_e]
    refine ⟨in_n ht, ?_⟩
    by_cases k2 : kd t = 2
    · rw [if_pos k2] at eM
      rw [← eM]
      by_cases e : k = M
      · have e2 := e.symm
        subst e2
        exact wh_t (a := M) (b := M) (by omega) (HJ _ _ ha hlo hhi)
      · have q := hpt k (by omega)
        refine wh_f (a := M) (b := k) (by omega) ⟨in_n ht, br_t (by rw [k2]; rfl) (up1 ?_)⟩
        rw [tri, cl_n (k := 3 * t + k), cl_n (k := h + k), nA_e, vb_k (by omega)]
        refine ⟨in_n (by omega), in_n (by omega), nm_e (up1 (ih (k + 1) _ _ (by omega) (by omega) (ar_push ha) (fun j hj => by rw [un_n (by omega)]; exact hlo j hj) fun i hi => ?_))⟩
        by_cases z : i = k
        · rw [z, un_s]
        · rw [un_n (by omega)]; exact hhi i (by omega)
    · rw [if_neg k2] at eM
      subst eM
      have : k = 0 := by omega
      subst this
      exact br_c (fun _ => HJ _ _ ha hlo hhi) fun _ => ⟨in_n ht, br_f (fun z => k2 (nI_inj (b := 2) z)) (HJ _ _ ha hlo hhi)⟩
theorem xw_gather39 {post : SX → Prop} {x : Nat} (F : Fo (uB used) p T rk) (D : XD (uB used) p kd mn pt) (hx : uB used x) (H : ∀ m mt a_met a_seen a_stack, GOK (xv (uB used) T kd mn pt a_value) x m mt → Ar a_met mt m → post (used, f_roots, f_asked, nI tn, f_bound, f_pairs, f_drafted, f_noted, f_trials, nI m, f_classes, nA p, nA kd, nA mn, nA pt, a_value, nA tr, a_left, a_right, a_draft, a_stands, a_testX, a_testY, a_triggerX, a_triggerY, a_ends, a_notes, a_oldUsed, a_oldRoots, a_oldAsked, a_oldStands, a_oldTestX, a_oldTestY, a_oldTriggerX, a_oldTriggerY, a_oldEnds, a_oldTrailed, a_oldNoted, a_met, a_classOf, a_finer, a_image, a_seen, a_stack, a_deep, a_company, a_greeted)) : ∀ n h m mt st a_met a_seen a_stack, h + 4 * (48 - m) < n → h ≤ 1 + 2 * m → GI (xv (uB used) T kd mn pt a_value) x m mt h st → Ar a_met mt m → Ar a_stack st h → (∀ y, y < 48 → (a_seen y = 0 ↔ ¬ ∃ i, i < m ∧ mt i = y)) → wX_gather_39 post used f_roots f_asked (nI tn) f_bound f_pairs f_drafted f_noted f_trials f_classes n (nI h) (nI m) (nA p) (nA kd) (nA mn) (nA pt) a_value (nA tr) a_left a_right a_draft a_stands a_testX a_testY a_triggerX a_triggerY a_ends a_notes a_oldUsed a_oldRoots a_oldAsked a_oldStands a_oldTestX a_oldTestY a_oldTriggerX a_oldTriggerY a_oldEnds a_oldTrailed a_oldNoted a_met a_classOf a_finer a_image a_seen a_stack a_deep a_company a_greeted := by
  have W : VW (xv (uB used) T kd mn pt a_value) := xv_W F D
  intro n
  induction n with
  | zero => intro h _ _ _ _ _ _ hn; omega
  | succ n ih =>
    intro h m mt st a_met a_seen a_stack hn hh g hm hs hsn
    have m48 := gi_le W (x := x) hx g
    cases h with
    | zero => exact wh_t (a := 0) (b := 0) (by omega) (H m mt a_met a_seen a_stack (gi_end W (x := x) hx g) hm)
    | succ h =>
      have gh := g.2.2.1 h (by omega)
      have hU : uB used (st h) := gh.1
      have lt := fo_lt F (fo_T F hU)
      have dt := D (T (st h)) (fo_T F hU) (fo_pT F hU)
      have eTT : T (T (st h)) = T (st h) := fo_TT F hU
      have eM : cM (xv (uB used) T kd mn pt a_value) (T (st h)) = if kd (T (st h)) = 2 then mn (T (st h)) else 0 := by rw [xv_M, eTT]
      have m3 := vw_M W (x := T (st h)) (fo_T F hU)
      have eP : ∀ k, cP (xv (uB used) T kd mn pt a_value) (T (st h)) k = pt (3 * T (st h) + k) := fun k => by rw [xv_P, eTT]
      refine wh_f (a := h + 1) (b := 0) (by omega) (nmr (nI h) (pk_m1 h) ⟨in_n (by omega), ?_⟩)
      rw [cl_n (k := h), hs h (by omega)]
      refine xw_top F hU ⟨in_n lt, ?_⟩
      rw [cl_n (k := T (st h)), cl_n (k := m)]
      by_cases e : a_seen (T (st h)) = 0
      · have hnew := (hsn _ lt).1 e
        have hm47 : m < 48 := by
          have := gi_le W (x := x) hx (gi_new W (x := x) (st' := fun j => if j < h then st j else cP (xv (uB used) T kd mn pt a_value) (T (st h)) (j - h)) hx g hnew (fun j hj => if_pos hj) fun k _ => by
            show (if h + k < h then st (h + k) else cP (xv (uB used) T kd mn pt a_value) (T (st h)) (h + k - h)) = cP (xv (uB used) T kd mn pt a_value) (T (st h)) k
            rw [if_neg (by omega), show h + k - h = k by omega])
          omega
        refine br_t e ⟨in_n lt, nmr (upd a_seen (T (st h)) 1) (by rw [vz_1]) (up1 ⟨in_n hm47, nmr (upd a_met m (nI (T (st h)))) (by rw [vb_2 (by omega)]) (Exists.intro 4 ?_)⟩)⟩
        refine xw_gather97 (f_mets := nI (m + 1)) (st0 := st) (M := cM (xv (uB used) T kd mn pt a_value) (T (st h))) lt dt.1 eM m3 (by omega) (fun j hj => by rw [← eP]; exact fo_lt F (vw_P W (x := T (st h)) (fo_T F hU) hj)) ?_ 4 0 a_stack st (by omega) (by omega) (ar_le hs (by omega)) (fun _ _ => rfl) (fun i hi => absurd hi (by omega))
        intro a_stack' st' ha hlo hhi
        refine ih (h + cM (xv (uB used) T kd mn pt a_value) (T (st h))) (m + 1) (un mt m (T (st h))) st' _ _ a_stack' (by omega) (by omega) (gi_new W (x := x) hx g hnew hlo fun k hk => by rw [hhi k hk]; exact (eP k).symm) (ar_push hm) ha (fun y hy => ?_)
        by_cases z : y = T (st h)
        · rw [z, pk_us]
          exact ⟨fun q => absurd q (by decide), fun q => absurd ⟨m, by omega, un_s⟩ q⟩
        · rw [pk_un z, hsn y hy]
          refine not_congr ⟨fun ⟨i, hi, q⟩ => ⟨i, by omega, by rw [un_n (by omega)]; exact q⟩, fun ⟨i, hi, q⟩ => ?_⟩
          by_cases z2 : i = m
          · rw [z2, un_s] at q; exact absurd q.symm z
          · rw [un_n z2] at q; exact ⟨i, by omega, q⟩
      · refine br_f e ?_
        have hold : ∃ i, i < m ∧ mt i = T (st h) := Classical.not_not.1 fun q => e ((hsn _ lt).2 q)
        exact ih h m mt st a_met a_seen a_stack (by omega) (by omega) (gi_skip g hold) hm (ar_le hs (by omega)) hsn
theorem xw_gather2 {post : SX → Prop} {x : Nat} (F : Fo (uB used) p T rk) (D : XD (uB used) p kd mn pt) (hx : uB used x) (H : ∀ m mt a_met a_seen a_stack, GOK (xv (uB used) T kd mn pt a_value) x m mt → Ar a_met mt m → post (used, f_roots, f_asked, nI tn, f_bound, f_pairs, f_drafted, f_noted, f_trials, nI m, f_classes, nA p, nA kd, nA mn, nA pt, a_value, nA tr, a_left, a_right, a_draft, a_stands, a_testX, a_testY, a_triggerX, a_triggerY, a_ends, a_notes, a_oldUsed, a_oldRoots, a_oldAsked, a_oldStands, a_oldTestX, a_oldTestY, a_oldTriggerX, a_oldTriggerY, a_oldEnds, a_oldTrailed, a_oldNoted, a_met, a_classOf, a_finer, a_image, a_seen, a_stack, a_deep, a_company, a_greeted)) : ∀ n k a_seen, k ≤ 48 → 48 - k < n → (∀ y, y < k → a_seen y = 0) → wX_gather_2 post (nI x) used f_roots f_asked (nI tn) f_bound f_pairs f_drafted f_noted f_trials f_mets f_classes n (nI k) (nA p) (nA kd) (nA mn) (nA pt) a_value (nA tr) a_left a_right a_draft a_stands a_testX a_testY a_triggerX a_triggerY a_ends a_notes a_oldUsed a_oldRoots a_oldAsked a_oldStands a_oldTestX a_oldTestY a_oldTriggerX a_oldTriggerY a_oldEnds a_oldTrailed a_oldNoted a_met a_classOf a_finer a_image a_seen a_stack a_deep a_company a_greeted := by
  have lx := fo_lt F hx
  intro n
  induction n with
  | zero => intro k _ _ h; omega
  | succ n ih =>
    intro k a_seen hk hn hs
    by_cases e : k = 48
    · subst e
      refine wh_t (a := 48) (b := 48) (by omega) (nmr (nI 1) (by decide) (nmr (upd a_stack 0 (nI x)) (by rw [vb_2 (by omega)]) (Exists.intro 194 ?_)))
      refine xw_gather39 F D hx H 194 1 0 (fun _ => 0) (fun _ => x) a_met a_seen _ (by omega) (by omega) ⟨fun i hi => absurd hi (by omega), fun i j hi => absurd hi (by omega), fun j hj => ⟨hx, rc_0 _ _⟩, fun i hi => absurd hi (by omega), Or.inr ⟨0, by omega, rfl⟩⟩ ar_0 (fun i hi => by rw [show i = 0 by omega, pk_us]) (fun y hy => ⟨fun _ ⟨i, hi, _⟩ => absurd hi (by omega), fun _ => hs y hy⟩)
    · refine wh_f (a := 48) (b := k) (by omega) ?_
      rw [cl_n (k := k), vz_0]
      refine ⟨in_n (by omega), nm_e (up1 (ih (k + 1) _ (by omega) (by omega) fun y hy => ?_))⟩
      by_cases z : y = k
      · rw [z, pk_us]
      · rw [pk_un z]; exact hs y (by omega)
theorem xw_gather {post : SX → Prop} {x : Nat} (F : Fo (uB used) p T rk) (D : XD (uB used) p kd mn pt) (hx : uB used x) (H : ∀ m mt a_met a_seen a_stack, GOK (xv (uB used) T kd mn pt a_value) x m mt → Ar a_met mt m → post (used, f_roots, f_asked, nI tn, f_bound, f_pairs, f_drafted, f_noted, f_trials, nI m, f_classes, nA p, nA kd, nA mn, nA pt, a_value, nA tr, a_left, a_right, a_draft, a_stands, a_testX, a_testY, a_triggerX, a_triggerY, a_ends, a_notes, a_oldUsed, a_oldRoots, a_oldAsked, a_oldStands, a_oldTestX, a_oldTestY, a_oldTriggerX, a_oldTriggerY, a_oldEnds, a_oldTrailed, a_oldNoted, a_met, a_classOf, a_finer, a_image, a_seen, a_stack, a_deep, a_company, a_greeted)) : wpX_gather post (used, f_roots, f_asked, nI tn, f_bound, f_pairs, f_drafted, f_noted, f_trials, f_mets, f_classes, nA p, nA kd, nA mn, nA pt, a_value, nA tr, a_left, a_right, a_draft, a_stands, a_testX, a_testY, a_triggerX, a_triggerY, a_ends, a_notes, a_oldUsed, a_oldRoots, a_oldAsked, a_oldStands, a_oldTestX, a_oldTestY, a_oldTriggerX, a_oldTriggerY, a_oldEnds, a_oldTrailed, a_oldNoted, a_met, a_classOf, a_finer, a_image, a_seen, a_stack, a_deep, a_company, a_greeted) (nI x) := Exists.intro 49 (xw_gather2 F D hx H 49 0 a_seen (by omega) (by omega) fun y hy => absurd hy (by omega))
end
end
section
/-! classes of what is alike: pure part, isLike -/
/-- two topmost ones cannot be told apart by what they are and the classes of their parts -/
def Like (c : Vw) (co : Nat → Nat) (a b : Nat) : Prop := (cK c a = 0 ∨ cK c b = 0 → a = b) ∧ (cK c a ≠ 0 → cK c b ≠ 0 → co a = co b ∧ Same c a b ∧ ∀ k, k < cM c a → co (cT c (cP c a k)) = co (cT c (cP c b k)))
theorem like_r {c : Vw} {co : Nat → Nat} (a : Nat) : Like c co a a := ⟨fun _ => rfl, fun _ _ => ⟨rfl, ⟨rfl, rfl, rfl⟩, fun _ _ => rfl⟩⟩
theorem like_s {c : Vw} {co : Nat → Nat} {a b : Nat} (h : Like c co a b) : Like c co b a :=
  ⟨fun z => (h.1 z.symm).symm, fun k1 k2 => ⟨(h.2 k2 k1).1.symm, same_s (h.2 k2 k1).2.1, fun k hk => ((h.2 k2 k1).2.2 k (by rw [(h.2 k2 k1).2.1.2.2]; exact hk)).symm⟩⟩
theorem like_t {c : Vw} {co : Nat → Nat} {a b d : Nat} (h : Like c co a b) (g : Like c co b d) : Like c co a d := by
  by_cases ka : cK c a = 0
  · rw [h.1 (Or.inl ka)]; exact g
  · by_cases kb : cK c b = 0
    · rw [h.1 (Or.inr kb)]; exact g
    · by_cases kd : cK c d = 0
      · rw [← g.1 (Or.inr kd)]; exact h
      · have h2 := h.2 ka kb
        have g2 := g.2 kb kd
        exact ⟨fun z => z.elim (fun z => absurd z ka) fun z => absurd z kd, fun _ _ => ⟨h2.1.trans g2.1, same_t h2.2.1 g2.2.1, fun k hk => (h2.2.2 k hk).trans (g2.2.2 k (by rw [← h2.2.1.2.2]; exact hk))⟩⟩
theorem like_co {c : Vw} {co : Nat → Nat} {a b : Nat} (h : Like c co a b) : co a = co b := by
  by_cases ka : cK c a = 0
  · rw [h.1 (Or.inl ka)]
  · by_cases kb : cK c b = 0
    · rw [h.1 (Or.inr kb)]
    · exact (h.2 ka kb).1
/-- classes of what is met: n of them, coarser than what is alike -/
def CO (c : Vw) (m : Nat) (mt : Nat → Nat) (n : Nat) (co : Nat → Nat) : Prop := (∀ i, i < m → co (mt i) < n) ∧ (∀ q, q < n → ∃ i, i < m ∧ co (mt i) = q) ∧ ∀ i j, i < m → j < m → Alike c (mt i) (mt j) → co (mt i) = co (mt j)
/-- the next, finer ones -/
def FN (c : Vw) (mt : Nat → Nat) (co : Nat → Nat) (i cl : Nat) (fi : Nat → Nat) : Prop := (∀ a, a < i → fi a < cl) ∧ (∀ q, q < cl → ∃ a, a < i ∧ fi a = q) ∧ ∀ a b, a < i → b < i → (fi a = fi b ↔ Like c co (mt a) (mt b))
theorem fn_old {c : Vw} {mt co fi : Nat → Nat} {i cl j : Nat} (h : FN c mt co i cl fi) (hj : j < i) (hl : Like c co (mt i) (mt j)) : FN c mt co (i + 1) cl (un fi i (fi j)) := by
  obtain ⟨h1, h2, h3⟩ := h
  refine ⟨fun a ha => ?_, fun q hq => ?_, fun a b ha hb => ?_⟩
  · by_cases e : a = i
    · rw [e, un_s]; exact h1 j hj
    · rw [un_n e]; exact h1 a (by omega)
  · obtain ⟨a, ha, e⟩ := h2 q hq
    exact ⟨a, by omega, by rw [un_n (by omega)]; exact e⟩
  · by_cases ea : a = i
    · by_cases eb : b = i
      · rw [ea, eb]; exact ⟨fun _ => like_r _, fun _ => rfl⟩
      · rw [ea, un_s, un_n eb, h3 j b hj (by omega)]
        exact ⟨fun z => like_t hl z, fun z => like_t (like_s hl) z⟩
    · by_cases eb : b = i
      · rw [eb, un_s, un_n ea, h3 a j (by omega) hj]
        exact ⟨fun z => like_t z (like_s hl), fun z => like_t z hl⟩
      · rw [un_n ea, un_n eb]; exact h3 a b (by omega) (by omega)
theorem fn_new {c : Vw} {mt co fi : Nat → Nat} {i cl : Nat} (h : FN c mt co i cl fi) (hl : ∀ j, j < i → ¬ Like c co (mt i) (mt j)) : FN c mt co (i + 1) (cl + 1) (un fi i cl) := by
  obtain ⟨h1, h2, h3⟩ := h
  refine ⟨fun a ha => ?_, fun q hq => ?_, fun a b ha hb => ?_⟩
  · by_cases e : a = i
    · rw [e, un_s]; omega
    · rw [un_n e]; have := h1 a (by omega); omega
  · by_cases e : q = cl
    · exact ⟨i, by omega, by rw [un_s, e]⟩
    · obtain ⟨a, ha, e⟩ := h2 q (by omega)
      exact ⟨a, by omega, by rw [un_n (by omega)]; exact e⟩
  · by_cases ea : a = i
    · by_cases eb : b = i
      · rw [ea, eb]; exact ⟨fun _ => like_r _, fun _ => rfl⟩
      · rw [ea, un_s, un_n eb]
        exact ⟨fun z => by have := h1 b (by omega); omega, fun z => absurd z (hl b (by omega))⟩
    · by_cases eb : b = i
      · rw [eb, un_s, un_n ea]
        exact ⟨fun z => by have := h1 a (by omega); omega, fun z => absurd (like_s z) (hl a (by omega))⟩
      · rw [un_n ea, un_n eb]; exact h3 a b (by omega) (by omega)
theorem fn_le {c : Vw} {mt co fi : Nat → Nat} {i cl : Nat} (h : FN c mt co i cl fi) : cl ≤ i := by
  have he : ∀ q, ∃ a, q < cl → a < i ∧ fi a = q := by
    intro q
    by_cases e : q < cl
    · obtain ⟨a, ha⟩ := h.2.1 q e
      exact ⟨a, fun _ => ha⟩
    · exact ⟨0, fun z => absurd z e⟩
  have hE := fun q => Classical.choose_spec (he q)
  refine inj_le cl i (fun q => Classical.choose (he q)) (fun q hq => (hE q hq).1) (fun q q' hq hq' e => ?_)
  rw [← (hE q hq).2, ← (hE q' hq').2]
  exact congrArg fi e
/-- one round more -/
theorem co_next {c : Vw} (W : VW c) {x m : Nat} {mt co co' fi : Nat → Nat} {n n' : Nat} (hx : cU c x) (hg : GOK c x m mt) (hc : CO c m mt n co) (hf : FN c mt co m n' fi) (he : ∀ i, i < m → co' (mt i) = fi i) : CO c m mt n' co' ∧ n ≤ n' ∧ (n = n' → ∀ i j, i < m → j < m → co' (mt i) = co' (mt j) → Like c co' (mt i) (mt j)) := by
  obtain ⟨g0, _, g1, g2, g3⟩ := hg
  obtain ⟨c1, c2, c3⟩ := hc
  obtain ⟨f1, f2, f3⟩ := hf
  have hU : ∀ i, i < m → cU c (mt i) ∧ cT c (mt i) = mt i := fun i hi => rc_U W hx (g1 i hi)
  have part : ∀ i, i < m → ∀ k, k < cM c (mt i) → ∃ i', i' < m ∧ mt i' = cT c (cP c (mt i) k) := fun i hi k hk => g3 _ (rc_s (g1 i hi) hk)
  have alk : ∀ i j, i < m → j < m → Alike c (mt i) (mt j) → Like c co (mt i) (mt j) := by
    intro i j hi hj h
    refine ⟨fun z => ?_, fun ki kj => ⟨c3 i j hi hj h, al_same W h, fun k hk => ?_⟩⟩
    · have : cT c (mt i) = cT c (mt j) := by
        rcases z with z | z
        · exact al_free h z
        · exact (al_free (al_s h) z).symm
      rw [(hU i hi).2, (hU j hj).2] at this
      exact this
    · obtain ⟨a, ha, ea⟩ := part i hi k hk
      have hk' : k < cM c (mt j) := by rw [← (al_same W h).2.2]; exact hk
      obtain ⟨b, hb, eb⟩ := part j hj k hk'
      have pU := vw_P W (hU i hi).1 hk
      have qU := vw_P W (hU j hj).1 hk'
      rw [← ea, ← eb]
      refine c3 a b ha hb ?_
      rw [ea, eb]
      exact al_l W (vw_T W pU) (vw_TT W pU) (al_rr W (vw_T W qU) (vw_TT W qU).symm (al_p W h hk))
  have ref : ∀ i j, i < m → j < m → fi i = fi j → co (mt i) = co (mt j) := fun i j hi hj e => like_co ((f3 i j hi hj).1 e)
  have rep : ∀ q, ∃ i, q < n → i < m ∧ co (mt i) = q := by
    intro q
    by_cases e : q < n
    · obtain ⟨i, hi⟩ := c2 q e
      exact ⟨i, fun _ => hi⟩
    · exact ⟨0, fun z => absurd z e⟩
  have hR := fun q => Classical.choose_spec (rep q)
  have hle : n ≤ n' := by
    refine inj_le n n' (fun q => fi (Classical.choose (rep q))) (fun q hq => f1 _ (hR q hq).1) (fun q q' hq hq' e => ?_)
    rw [← (hR q hq).2, ← (hR q' hq').2]
    exact ref _ _ (hR q hq).1 (hR q' hq').1 e
  refine ⟨⟨fun i hi => by rw [he i hi]; exact f1 i hi, fun q hq => ?_, fun i j hi hj h => ?_⟩, hle, fun en => ?_⟩
  · obtain ⟨a, ha, e⟩ := f2 q hq
    exact ⟨a, ha, by rw [he a ha]; exact e⟩
  · rw [he i hi, he j hj]
    exact (f3 i j hi hj).2 (alk i j hi hj h)
  · subst en
    have rep' : ∀ q, ∃ i, q < n → i < m ∧ fi i = q := by
      intro q
      by_cases e : q < n
      · obtain ⟨i, hi⟩ := f2 q e
        exact ⟨i, fun _ => hi⟩
      · exact ⟨0, fun z => absurd z e⟩
    have hR' := fun q => Classical.choose_spec (rep' q)
    have inj := onto_inj (n := n) (f := fun q => co (mt (Classical.choose (rep' q)))) (fun q hq => c1 _ (hR' q hq).1) (fun q hq => by
      refine ⟨fi (Classical.choose (rep q)), f1 _ (hR q hq).1, ?_⟩
      have a := hR q hq
      have b := hR' (fi (Classical.choose (rep q))) (f1 _ a.1)
      show co (mt (Classical.choose (rep' (fi (Classical.choose (rep q)))))) = q
      rw [ref _ _ b.1 a.1 b.2]; exact a.2)
    have back : ∀ i j, i < m → j < m → co (mt i) = co (mt j) → fi i = fi j := by
      intro i j hi hj e
      have a := hR' (fi i) (f1 i hi)
      have b := hR' (fi j) (f1 j hj)
      refine inj _ _ (f1 i hi) (f1 j hj) ?_
      show co (mt (Classical.choose (rep' (fi i)))) = co (mt (Classical.choose (rep' (fi j))))
      rw [ref _ _ a.1 hi a.2, ref _ _ b.1 hj b.2]; exact e
    intro i j hi hj e
    rw [he i hi, he j hj] at e
    have l := (f3 i j hi hj).1 e
    refine ⟨l.1, fun ki kj => ?_⟩
    have l2 := l.2 ki kj
    refine ⟨by rw [he i hi, he j hj]; exact e, l2.2.1, fun k hk => ?_⟩
    obtain ⟨a, ha, ea⟩ := part i hi k hk
    obtain ⟨b, hb, eb⟩ := part j hj k (by rw [← l2.2.1.2.2]; exact hk)
    have := l2.2.2 k hk
    rw [← ea, ← eb] at this ⊢
    rw [he a ha, he b hb]
    exact back a b ha hb this
/-- at the end -/
theorem co_end {c : Vw} (W : VW c) {x m n : Nat} {mt co : Nat → Nat} (hx : cU c x) (hg : GOK c x m mt) (hc : CO c m mt n co) (hs : ∀ i j, i < m → j < m → co (mt i) = co (mt j) → Like c co (mt i) (mt j)) : ∀ i j, i < m → j < m → (co (mt i) = co (mt j) ↔ Alike c (mt i) (mt j)) := by
  obtain ⟨g0, _, g1, g2, g3⟩ := hg
  have hU : ∀ i, i < m → cU c (mt i) ∧ cT c (mt i) = mt i := fun i hi => rc_U W hx (g1 i hi)
  intro i j hi hj
  refine ⟨fun e => ?_, hc.2.2 i j hi hj⟩
  refine ⟨fun a b => cU c a ∧ cU c b ∧ ∃ i j, i < m ∧ j < m ∧ mt i = cT c a ∧ mt j = cT c b ∧ co (mt i) = co (mt j), ?_, (hU i hi).1, (hU j hj).1, i, j, hi, hj, (hU i hi).2.symm, (hU j hj).2.symm, e⟩
  intro a b ⟨ha, hb, i, j, hi, hj, ea, eb, e⟩
  refine ⟨ha, hb, ?_⟩
  have l := hs i j hi hj e
  have sa : Same c a (mt i) := by rw [ea]; exact same_T W ha (vw_T W ha) (vw_TT W ha).symm
  have sb : Same c b (mt j) := by rw [eb]; exact same_T W hb (vw_T W hb) (vw_TT W hb).symm
  by_cases k0 : cK c (mt i) = 0 ∨ cK c (mt j) = 0
  · exact Or.inl (by rw [← ea, ← eb]; exact l.1 k0)
  · have ki : cK c (mt i) ≠ 0 := fun z => k0 (Or.inl z)
    have kj : cK c (mt j) ≠ 0 := fun z => k0 (Or.inr z)
    have l2 := l.2 ki kj
    refine Or.inr ⟨by rw [sa.1]; exact ki, same_t sa (same_t l2.2.1 (same_s sb)), fun k hk => ?_⟩
    have hk' : k < cM c (mt i) := by rw [← sa.2.2]; exact hk
    have hkj : k < cM c (mt j) := by rw [← l2.2.1.2.2]; exact hk'
    have pa : cP c (mt i) k = cP c a k := by rw [ea]; exact vw_eP W (vw_T W ha) ha (vw_TT W ha) k
    have pb : cP c (mt j) k = cP c b k := by rw [eb]; exact vw_eP W (vw_T W hb) hb (vw_TT W hb) k
    obtain ⟨i', hi', ei⟩ := g3 _ (rc_s (g1 i hi) hk')
    obtain ⟨j', hj', ej⟩ := g3 _ (rc_s (g1 j hj) hkj)
    rw [pa] at ei
    rw [pb] at ej
    have := l2.2.2 k hk'
    rw [pa, pb, ← ei, ← ej] at this
    exact ⟨vw_P W ha hk, vw_P W hb (by rw [sb.2.2]; exact hkj), i', j', hi', hj', ei, ej, this⟩
section
variable {f_used : Int64} {f_roots : Int64} {f_asked : Int64} {f_trailed : Int32} {f_bound : Int32} {f_pairs : Int32} {f_drafted : Int32} {f_noted : Int32} {f_trials : Int32} {f_mets : Int32} {f_classes : Int32} {a_up : Nat → Int32} {a_kind : Nat → Int32} {a_many : Nat → Int32} {a_parts : Nat → Int32} {a_value : Nat → Int32} {a_trail : Nat → Int32} {a_left : Nat → Int32} {a_right : Nat → Int32} {a_draft : Nat → Int32} {a_stands : Nat → Int32} {a_testX : Nat → Int32} {a_testY : Nat → Int32} {a_triggerX : Nat → Int32} {a_triggerY : Nat → Int32} {a_ends : Nat → Int32} {a_notes : Nat → Int32} {a_oldUsed : Nat → Int64} {a_oldRoots : Nat → Int64} {a_oldAsked : Nat → Int64} {a_oldStands : Nat → Int32} {a_oldTestX : Nat → Int32} {a_oldTestY : Nat → Int32} {a_oldTriggerX : Nat → Int32} {a_oldTriggerY : Nat → Int32} {a_oldEnds : Nat → Int32} {a_oldTrailed : Nat → Int32} {a_oldNoted : Nat → Int32} {a_met : Nat → Int32} {a_classOf : Nat → Int32} {a_finer : Nat → Int32} {a_image : Nat → Int32} {a_seen : Nat → Int32} {a_stack : Nat → Int32} {a_deep : Nat → Int32} {a_company : Nat → Int64} {a_greeted : Nat → Int64}
variable {p kd mn pt tr T rk co : Nat → Nat} {tn m : Nat} {used : Int64}
theorem xw_like57 {post : Int32 → Prop} (F : Fo (uB used) p T rk) (D : XD (uB used) p kd mn pt) {a b M : Nat} (ha : uB used a) (hb : uB used b) (ea : T a = a) (eb : T b = b) (eM : M = if kd a = 2 then mn a else 0) (hM : M ≤ 3) (k2 : kd a ≤ 2) (hpa : ∀ k, k < M → uB used (pt (3 * a + k)) ∧ uB used (pt (3 * b + k)) ∧ a_classOf (T (pt (3 * a + k))) = nI (co (T (pt (3 * a + k)))) ∧ co (T (pt (3 * a + k))) < 48 ∧ a_classOf (T (pt (3 * b + k))) = nI (co (T (pt (3 * b + k)))) ∧ co (T (pt (3 * b + k))) < 48) (h1 : (∀ k, k < M → co (T (pt (3 * a + k))) = co (T (pt (3 * b + k)))) → post 1) (h0 : (∃ k, k < M ∧ ¬ co (T (pt (3 * a + k))) = co (T (pt (3 * b + k)))) → post 0) : ∀ n k, k ≤ M → M - k < n → (∀ i, i < k → co (T (pt (3 * a + i))) = co (T (pt (3 * b + i)))) → wX_isLike_57 post (nI a) (nI b) used f_roots f_asked (nI tn) f_bound f_pairs f_drafted f_noted f_trials (nI m) f_classes (nA p) (nA kd) (nA mn) (nA pt) a_value (nA tr) a_left a_right a_draft a_stands a_testX a_testY a_triggerX a_triggerY a_ends a_notes a_oldUsed a_oldRoots a_oldAsked a_oldStands a_oldTestX a_oldTestY a_oldTriggerX a_oldTriggerY a_oldEnds a_oldTrailed a_oldNoted a_met a_classOf a_finer a_image a_seen a_stack a_deep a_company a_greeted n (nI k) := by
  have la := fo_lt F ha
  have lb := fo_lt F hb
  intro n
  induction n with
  | zero => intro k _ h; omega
  | succ n ih =>
    intro k hk hn hl
    show vp_in (nI a) 48 ∧ _
    rw [cl_n (k := a), nA_e, nA_e]
    refine ⟨in_n la, ?_⟩
    by_cases e2 : kd a = 2
    · rw [if_pos e2] at eM
      rw [← eM]
      by_cases e : k = M
      · have e3 := e.symm
        subst e3
        exact wh_t (a := M) (b := M) (by omega) (h1 hl)
      · obtain ⟨pa, pb, c1, c2, c3, c4⟩ := hpa k (by omega)
        have l1 := fo_lt F (fo_T F pa)
        have l2 := fo_lt F (fo_T F pb)
        refine wh_f (a := M) (b := k) (by omega) ⟨in_n la, br_t (by rw [e2]; rfl) ?_⟩
        rw [tri, tri, cl_n (k := 3 * a + k), cl_n (k := 3 * b + k), nA_e, nA_e]
        refine ⟨in_n (by omega), xw_top F pa ⟨in_n (by omega), xw_top F pb ⟨in_n l1, in_n l2, ?_⟩⟩⟩
        rw [cl_n (k := T (pt (3 * a + k))), cl_n (k := T (pt (3 * b + k))), c1, c3]
        refine br_c (fun z => up1 (ih (k + 1) (by omega) (by omega) fun i hi => ?_)) fun z => h0 ⟨k, by omega, fun q => z (by rw [q])⟩
        by_cases z2 : i = k
        · rw [z2]; exact nI_inj z
        · exact hl i (by omega)
    · rw [if_neg e2] at eM
      subst eM
      have : k = 0 := by omega
      subst this
      exact br_c (fun _ => h1 fun i hi => absurd hi (by omega)) fun _ => ⟨in_n la, br_f (fun z => e2 (nI_inj (b := 2) z)) (h1 fun i hi => absurd hi (by omega))⟩
theorem xw_isLike {post : Int32 → Prop} (F : Fo (uB used) p T rk) (D : XD (uB used) p kd mn pt) {a b x : Nat} {mt : Nat → Nat} (hx : uB used x) (hg : GOK (xv (uB used) T kd mn pt a_value) x m mt) (hco : ∀ i, i < m → a_classOf (mt i) = nI (co (mt i)) ∧ co (mt i) < 48) (ha : ∃ i, i < m ∧ mt i = a) (hb : ∃ i, i < m ∧ mt i = b) (h1 : Like (xv (uB used) T kd mn pt a_value) co a b → post 1) (h0 : ¬ Like (xv (uB used) T kd mn pt a_value) co a b → post 0) : wpX_isLike post (used, f_roots, f_asked, nI tn, f_bound, f_pairs, f_drafted, f_noted, f_trials, nI m, f_classes, nA p, nA kd, nA mn, nA pt, a_value, nA tr, a_left, a_right, a_draft, a_stands, a_testX, a_testY, a_triggerX, a_triggerY, a_ends, a_notes, a_oldUsed, a_oldRoots, a_oldAsked, a_oldStands, a_oldTestX, a_oldTestY, a_oldTriggerX, a_oldTriggerY, a_oldEnds, a_oldTrailed, a_oldNoted, a_met, a_classOf, a_finer, a_image, a_seen, a_stack, a_deep, a_company, a_greeted) (nI a) (nI b) := by
  have W : VW (xv (uB used) T kd mn pt a_value) := xv_W F D
  obtain ⟨ia, hia, ea⟩ := ha
  obtain ⟨ib, hib, eb⟩ := hb
  have ra := rc_U W (x := x) hx (hg.2.2.1 ia hia)
  have rb := rc_U W (x := x) hx (hg.2.2.1 ib hib)
  have rra := hg.2.2.1 ia hia
  have rrb := hg.2.2.1 ib hib
  have ca := hco ia hia
  have cb := hco ib hib
  rw [ea] at ra rra ca
  rw [eb] at rb rrb cb
  have aU : uB used a := ra.1
  have bU : uB used b := rb.1
  have aT : T a = a := ra.2
  have bT : T b = b := rb.2
  have la := fo_lt F aU
  have lb := fo_lt F bU
  have da := D a aU (fo_topI F aU aT)
  have db := D b bU (fo_topI F bU bT)
  have eKa : cK (xv (uB used) T kd mn pt a_value) a = kd a := by rw [xv_K, aT]
  have eKb : cK (xv (uB used) T kd mn pt a_value) b = kd b := by rw [xv_K, bT]
  have e18 : (cK (xv (uB used) T kd mn pt a_value) a = 0 ∨ cK (xv (uB used) T kd mn pt a_value) b = 0) → wX_isLike_18 post (nI a) (nI b) used f_roots f_asked (nI tn) f_bound f_pairs f_drafted f_noted f_trials (nI m) f_classes (nA p) (nA kd) (nA mn) (nA pt) a_value (nA tr) a_left a_right a_draft a_stands a_testX a_testY a_triggerX a_triggerY a_ends a_notes a_oldUsed a_oldRoots a_oldAsked a_oldStands a_oldTestX a_oldTestY a_oldTriggerX a_oldTriggerY a_oldEnds a_oldTrailed a_oldNoted a_met a_classOf a_finer a_image a_seen a_stack a_deep a_company a_greeted := by
    intro z
    refine And.intro (fun e => h1 ?_) fun e => h0 fun l => e (by rw [l.1 z])
    have : a = b := nI_inj e
    rw [this]; exact like_r b
  show vp_in (nI a) 48 ∧ _
  rw [cl_n (k := a), cl_n (k := b), nA_e, nA_e]
  refine ⟨in_n la, ?_⟩
  by_cases ka : kd a = 0
  · exact br_t (by rw [ka]; rfl) (e18 (Or.inl (by rw [eKa]; exact ka)))
  · refine br_f (fun z => ka (nI_inj (b := 0) z)) ⟨in_n lb, ?_⟩
    by_cases kb : kd b = 0
    · exact br_t (by rw [kb]; rfl) (e18 (Or.inr (by rw [eKb]; exact kb)))
    · have nka : cK (xv (uB used) T kd mn pt a_value) a ≠ 0 := by rw [eKa]; exact ka
      have nkb : cK (xv (uB used) T kd mn pt a_value) b ≠ 0 := by rw [eKb]; exact kb
      refine br_f (fun z => kb (nI_inj (b := 0) z)) ⟨in_n la, in_n lb, ?_⟩
      rw [ca.1, cb.1]
      by_cases ec : co a = co b
      · refine br_t (by rw [ec]) ?_
        have hss := such_same (val := a_value) F D aU bU aT bT ka
        refine xw_isSuch la lb (fun hs => br_f (by decide) (Exists.intro 4 ?_)) (fun hs => br_t rfl (h0 fun l => hs (hss.2 (l.2 nka nkb).2.1)))
        have hS := hss.1 hs
        have eM : cM (xv (uB used) T kd mn pt a_value) a = if kd a = 2 then mn a else 0 := by rw [xv_M, aT]
        have eMb : cM (xv (uB used) T kd mn pt a_value) b = cM (xv (uB used) T kd mn pt a_value) a := hS.2.2.symm
        have m3 := vw_M W (x := a) aU
        have ePa : ∀ k, cP (xv (uB used) T kd mn pt a_value) a k = pt (3 * a + k) := fun k => by rw [xv_P, aT]
        have ePb : ∀ k, cP (xv (uB used) T kd mn pt a_value) b k = pt (3 * b + k) := fun k => by rw [xv_P, bT]
        refine xw_like57 (co := co) (M := cM (xv (uB used) T kd mn pt a_value) a) F D aU bU aT bT eM m3 da.1 (fun k hk => ?_) (fun hl => h1 ⟨fun z => z.elim (fun z => absurd z nka) fun z => absurd z nkb, fun _ _ => ⟨ec, hS, fun k hk => ?_⟩⟩) (fun ⟨k, hk, hn⟩ => h0 fun l => hn ?_) 4 0 (by omega) (by omega) fun i hi => absurd hi (by omega)
        · have pa := vw_P W (x := a) aU hk
          have pb := vw_P W (x := b) bU (k := k) (by rw [eMb]; exact hk)
          obtain ⟨i, hi, ei⟩ := hg.2.2.2.2 _ (rc_s rra hk)
          obtain ⟨j, hj, ej⟩ := hg.2.2.2.2 _ (rc_s rrb (k := k) (by rw [eMb]; exact hk))
          have qi := hco i hi
          have qj := hco j hj
          rw [ei] at qi
          rw [ej] at qj
          rw [ePa] at pa qi
          rw [ePb] at pb qj
          exact ⟨pa, pb, qi.1, qi.2, qj.1, qj.2⟩
        · rw [ePa, ePb]; exact hl k hk
        · have := (l.2 nka nkb).2.2 k hk
          rw [ePa, ePb] at this
          exact this
      · exact br_f (fun z => ec (nI_inj z)) (h0 fun l => ec (like_co l))
end
end
section
/-! classes of what is alike: the walk -/
/-- the classes, when they are ready -/
def CLS (c : Vw) (x m : Nat) (mt : Nat → Nat) (n : Nat) (co : Nat → Nat) : Prop := GOK c x m mt ∧ (∀ i, i < m → co (mt i) < n) ∧ n ≤ m ∧ (∀ q, q < n → ∃ i, i < m ∧ co (mt i) = q) ∧ ∀ i j, i < m → j < m → (co (mt i) = co (mt j) ↔ Alike c (mt i) (mt j))
section
variable {f_used : Int64} {f_roots : Int64} {f_asked : Int64} {f_trailed : Int32} {f_bound : Int32} {f_pairs : Int32} {f_drafted : Int32} {f_noted : Int32} {f_trials : Int32} {f_mets : Int32} {f_classes : Int32} {a_up : Nat → Int32} {a_kind : Nat → Int32} {a_many : Nat → Int32} {a_parts : Nat → Int32} {a_value : Nat → Int32} {a_trail : Nat → Int32} {a_left : Nat → Int32} {a_right : Nat → Int32} {a_draft : Nat → Int32} {a_stands : Nat → Int32} {a_testX : Nat → Int32} {a_testY : Nat → Int32} {a_triggerX : Nat → Int32} {a_triggerY : Nat → Int32} {a_ends : Nat → Int32} {a_notes : Nat → Int32} {a_oldUsed : Nat → Int64} {a_oldRoots : Nat → Int64} {a_oldAsked : Nat → Int64} {a_oldStands : Nat → Int32} {a_oldTestX : Nat → Int32} {a_oldTestY : Nat → Int32} {a_oldTriggerX : Nat → Int32} {a_oldTriggerY : Nat → Int32} {a_oldEnds : Nat → Int32} {a_oldTrailed : Nat → Int32} {a_oldNoted : Nat → Int32} {a_met : Nat → Int32} {a_classOf : Nat → Int32} {a_finer : Nat → Int32} {a_image : Nat → Int32} {a_seen : Nat → Int32} {a_stack : Nat → Int32} {a_deep : Nat → Int32} {a_company : Nat → Int64} {a_greeted : Nat → Int64}
variable {p kd mn pt tr T rk co mt : Nat → Nat} {tn m x : Nat} {used : Int64}
theorem xw_cls154 {post : SX → Prop} {J40 : Int32 → Int32 → (Nat → Int32) → (Nat → Int32) → (Nat → Int32) → (Nat → Int32) → (Nat → Int32) → (Nat → Int32) → (Nat → Int32) → (Nat → Int32) → (Nat → Int32) → (Nat → Int32) → (Nat → Int32) → (Nat → Int32) → (Nat → Int32) → (Nat → Int32) → (Nat → Int32) → (Nat → Int32) → (Nat → Int64) → (Nat → Int64) → (Nat → Int64) → (Nat → Int32) → (Nat → Int32) → (Nat → Int32) → (Nat → Int32) → (Nat → Int32) → (Nat → Int32) → (Nat → Int32) → (Nat → Int32) → (Nat → Int32) → (Nat → Int32) → (Nat → Int32) → (Nat → Int32) → (Nat → Int32) → (Nat → Int32) → (Nat → Int32) → (Nat → Int64) → (Nat → Int64) →  Prop} {x2 : Int32} {fi : Nat → Nat} (hm48 : m ≤ 48) (hmt : ∀ i, i < m → mt i < 48) (hinj : ∀ i j, i < m → j < m → mt i = mt j → i = j) (ha : Ar a_met mt m) (hf : Ar a_finer fi m) (hf48 : ∀ i, i < m → fi i < 48) (HJ : ∀ a_classOf, (∀ i, i < m → a_classOf (mt i) = nI (fi i)) → J40 x2 f_classes (nA p) (nA kd) (nA mn) (nA pt) a_value (nA tr) a_left a_right a_draft a_stands a_testX a_testY a_triggerX a_triggerY a_ends a_notes a_oldUsed a_oldRoots a_oldAsked a_oldStands a_oldTestX a_oldTestY a_oldTriggerX a_oldTriggerY a_oldEnds a_oldTrailed a_oldNoted a_met a_classOf a_finer a_image a_seen a_stack a_deep a_company a_greeted) : ∀ n i a_classOf, i ≤ m → m - i < n → (∀ a, a < i → a_classOf (mt a) = nI (fi a)) → wX_classify_154 post J40 x2 used f_roots f_asked (nI tn) f_bound f_pairs f_drafted f_noted f_trials (nI m) f_classes n (nI i) (nA p) (nA kd) (nA mn) (nA pt) a_value (nA tr) a_left a_right a_draft a_stands a_testX a_testY a_triggerX a_triggerY a_ends a_notes a_oldUsed a_oldRoots a_oldAsked a_oldStands a_oldTestX a_oldTestY a_oldTriggerX a_oldTriggerY a_oldEnds a_oldTrailed a_oldNoted a_met a_classOf a_finer a_image a_seen a_stack a_deep a_company a_greeted := by
  intro n
  induction n with
  | zero => intro i _ _ h; omega
  | succ n ih =>
    intro i a_classOf hi hn hl
    by_cases e : i = m
    · have e2 := e.symm
      subst e2
      exact wh_t (a := m) (b := m) (by omega) (HJ _ hl)
    · have l1 := hmt i (by omega)
      have l2 := hf48 i (by omega)
      refine wh_f (a := m) (b := i) (by omega) ?_
      rw [cl_n (k := i), ha i (by omega), hf i (by omega), cl_n (k := mt i), vb_k (by omega)]
      refine ⟨in_n (by omega), in_n (by omega), in_n l1, nm_e (up1 (ih (i + 1) _ (by omega) (by omega) fun a ha => ?_))⟩
      by_cases z : a = i
      · rw [z, pk_us]
      · rw [pk_un fun q => z (hinj a i (by omega) (by omega) q)]; exact hl a (by omega)
theorem xw_cls71 {post : SX → Prop} {J40 J60 : Int32 → Int32 → (Nat → Int32) → (Nat → Int32) → (Nat → Int32) → (Nat → Int32) → (Nat → Int32) → (Nat → Int32) → (Nat → Int32) → (Nat → Int32) → (Nat → Int32) → (Nat → Int32) → (Nat → Int32) → (Nat → Int32) → (Nat → Int32) → (Nat → Int32) → (Nat → Int32) → (Nat → Int32) → (Nat → Int64) → (Nat → Int64) → (Nat → Int64) → (Nat → Int32) → (Nat → Int32) → (Nat → Int32) → (Nat → Int32) → (Nat → Int32) → (Nat → Int32) → (Nat → Int32) → (Nat → Int32) → (Nat → Int32) → (Nat → Int32) → (Nat → Int32) → (Nat → Int32) → (Nat → Int32) → (Nat → Int32) → (Nat → Int32) → (Nat → Int64) → (Nat → Int64) →  Prop} {x2 : Int32} {i cl : Nat} {fi : Nat → Nat} (F : Fo (uB used) p T rk) (D : XD (uB used) p kd mn pt) (hx : uB used x) (hg : GOK (xv (uB used) T kd mn pt a_value) x m mt) (ha : Ar a_met mt m) (hco : ∀ i, i < m → a_classOf (mt i) = nI (co (mt i)) ∧ co (mt i) < 48) (hi : i < m) (hf : Ar a_finer fi i) (hF : FN (xv (uB used) T kd mn pt a_value) mt co i cl fi) (HJ : ∀ a_finer cl' fi', Ar a_finer fi' (i + 1) → FN (xv (uB used) T kd mn pt a_value) mt co (i + 1) cl' fi' → J60 (nI (i + 1)) (nI cl') (nA p) (nA kd) (nA mn) (nA pt) a_value (nA tr) a_left a_right a_draft a_stands a_testX a_testY a_triggerX a_triggerY a_ends a_notes a_oldUsed a_oldRoots a_oldAsked a_oldStands a_oldTestX a_oldTestY a_oldTriggerX a_oldTriggerY a_oldEnds a_oldTrailed a_oldNoted a_met a_classOf a_finer a_image a_seen a_stack a_deep a_company a_greeted) : ∀ n j, j ≤ i → i - j < n → (∀ a, a < j → ¬ Like (xv (uB used) T kd mn pt a_value) co (mt i) (mt a)) → wX_classify_71 post J40 J60 x2 (nI i) used f_roots f_asked (nI tn) f_bound f_pairs f_drafted f_noted f_trials (nI m) (nI cl) (nA p) (nA kd) (nA mn) (nA pt) a_value (nA tr) a_left a_right a_draft a_stands a_testX a_testY a_triggerX a_triggerY a_ends a_notes a_oldUsed a_oldRoots a_oldAsked a_oldStands a_oldTestX a_oldTestY a_oldTriggerX a_oldTriggerY a_oldEnds a_oldTrailed a_oldNoted a_met a_classOf a_finer a_image a_seen a_stack a_deep a_company a_greeted n (nI j) := by
  have m48 := hg.2.1
  have cli := fn_le hF
  intro n
  induction n with
  | zero => intro j _ h; omega
  | succ n ih =>
    intro j hj hn hl
    by_cases e : j = i
    · have e2 := e.symm
      subst e2
      refine wh_t (a := i) (b := i) (by omega) (And.intro (fun _ => ?_) fun z => absurd (Int32.le_refl _) z)
      refine And.intro (in_n (by omega)) (nmr (upd a_finer i (nI cl)) (by rw [vb_2 (by omega), cl_n (k := i)]) (br_t rfl (up1 (up1 ?_))))
      exact HJ _ _ _ (ar_push hf) (fn_new hF hl)
    · refine wh_f (a := i) (b := j) (by omega) ⟨in_n (by omega), in_n (by omega), ?_⟩
      rw [cl_n (k := i), cl_n (k := j), ha i hi, ha j (by omega)]
      refine xw_isLike (co := co) F D hx hg hco ⟨i, hi, rfl⟩ ⟨j, by omega, rfl⟩ (fun l => br_f (by decide) ?_) (fun l => br_t rfl (up1 (ih (j + 1) (by omega) (by omega) fun a ha => ?_)))
      · have lf := hF.1 j (by omega)
        refine And.intro (fun z => absurd z (nI_ge (by omega) (by omega))) fun _ => ⟨in_n (by omega), ?_⟩
        rw [cl_n (k := j), hf j (by omega)]
        refine And.intro (in_n (by omega)) (nmr (upd a_finer i (nI (fi j))) (by rw [vb_k (by omega), cl_n (k := i)]) (br_f (fun z => e (nI_inj z)) (up1 ?_)))
        exact HJ _ _ _ (ar_push hf) (fn_old hF (by omega) l)
      · by_cases z : a = j
        · rw [z]; exact l
        · exact hl a (by omega)
theorem xw_cls60 {post : SX → Prop} {J40 : Int32 → Int32 → (Nat → Int32) → (Nat → Int32) → (Nat → Int32) → (Nat → Int32) → (Nat → Int32) → (Nat → Int32) → (Nat → Int32) → (Nat → Int32) → (Nat → Int32) → (Nat → Int32) → (Nat → Int32) → (Nat → Int32) → (Nat → Int32) → (Nat → Int32) → (Nat → Int32) → (Nat → Int32) → (Nat → Int64) → (Nat → Int64) → (Nat → Int64) → (Nat → Int32) → (Nat → Int32) → (Nat → Int32) → (Nat → Int32) → (Nat → Int32) → (Nat → Int32) → (Nat → Int32) → (Nat → Int32) → (Nat → Int32) → (Nat → Int32) → (Nat → Int32) → (Nat → Int32) → (Nat → Int32) → (Nat → Int32) → (Nat → Int32) → (Nat → Int64) → (Nat → Int64) →  Prop} {x2 : Int32} (F : Fo (uB used) p T rk) (D : XD (uB used) p kd mn pt) (hx : uB used x) (hg : GOK (xv (uB used) T kd mn pt a_value) x m mt) (ha : Ar a_met mt m) (hco : ∀ i, i < m → a_classOf (mt i) = nI (co (mt i)) ∧ co (mt i) < 48) (HJ : ∀ a_finer cl fi a_classOf', FN (xv (uB used) T kd mn pt a_value) mt co m cl fi → (∀ i, i < m → a_classOf' (mt i) = nI (fi i)) → J40 x2 (nI cl) (nA p) (nA kd) (nA mn) (nA pt) a_value (nA tr) a_left a_right a_draft a_stands a_testX a_testY a_triggerX a_triggerY a_ends a_notes a_oldUsed a_oldRoots a_oldAsked a_oldStands a_oldTestX a_oldTestY a_oldTriggerX a_oldTriggerY a_oldEnds a_oldTrailed a_oldNoted a_met a_classOf' a_finer a_image a_seen a_stack a_deep a_company a_greeted) : ∀ n i cl fi a_finer, i ≤ m → m - i < n → Ar a_finer fi i → FN (xv (uB used) T kd mn pt a_value) mt co i cl fi → wX_classify_60 post J40 x2 used f_roots f_asked (nI tn) f_bound f_pairs f_drafted f_noted f_trials (nI m) n (nI i) (nI cl) (nA p) (nA kd) (nA mn) (nA pt) a_value (nA tr) a_left a_right a_draft a_stands a_testX a_testY a_triggerX a_triggerY a_ends a_notes a_oldUsed a_oldRoots a_oldAsked a_oldStands a_oldTestX a_oldTestY a_oldTriggerX a_oldTriggerY a_oldEnds a_oldTrailed a_oldNoted a_met a_classOf a_finer a_image a_seen a_stack a_deep a_company a_greeted := by
  have W : VW (xv (uB used) T kd mn pt a_value) := xv_W F D
  have m48 := hg.2.1
  intro n
  induction n with
  | zero => intro i _ _ _ _ h; omega
  | succ n ih =>
    intro i cl fi a_finer hi hn hf hF
    by_cases e : i = m
    · have e2 := e.symm
      subst e2
      refine wh_t (a := m) (b := m) (by omega) (Exists.intro (m + 1) ?_)
      have cle := fn_le hF
      exact xw_cls154 (fi := fi) m48 (fun i hi => vw_lt W (rc_U W (x := x) hx (hg.2.2.1 i hi)).1) hg.2.2.2.1 ha hf (fun i hi => by have := hF.1 i hi; omega) (fun a_classOf' h => HJ a_finer cl fi a_classOf' hF h) (m + 1) 0 a_classOf (by omega) (by omega) fun a ha => absurd ha (by omega)
    · refine wh_f (a := m) (b := i) (by omega) (Exists.intro (i + 1) ?_)
      exact xw_cls71 (co := co) F D hx hg ha hco (by omega) hf hF (fun a_finer cl' fi' h1 h2 => ih (i + 1) cl' fi' a_finer (by omega) (by omega) h1 h2) (i + 1) 0 (by omega) (by omega) fun a ha => absurd ha (by omega)
theorem xw_cls40 {post : SX → Prop} (F : Fo (uB used) p T rk) (D : XD (uB used) p kd mn pt) (hx : uB used x) (hg : GOK (xv (uB used) T kd mn pt a_value) x m mt) (ha : Ar a_met mt m) (H : ∀ n co a_classOf a_finer, CLS (xv (uB used) T kd mn pt a_value) x m mt n co → (∀ i, i < m → a_classOf (mt i) = nI (co (mt i))) → post (used, f_roots, f_asked, nI tn, f_bound, f_pairs, f_drafted, f_noted, f_trials, nI m, nI n, nA p, nA kd, nA mn, nA pt, a_value, nA tr, a_left, a_right, a_draft, a_stands, a_testX, a_testY, a_triggerX, a_triggerY, a_ends, a_notes, a_oldUsed, a_oldRoots, a_oldAsked, a_oldStands, a_oldTestX, a_oldTestY, a_oldTriggerX, a_oldTriggerY, a_oldEnds, a_oldTrailed, a_oldNoted, a_met, a_classOf, a_finer, a_image, a_seen, a_stack, a_deep, a_company, a_greeted)) : ∀ fu b n co a_classOf a_finer, 2 * (49 - n) + (if b = n then 0 else 1) < fu → b ≤ n → n ≤ m → CO (xv (uB used) T kd mn pt a_value) m mt n co → (∀ i, i < m → a_classOf (mt i) = nI (co (mt i))) → (b = n → ∀ i j, i < m → j < m → co (mt i) = co (mt j) → Like (xv (uB used) T kd mn pt a_value) co (mt i) (mt j)) → wX_classify_40 post used f_roots f_asked (nI tn) f_bound f_pairs f_drafted f_noted f_trials (nI m) fu (nI b) (nI n) (nA p) (nA kd) (nA mn) (nA pt) a_value (nA tr) a_left a_right a_draft a_stands a_testX a_testY a_triggerX a_triggerY a_ends a_notes a_oldUsed a_oldRoots a_oldAsked a_oldStands a_oldTestX a_oldTestY a_oldTriggerX a_oldTriggerY a_oldEnds a_oldTrailed a_oldNoted a_met a_classOf a_finer a_image a_seen a_stack a_deep a_company a_greeted := by
  have W : VW (xv (uB used) T kd mn pt a_value) := xv_W F D
  have m48 := hg.2.1
  intro fu
  induction fu with
  | zero => intro b n _ _ _ h; omega
  | succ fu ih =>
    intro b n co a_classOf a_finer hfu hb hn hc hco hst
    by_cases e : b = n
    · subst e
      exact And.intro (fun _ => H b co a_classOf a_finer ⟨hg, hc.1, hn, hc.2.1, co_end W (x := x) hx hg hc (hst rfl)⟩ hco) fun z => absurd rfl z
    · rw [if_neg e] at hfu
      refine And.intro (fun z => absurd (nI_inj z) e) fun _ => Exists.intro (m + 1) ?_
      refine xw_cls60 (co := co) F D hx hg ha (fun i hi => ⟨hco i hi, by have := hc.1 i hi; omega⟩) (fun a_finer' cl fi a_classOf' hF he => ?_) (m + 1) 0 0 (fun _ => 0) a_finer (by omega) (by omega) ar_0 ⟨fun a ha => absurd ha (by omega), fun q hq => absurd hq (by omega), fun a b ha => absurd ha (by omega)⟩
      have cle := fn_le hF
      have l48 : ∀ i, i < m → fi i < 48 := fun i hi => by have := hF.1 i hi; omega
      have e' : ∀ i, i < m → (fun y => (a_classOf' y).toNatClampNeg) (mt i) = fi i := fun i hi => by
        show (a_classOf' (mt i)).toNatClampNeg = fi i
        rw [he i hi]; exact cl_n (k := fi i) (by have := l48 i hi; omega)
      obtain ⟨c1, c2, c3⟩ := co_next W (x := x) (co' := fun y => (a_classOf' y).toNatClampNeg) hx hg hc hF e'
      refine ih n cl (fun y => (a_classOf' y).toNatClampNeg) a_classOf' a_finer' ?_ c2 cle c1 (fun i hi => by have q : (a_classOf' (mt i)).toNatClampNeg = fi i := e' i hi; rw [q]; exact he i hi) c3
      by_cases z : n = cl
      · rw [if_pos z]; omega
      · rw [if_neg z]; omega
theorem xw_cls7 {post : SX → Prop} (F : Fo (uB used) p T rk) (D : XD (uB used) p kd mn pt) (hx : uB used x) (hg : GOK (xv (uB used) T kd mn pt a_value) x m mt) (ha : Ar a_met mt m) (H : ∀ n co a_classOf a_finer, CLS (xv (uB used) T kd mn pt a_value) x m mt n co → (∀ i, i < m → a_classOf (mt i) = nI (co (mt i))) → post (used, f_roots, f_asked, nI tn, f_bound, f_pairs, f_drafted, f_noted, f_trials, nI m, nI n, nA p, nA kd, nA mn, nA pt, a_value, nA tr, a_left, a_right, a_draft, a_stands, a_testX, a_testY, a_triggerX, a_triggerY, a_ends, a_notes, a_oldUsed, a_oldRoots, a_oldAsked, a_oldStands, a_oldTestX, a_oldTestY, a_oldTriggerX, a_oldTriggerY, a_oldEnds, a_oldTrailed, a_oldNoted, a_met, a_classOf, a_finer, a_image, a_seen, a_stack, a_deep, a_company, a_greeted)) : ∀ n i a_classOf, i ≤ m → m - i < n → (∀ a, a < i → a_classOf (mt a) = 0) → wX_classify_7 post used f_roots f_asked (nI tn) f_bound f_pairs f_drafted f_noted f_trials (nI m) f_classes n (nI i) (nA p) (nA kd) (nA mn) (nA pt) a_value (nA tr) a_left a_right a_draft a_stands a_testX a_testY a_triggerX a_triggerY a_ends a_notes a_oldUsed a_oldRoots a_oldAsked a_oldStands a_oldTestX a_oldTestY a_oldTriggerX a_oldTriggerY a_oldEnds a_oldTrailed a_oldNoted a_met a_classOf a_finer a_image a_seen a_stack a_deep a_company a_greeted := by
  have W : VW (xv (uB used) T kd mn pt a_value) := xv_W F D
  have m48 := hg.2.1
  intro n
  induction n with
  | zero => intro i _ _ h; omega
  | succ n ih =>
    intro i a_classOf hi hn hl
    by_cases e : i = m
    · have e2 := e.symm
      subst e2
      refine wh_t (a := m) (b := m) (by omega) (Exists.intro 100 ?_)
      refine xw_cls40 F D hx hg ha H 100 0 1 (fun _ => 0) a_classOf a_finer (by rw [if_neg (by decide)]; omega) (by omega) (by have := hg.1; omega) ⟨fun i hi => show 0 < 1 by decide, fun q hq => ⟨0, hg.1, show 0 = q by omega⟩, fun i j hi hj _ => rfl⟩ (fun i hi => hl i hi) fun z => absurd z (by decide)
    · have l1 := vw_lt W (rc_U W (x := x) hx (hg.2.2.1 i (by omega))).1
      refine wh_f (a := m) (b := i) (by omega) ?_
      rw [cl_n (k := i), ha i (by omega), cl_n (k := mt i), vb_0]
      refine ⟨in_n (by omega), in_n l1, nm_e (up1 (ih (i + 1) _ (by omega) (by omega) fun a ha => ?_))⟩
      by_cases z : a = i
      · rw [z, pk_us]
      · rw [pk_un fun q => z (hg.2.2.2.1 a i (by omega) (by omega) q)]; exact hl a (by omega)
end
section
variable {f_used : Int64} {f_roots : Int64} {f_asked : Int64} {f_trailed : Int32} {f_bound : Int32} {f_pairs : Int32} {f_drafted : Int32} {f_noted : Int32} {f_trials : Int32} {f_mets : Int32} {f_classes : Int32} {a_up : Nat → Int32} {a_kind : Nat → Int32} {a_many : Nat → Int32} {a_parts : Nat → Int32} {a_value : Nat → Int32} {a_trail : Nat → Int32} {a_left : Nat → Int32} {a_right : Nat → Int32} {a_draft : Nat → Int32} {a_stands : Nat → Int32} {a_testX : Nat → Int32} {a_testY : Nat → Int32} {a_triggerX : Nat → Int32} {a_triggerY : Nat → Int32} {a_ends : Nat → Int32} {a_notes : Nat → Int32} {a_oldUsed : Nat → Int64} {a_oldRoots : Nat → Int64} {a_oldAsked : Nat → Int64} {a_oldStands : Nat → Int32} {a_oldTestX : Nat → Int32} {a_oldTestY : Nat → Int32} {a_oldTriggerX : Nat → Int32} {a_oldTriggerY : Nat → Int32} {a_oldEnds : Nat → Int32} {a_oldTrailed : Nat → Int32} {a_oldNoted : Nat → Int32} {a_met : Nat → Int32} {a_classOf : Nat → Int32} {a_finer : Nat → Int32} {a_image : Nat → Int32} {a_seen : Nat → Int32} {a_stack : Nat → Int32} {a_deep : Nat → Int32} {a_company : Nat → Int64} {a_greeted : Nat → Int64}
variable {p kd mn pt tr T rk : Nat → Nat} {tn x : Nat} {used : Int64}
theorem xw_classify {post : SX → Prop} (F : Fo (uB used) p T rk) (D : XD (uB used) p kd mn pt) (hx : uB used x) (H : ∀ m mt n co a_met a_seen a_stack a_classOf a_finer, CLS (xv (uB used) T kd mn pt a_value) x m mt n co → Ar a_met mt m → (∀ i, i < m → a_classOf (mt i) = nI (co (mt i))) → post (used, f_roots, f_asked, nI tn, f_bound, f_pairs, f_drafted, f_noted, f_trials, nI m, nI n, nA p, nA kd, nA mn, nA pt, a_value, nA tr, a_left, a_right, a_draft, a_stands, a_testX, a_testY, a_triggerX, a_triggerY, a_ends, a_notes, a_oldUsed, a_oldRoots, a_oldAsked, a_oldStands, a_oldTestX, a_oldTestY, a_oldTriggerX, a_oldTriggerY, a_oldEnds, a_oldTrailed, a_oldNoted, a_met, a_classOf, a_finer, a_image, a_seen, a_stack, a_deep, a_company, a_greeted)) : wpX_classify post (used, f_roots, f_asked, nI tn, f_bound, f_pairs, f_drafted, f_noted, f_trials, f_mets, f_classes, nA p, nA kd, nA mn, nA pt, a_value, nA tr, a_left, a_right, a_draft, a_stands, a_testX, a_testY, a_triggerX, a_triggerY, a_ends, a_notes, a_oldUsed, a_oldRoots, a_oldAsked, a_oldStands, a_oldTestX, a_oldTestY, a_oldTriggerX, a_oldTriggerY, a_oldEnds, a_oldTrailed, a_oldNoted, a_met, a_classOf, a_finer, a_image, a_seen, a_stack, a_deep, a_company, a_greeted) (nI x) := by
  unfold wpX_classify
  refine xw_gather F D hx fun m mt a_met a_seen a_stack hg ha => Exists.intro (m + 1) ?_
  exact xw_cls7 F D hx hg ha (fun n co a_classOf a_finer h1 h2 => H m mt n co a_met a_seen a_stack a_classOf a_finer h1 ha h2) (m + 1) 0 a_classOf (by omega) (by omega) fun a ha => absurd ha (by omega)
end
end
section
/-! the reference's gather; different -/
def YGI (c : Vw) (x f : Nat) (ym : Nat → Nat) (h : Nat) (st : Nat → Nat) : Prop :=
  (∀ i, i < f → cU c (ym i) ∧ Rch c x (cT c (ym i))) ∧ (∀ i j, i < f → j < f → Alike c (ym i) (ym j) → i = j) ∧
  (∀ j, j < h → cU c (st j) ∧ Rch c x (cT c (st j))) ∧
  (∀ i, i < f → ∀ k, k < cM c (ym i) → (∃ i', i' < f ∧ Alike c (ym i') (cP c (ym i) k)) ∨ ∃ j, j < h ∧ Alike c (st j) (cP c (ym i) k)) ∧
  ((∃ i, i < f ∧ Alike c (ym i) x) ∨ ∃ j, j < h ∧ Alike c (st j) x)
def YGOK (c : Vw) (x f : Nat) (ym : Nat → Nat) : Prop := f ≤ 48 ∧ (∀ i, i < f → cU c (ym i) ∧ Rch c x (cT c (ym i))) ∧ (∀ i j, i < f → j < f → Alike c (ym i) (ym j) → i = j) ∧ ∀ y, Rch c x y → ∃ i, i < f ∧ Alike c (ym i) y
theorem ygi_le {c : Vw} (W : VW c) {x f h : Nat} {ym st : Nat → Nat} (g : YGI c x f ym h st) : f ≤ 48 := inj_le f 48 (fun i => cT c (ym i)) (fun i hi => vw_lt W (vw_T W (g.1 i hi).1)) (fun i j hi hj e => g.2.1 i j hi hj (al_T (g.1 i hi).1 (g.1 j hj).1 e))
theorem ygi_skip {c : Vw} (W : VW c) {x f h : Nat} {ym st : Nat → Nat} (g : YGI c x f ym (h + 1) st) (hm : ∃ i, i < f ∧ Alike c (ym i) (st h)) : YGI c x f ym h st := by
  obtain ⟨g1, g2, g3, g4, g5⟩ := g
  have key : ∀ y, (∃ j, j < h + 1 ∧ Alike c (st j) y) → (∃ i', i' < f ∧ Alike c (ym i') y) ∨ ∃ j, j < h ∧ Alike c (st j) y := by
    intro y ⟨j, hj, e⟩
    by_cases z : j = h
    · obtain ⟨i, hi, e2⟩ := hm
      rw [z] at e
      exact Or.inl ⟨i, hi, al_t W e2 e⟩
    · exact Or.inr ⟨j, by omega, e⟩
  exact ⟨g1, g2, fun j hj => g3 j (by omega), fun i hi k hk => (g4 i hi k hk).elim Or.inl (key _), g5.elim Or.inl (key _)⟩
theorem ygi_new {c : Vw} (W : VW c) {x f h : Nat} {ym st st' : Nat → Nat} (g : YGI c x f ym (h + 1) st) (hm : ¬ ∃ i, i < f ∧ Alike c (ym i) (st h)) (hlo : ∀ j, j < h → st' j = st j) (hhi : ∀ i, i < cM c (st h) → cU c (st' (h + i)) ∧ cT c (st' (h + i)) = cT c (cP c (st h) (cM c (st h) - 1 - i))) : YGI c x (f + 1) (un ym f (st h)) (h + cM c (st h)) st' := by
  obtain ⟨g1, g2, g3, g4, g5⟩ := g
  have gh := g3 h (by omega)
  have key : ∀ y, (∃ j, j < h + 1 ∧ Alike c (st j) y) → (∃ i', i' < f + 1 ∧ Alike c (un ym f (st h) i') y) ∨ ∃ j, j < h + cM c (st h) ∧ Alike c (st' j) y := by
    intro y ⟨j, hj, e⟩
    by_cases z : j = h
    · exact Or.inl ⟨f, by omega, by rw [un_s, ← z]; exact e⟩
    · exact Or.inr ⟨j, by omega, by rw [hlo j (by omega)]; exact e⟩
  have up : ∀ y, (∃ i', i' < f ∧ Alike c (ym i') y) → ∃ i', i' < f + 1 ∧ Alike c (un ym f (st h) i') y := fun y ⟨i, hi, e⟩ => ⟨i, by omega, by rw [un_n (by omega)]; exact e⟩
  have rT : ∀ k, k < cM c (st h) → Rch c x (cT c (cP c (st h) k)) := by
    intro k hk
    have e := vw_TT W gh.1
    have uT := vw_T W gh.1
    have hk' : k < cM c (cT c (st h)) := by rw [vw_eM W uT gh.1 e]; exact hk
    have := rc_s gh.2 hk'
    rw [vw_eP W uT gh.1 e k] at this
    exact this
  refine ⟨fun i hi => ?_, fun i j hi hj e => ?_, fun j hj => ?_, fun i hi k hk => ?_, g5.elim (fun q => Or.inl (up _ q)) (key _)⟩
  · by_cases z : i = f
    · rw [z, un_s]; exact gh
    · rw [un_n z]; exact g1 i (by omega)
  · by_cases z1 : i = f
    · by_cases z2 : j = f
      · omega
      · rw [z1, un_s, un_n z2] at e
        exact absurd ⟨j, by omega, al_s e⟩ hm
    · by_cases z2 : j = f
      · rw [z2, un_s, un_n z1] at e
        exact absurd ⟨i, by omega, e⟩ hm
      · rw [un_n z1, un_n z2] at e
        exact g2 i j (by omega) (by omega) e
  · by_cases z : j < h
    · rw [hlo j z]; exact g3 j (by omega)
    · obtain ⟨i, rfl⟩ : ∃ i, j = h + i := ⟨j - h, by omega⟩
      have q := hhi i (by omega)
      rw [q.2]
      exact ⟨q.1, rT _ (by omega)⟩
  · by_cases z : i = f
    · rw [z, un_s] at hk ⊢
      have q := hhi (cM c (st h) - 1 - k) (by omega)
      rw [show cM c (st h) - 1 - (cM c (st h) - 1 - k) = k by omega] at q
      exact Or.inr ⟨h + (cM c (st h) - 1 - k), by omega, al_T q.1 (vw_P W gh.1 hk) q.2⟩
    · rw [un_n z] at hk ⊢
      exact (g4 i (by omega) k hk).elim (fun q => Or.inl (up _ q)) (key _)
theorem ygi_end {c : Vw} (W : VW c) {x f : Nat} {ym st : Nat → Nat} (hx : cU c x) (g : YGI c x f ym 0 st) : YGOK c x f ym := by
  have hle := ygi_le W g
  obtain ⟨g1, g2, g3, g4, g5⟩ := g
  have h5 : ∃ i, i < f ∧ Alike c (ym i) x := g5.elim (fun q => q) fun ⟨j, hj, _⟩ => absurd hj (by omega)
  refine ⟨hle, g1, g2, fun y hy => ?_⟩
  refine hy (fun y => ∃ i, i < f ∧ Alike c (ym i) y) ?_ fun z ⟨i, hi, e⟩ k hk => ?_
  · obtain ⟨i, hi, e⟩ := h5
    exact ⟨i, hi, al_rr W (vw_T W hx) (vw_TT W hx).symm e⟩
  · have hk' : k < cM c (ym i) := by rw [(al_same W e).2.2]; exact hk
    have pU := vw_P W (al_U e).2 hk
    obtain ⟨i', hi', e'⟩ := (g4 i hi k hk').elim (fun q => q) fun ⟨j, hj, _⟩ => absurd hj (by omega)
    exact ⟨i', hi', al_rr W (vw_T W pU) (vw_TT W pU).symm (al_t W e' (al_p W e hk'))⟩
section
variable {f_trials : Int32} {f_drafted : Int32} {f_found : Int32} {a_s : Nat → Int32} {a_saved : Nat → Int32} {a_draft : Nat → Int32} {a_who : Nat → Int32} {a_met : Nat → Int32} {a_stack : Nat → Int32} {a_fresh : Nat → Int32} {a_deep : Nat → Int32} {a_alike : Nat → Int64} {a_meets : Nat → Int64}
variable {c : Vw} {id ym : Nat → Nat} {f : Nat}
theorem yw_indexOf {post : Int32 → Prop} (W : VW c) (hA : AlOK c a_alike) {v : Nat} (hv : cU c v) (hf : f ≤ 48) (hm : Ar a_met ym f) (hU : ∀ i, i < f → cU c (ym i)) (h1 : ∀ i, i < f → Alike c (ym i) v → (∀ j, j < i → ¬ Alike c (ym j) v) → post (nI i)) (h0 : (∀ i, i < f → ¬ Alike c (ym i) v) → post (-1)) : wpY_indexOf post (f_trials, f_drafted, nI f, a_s, a_saved, a_draft, a_who, a_met, a_stack, a_fresh, a_deep, a_alike, a_meets) (nI v) := by
  have lv := vw_lt W hv
  have main : ∀ n i, i ≤ f → f - i < n → (∀ j, j < i → ¬ Alike c (ym j) v) → wY_indexOf_2 post (nI v) f_trials f_drafted (nI f) a_s a_saved a_draft a_who a_met a_stack a_fresh a_deep a_alike a_meets n (nI i) := by
    intro n
    induction n with
    | zero => intro i _ h; omega
    | succ n ih =>
      intro i hi hn hl
      by_cases e : i = f
      · have e2 := e.symm
        subst e2
        exact wh_t (a := f) (b := f) (by omega) (h0 hl)
      · have u := hU i (by omega)
        refine wh_f (a := f) (b := i) (by omega) ⟨in_n (by omega), ?_⟩
        rw [cl_n (k := i), hm i (by omega)]
        refine yw_areAlike (vw_lt W u) lv (fun z => br_f (by decide) (h1 i (by omega) ((hA _ _ u hv).1 z) hl)) (fun z => br_t rfl (up1 (ih (i + 1) (by omega) (by omega) fun j hj => ?_)))
        by_cases z2 : j = i
        · rw [z2]
          intro q
          rw [(hA _ _ u hv).2 q] at z
          exact absurd z (by decide)
        · exact hl j (by omega)
  exact Exists.intro (f + 1) (main (f + 1) 0 (by omega) (by omega) fun j hj => absurd hj (by omega))
theorem yw_g74 {post : SY → Prop} {J21 : Int32 → Int32 → (Nat → Int32) → (Nat → Int32) → (Nat → Int32) → (Nat → Int32) → (Nat → Int32) → (Nat → Int32) → (Nat → Int32) → (Nat → Int32) → (Nat → Int64) → (Nat → Int64) →  Prop} {u h M : Nat} {q : Nat → Nat} (hu : u < 48) (hM : M ≤ 3) (eM : a_s (192 + u) = nI M) (hh : h + M ≤ 160) (hq : ∀ j, j < M → a_s (240 + 3 * u + j) = nI (q j)) (HJ : J21 (nI (h + M)) f_found a_s a_saved a_draft a_who a_met (psF a_stack h q M M) a_fresh a_deep a_alike a_meets) : ∀ n d, d ≤ 3 → d < n → wY_gather_74 post J21 (nI u) f_trials f_drafted f_found n (nI (h + (M - d))) (if d = 0 then -1 else nI (d - 1)) a_s a_saved a_draft a_who a_met (psF a_stack h q M (M - d)) a_fresh a_deep a_alike a_meets := by
  intro n
  induction n with
  | zero => intro d _ h; omega
  | succ n ih =>
    intro d hd hn
    cases d with
    | zero =>
      rw [if_pos rfl]
      exact br_t m1_neg HJ
    | succ d =>
      have e1 : nI d + (-1) = if d = 0 then -1 else nI (d - 1) := by
        by_cases z : d = 0
        · rw [z, if_pos rfl]; decide
        · rw [if_neg z, pd_n (by omega)]
      rw [if_neg (by omega), show d + 1 - 1 = d by omega]
      refine br_f (nI_nn (by omega)) (br_f (nI_nn (by omega)) ?_)
      rw [aL_192, cl_n (k := 192 + u), eM]
      refine ⟨in_n (by omega), ?_⟩
      have ih := ih d (by omega) (by omega)
      by_cases z : M ≤ d
      · rw [show M - d = M - (d + 1) by omega] at ih
        exact br_t (nI_le z (by omega)) (nmr _ e1 ih)
      · refine br_f (nI_ge (by omega) (by omega)) (up1 ?_)
        rw [aP, cl_n (k := 240 + 3 * u + d), cl_n (k := h + (M - (d + 1))), hq d (by omega)]
        have e2 := psF_s (a0 := a_stack) (h := h) (f := q) (M := M) (c := M - (d + 1))
        rw [show M - 1 - (M - (d + 1)) = d by omega, show M - (d + 1) + 1 = M - d by omega] at e2
        rw [show h + (M - d) = h + (M - (d + 1)) + 1 by omega] at ih
        exact ⟨in_n (by omega), in_n (by omega), nmr _ e2 (nmr _ e1 ih)⟩
theorem ye_g74 (W : VW c) (hY : YR c id a_s) (hw : Who c a_s a_who) {v h : Nat} (hv : cU c v) (hh : h + cM c v ≤ 160) : ∃ q : Nat → Nat, (∀ j, j < cM c v → cU c (q j) ∧ cT c (q j) = cT c (cP c v j)) ∧ ∀ (post : SY → Prop) (J21 : Int32 → Int32 → (Nat → Int32) → (Nat → Int32) → (Nat → Int32) → (Nat → Int32) → (Nat → Int32) → (Nat → Int32) → (Nat → Int32) → (Nat → Int32) → (Nat → Int64) → (Nat → Int64) →  Prop), J21 (nI (h + cM c v)) f_found a_s a_saved a_draft a_who a_met (psF a_stack h q (cM c v) (cM c v)) a_fresh a_deep a_alike a_meets → ∃ n, wY_gather_74 post J21 (a_who v) f_trials f_drafted f_found n (nI h) 2 a_s a_saved a_draft a_who a_met a_stack a_fresh a_deep a_alike a_meets := by
  by_cases k0 : cK c v = 0
  · have m0 := vw_M0 W hv (by omega)
    rw [hw.2.1 v hv k0, m0]
    refine ⟨fun _ => 0, fun j hj => absurd hj (by omega), fun post J21 HJ => ?_⟩
    rw [psF_0] at HJ
    exact ⟨1, br_f (by decide) (br_t m1_neg HJ)⟩
  · obtain ⟨u, eu, hu, eT, nu⟩ := hw.1 v hv k0
    have Tu := hY.2.2.2.2.1 u hu nu
    obtain ⟨q, hq⟩ := tld_q Tu
    have eM := vw_eM W hu hv eT
    have m3 := vw_M W hv
    rw [eu]
    rw [eM] at hq
    refine ⟨q, fun j hj => ⟨(hq j hj).2.1, by rw [(hq j hj).2.2, vw_eP W hu hv eT j]⟩, fun post J21 HJ => ?_⟩
    have := yw_g74 (f_trials := f_trials) (f_drafted := f_drafted) (f_found := f_found) (post := post) (J21 := J21) (q := q) (M := cM c v) (vw_lt W hu) m3 (by rw [← eM]; exact Tu.2.2.2.2.1) hh (fun j hj => (hq j hj).1) HJ 4 3 (by omega) (by omega)
    rw [show cM c v - 3 = 0 by omega, if_neg (by omega), psF_0] at this
    exact ⟨4, this⟩
/-- one step of the reference's gather -/
theorem yg_skip {post : SY → Prop} (W : VW c) (hA : AlOK c a_alike) {v h : Nat} (hv : cU c v) (hf : f ≤ 48) (hh : h < 160) (hm : Ar a_met ym f) (hU : ∀ i, i < f → cU c (ym i)) (es : a_stack h = nI v) (hold : ∃ i, i < f ∧ Alike c (ym i) v) (hn : ∃ n, wY_gather_21 post f_trials f_drafted n (nI h) (nI f) a_s a_saved a_draft a_who a_met a_stack a_fresh a_deep a_alike a_meets) : ∃ n, wY_gather_21 post f_trials f_drafted n (nI (h + 1)) (nI f) a_s a_saved a_draft a_who a_met a_stack a_fresh a_deep a_alike a_meets := by
  obtain ⟨n, hn⟩ := hn
  refine ⟨n + 1, wh_f (a := h + 1) (b := 0) (by omega) (nmr (nI h) (pk_m1 h) ⟨in_n hh, ?_⟩)⟩
  rw [cl_n (k := h), es]
  refine nm_e (yw_indexOf W hA hv hf hm hU (fun i hi _ _ => br_f (nI_nn (by omega)) hn) fun hnone => ?_)
  obtain ⟨i, hi, e⟩ := hold
  exact absurd e (hnone i hi)
theorem yg_new (W : VW c) (hY : YR c id a_s) (hw : Who c a_s a_who) (hA : AlOK c a_alike) {v h : Nat} (hv : cU c v) (hf : f < 48) (hh : h + cM c v ≤ 160) (hh1 : h < 160) (hm : Ar a_met ym f) (hU : ∀ i, i < f → cU c (ym i)) (es : a_stack h = nI v) (hnew : ¬ ∃ i, i < f ∧ Alike c (ym i) v) : ∃ q : Nat → Nat, (∀ j, j < cM c v → cU c (q j) ∧ cT c (q j) = cT c (cP c v j)) ∧ ∀ post : SY → Prop, (∃ n, wY_gather_21 post f_trials f_drafted n (nI (h + cM c v)) (nI (f + 1)) a_s a_saved a_draft a_who (upd a_met f (nI v)) (psF a_stack h q (cM c v) (cM c v)) a_fresh a_deep a_alike a_meets) → ∃ n, wY_gather_21 post f_trials f_drafted n (nI (h + 1)) (nI f) a_s a_saved a_draft a_who a_met a_stack a_fresh a_deep a_alike a_meets := by
  obtain ⟨q, hq, hpush⟩ := ye_g74 (f_trials := f_trials) (f_drafted := f_drafted) (f_found := nI (f + 1)) (a_saved := a_saved) (a_draft := a_draft) (a_met := upd a_met f (nI v)) (a_stack := a_stack) (a_fresh := a_fresh) (a_deep := a_deep) (a_alike := a_alike) (a_meets := a_meets) W hY hw hv hh
  refine ⟨q, hq, fun post ⟨n, hn⟩ => ⟨n + 1, wh_f (a := h + 1) (b := 0) (by omega) (nmr (nI h) (pk_m1 h) ⟨in_n hh1, ?_⟩)⟩⟩
  have lv := vw_lt W hv
  rw [cl_n (k := h), es]
  refine nm_e (yw_indexOf W hA hv (by omega) hm hU (fun i hi e _ => absurd ⟨i, hi, e⟩ hnew) fun _ => br_t m1_neg (up1 ?_))
  rw [cl_n (k := f), cl_n (k := v)]
  exact ⟨in_n hf, nm_e ⟨in_n lv, nm_e (hpush _ _ hn)⟩⟩
theorem yw_gather21 {post : SY → Prop} (W : VW c) (hY : YR c id a_s) (hw : Who c a_s a_who) (hA : AlOK c a_alike) {x : Nat} (hx : cU c x) (H : ∀ f ym a_met a_stack, YGOK c x f ym → Ar a_met ym f → post (f_trials, f_drafted, nI f, a_s, a_saved, a_draft, a_who, a_met, a_stack, a_fresh, a_deep, a_alike, a_meets)) : ∀ μ h f ym st a_met a_stack, h + 4 * (48 - f) ≤ μ → h ≤ 1 + 2 * f → YGI c x f ym h st → Ar a_met ym f → Ar a_stack st h → ∃ n, wY_gather_21 post f_trials f_drafted n (nI h) (nI f) a_s a_saved a_draft a_who a_met a_stack a_fresh a_deep a_alike a_meets := by
  intro μ
  induction μ with
  | zero =>
    intro h f ym st a_met a_stack hμ hh g hm hs
    have f48 := ygi_le W g
    have : h = 0 := by omega
    subst this
    exact ⟨1, wh_t (a := 0) (b := 0) (by omega) (H f ym a_met a_stack (ygi_end W hx g) hm)⟩
  | succ μ ih =>
    intro h f ym st a_met a_stack hμ hh g hm hs
    have f48 := ygi_le W g
    cases h with
    | zero => exact ⟨1, wh_t (a := 0) (b := 0) (by omega) (H f ym a_met a_stack (ygi_end W hx g) hm)⟩
    | succ h =>
      have gh := g.2.2.1 h (by omega)
      have m3 := vw_M W gh.1
      by_cases e : ∃ i, i < f ∧ Alike c (ym i) (st h)
      · exact yg_skip W hA gh.1 f48 (by omega) hm (fun i hi => (g.1 i hi).1) (hs h (by omega)) e (ih h f ym st a_met a_stack (by omega) (by omega) (ygi_skip W g e) hm (ar_le hs (by omega)))
      · have hf47 : f < 48 := by
          have := ygi_le W (ygi_new W (st' := fun j => if j < h then st j else cP c (st h) (cM c (st h) - 1 - (j - h))) g e (fun j hj => if_pos hj) fun i hi => by
            show cU c (if h + i < h then st (h + i) else cP c (st h) (cM c (st h) - 1 - (h + i - h))) ∧ cT c (if h + i < h then st (h + i) else cP c (st h) (cM c (st h) - 1 - (h + i - h))) = _
            rw [if_neg (by omega), show h + i - h = i by omega]
            exact ⟨vw_P W gh.1 (by omega), rfl⟩)
          omega
        obtain ⟨q, hq, hpush⟩ := yg_new (f_trials := f_trials) (f_drafted := f_drafted) (a_saved := a_saved) (a_draft := a_draft) (a_fresh := a_fresh) (a_deep := a_deep) (a_meets := a_meets) W hY hw hA gh.1 hf47 (by omega) (by omega) hm (fun i hi => (g.1 i hi).1) (hs h (by omega)) e
        refine hpush post (ih (h + cM c (st h)) (f + 1) (un ym f (st h)) (fun j => if j < h then st j else q (cM c (st h) - 1 - (j - h))) _ _ (by omega) (by omega) (ygi_new W g e (fun j hj => if_pos hj) fun i hi => ?_) (ar_push hm) fun j hj => ?_)
        · show cU c (if h + i < h then st (h + i) else q (cM c (st h) - 1 - (h + i - h))) ∧ cT c (if h + i < h then st (h + i) else q (cM c (st h) - 1 - (h + i - h))) = _
          rw [if_neg (by omega), show h + i - h = i by omega]
          exact hq _ (by omega)
        · show psF a_stack h q (cM c (st h)) (cM c (st h)) j = nI (if j < h then st j else q (cM c (st h) - 1 - (j - h)))
          by_cases z : j < h
          · rw [psF_lo z, if_pos z]; exact hs j (by omega)
          · obtain ⟨i, rfl⟩ : ∃ i, j = h + i := ⟨j - h, by omega⟩
            rw [psF_hi (by omega), if_neg z, show h + i - h = i by omega]
theorem yw_gather {post : SY → Prop} (W : VW c) (hY : YR c id a_s) {x : Nat} (hx : cU c x) (H : ∀ w A f ym a_met a_stack, Who c a_s w → AlOK c A → YGOK c x f ym → Ar a_met ym f → post (f_trials, f_drafted, nI f, a_s, a_saved, a_draft, w, a_met, a_stack, a_fresh, a_deep, A, a_meets)) : wpY_gather post (f_trials, f_drafted, f_found, a_s, a_saved, a_draft, a_who, a_met, a_stack, a_fresh, a_deep, a_alike, a_meets) (nI x) := by
  unfold wpY_gather
  refine yw_relate W hY fun w A hw hA => nmr (nI 1) (by decide) (nm_e ?_)
  exact yw_gather21 W hY hw hA hx (fun f ym a_met a_stack h1 h2 => H w A f ym a_met a_stack hw hA h1 h2) 193 1 0 (fun _ => 0) (fun _ => x) a_met _ (by omega) (by omega) ⟨fun i hi => absurd hi (by omega), fun i j hi => absurd hi (by omega), fun j hj => ⟨hx, rc_0 _ _⟩, fun i hi => absurd hi (by omega), Or.inr ⟨0, by omega, al_r hx⟩⟩ ar_0 fun i hi => by rw [show i = 0 by omega, pk_us]
end
/-- as many classes on both sides -/
theorem cls_eq {c : Vw} (W : VW c) {x m n f : Nat} {mt co ym : Nat → Nat} (hx : cU c x) (hc : CLS c x m mt n co) (hy : YGOK c x f ym) : f = n := by
  obtain ⟨hg, c1, _, c2, c3⟩ := hc
  obtain ⟨_, y1, y2, y3⟩ := hy
  have a1 : f ≤ n := by
    have he : ∀ i, ∃ a, i < f → a < m ∧ mt a = cT c (ym i) := by
      intro i
      by_cases e : i < f
      · obtain ⟨a, ha⟩ := hg.2.2.2.2 _ (y1 i e).2
        exact ⟨a, fun _ => ha⟩
      · exact ⟨0, fun z => absurd z e⟩
    have hE := fun i => Classical.choose_spec (he i)
    refine inj_le f n (fun i => co (mt (Classical.choose (he i)))) (fun i hi => c1 _ (hE i hi).1) (fun i j hi hj e => ?_)
    have q := (c3 _ _ (hE i hi).1 (hE j hj).1).1 e
    rw [(hE i hi).2, (hE j hj).2] at q
    have ui := (y1 i hi).1
    have uj := (y1 j hj).1
    exact y2 i j hi hj (al_l W ui (vw_TT W ui).symm (al_rr W uj (vw_TT W uj) q))
  have a2 : n ≤ f := by
    have he : ∀ q, ∃ i, q < n → i < f ∧ ∃ a, a < m ∧ co (mt a) = q ∧ Alike c (ym i) (mt a) := by
      intro q
      by_cases e : q < n
      · obtain ⟨a, ha, ea⟩ := c2 q e
        obtain ⟨i, hi, ei⟩ := y3 _ (hg.2.2.1 a ha)
        exact ⟨i, fun _ => ⟨hi, a, ha, ea, ei⟩⟩
      · exact ⟨0, fun z => absurd z e⟩
    have hE := fun q => Classical.choose_spec (he q)
    refine inj_le n f (fun q => Classical.choose (he q)) (fun q hq => (hE q hq).1) (fun q q' hq hq' e => ?_)
    obtain ⟨_, a, ha, ea, e1⟩ := hE q hq
    obtain ⟨_, b, hb, eb, e2⟩ := hE q' hq'
    have e : Classical.choose (he q) = Classical.choose (he q') := e
    rw [← e] at e2
    rw [← ea, ← eb]
    exact (c3 a b ha hb).2 (al_t W (al_s e1) e2)
  omega
theorem i_vc_different {k : Nat} {u : SX} {v : SY} (I : i_Rel k u v) (hk : k + 4 ≤ 2048) (v1 : Int32) : wpX_different (fun r u' => wpY_different (fun r' v' => r' = r ∧ i_Rel (k + 4) u' v') v v1) u v1 := by
  refine rel_el (P := fun u v => wpX_different (fun r u' => wpY_different (fun r' v' => r' = r ∧ i_Rel (k + 4) u' v') v v1) u v1) ?_ I
  intro f_bound f_mets f_classes a_value a_left a_right a_draft a_oldUsed a_oldRoots a_oldAsked a_oldStands a_oldTestX a_oldTestY a_oldTriggerX a_oldTriggerY a_oldEnds a_oldTrailed a_oldNoted a_met a_classOf a_finer a_image a_seen a_stack a_deep a_company a_greeted used roots asked p kd mn pt tr tn sd tx ty gx gy en N nt L dn dr yf3 s sv y1 w y2 y3 y4 y5 A y6 hM ⟨h1, h2, h3, h4, h5⟩
  have I' : i_Rel (k + 4) (used, roots, asked, nI tn, f_bound, 0, nI dn, nI N, nI L, f_mets, f_classes, nA p, nA kd, nA mn, nA pt, a_value, nA tr, a_left, a_right, a_draft, sd, tx, ty, gx, gy, en, nt, a_oldUsed, a_oldRoots, a_oldAsked, a_oldStands, a_oldTestX, a_oldTestY, a_oldTriggerX, a_oldTriggerY, a_oldEnds, a_oldTrailed, a_oldNoted, a_met, a_classOf, a_finer, a_image, a_seen, a_stack, a_deep, a_company, a_greeted) (nI L, nI dn, yf3, s, sv, y1, w, y2, y3, y4, y5, A, y6) := rel_mk hM ⟨h1, h2, by omega, h4, h5⟩
  unfold wpX_different
  rcases us_or (uB used) v1 with ⟨x, lx, hx, rfl⟩ | hx
  · refine xu_t hM hx (br_f (by decide) ?_)
    have hM' := hM
    obtain ⟨⟨⟨T, rk, id, F, D, Y⟩, m1, m2, m3, m4, m5⟩, hT, hL⟩ := hM'
    have W : VW (xv (uB used) T kd mn pt a_value) := xv_W F D
    refine xw_classify F D hx fun m mt n co a_met a_seen a_stack a_classOf a_finer hc _ _ => ?_
    unfold wpY_different
    refine yu_t hM hx (br_f (by decide) (yw_gather W Y hx fun w A f ym a_met a_stack _ _ hy _ => ⟨?_, rel_mk hM ⟨h1, h2, by omega, h4, h5⟩⟩))
    rw [cls_eq W (x := x) hx hc hy]
  · unfold wpY_different
    exact xu_f hx (br_t rfl (yu_f hM hx (br_t rfl ⟨rfl, I'⟩)))
end
section
/-! clearing: the component -/
/-- what comes behind closure, in clear -/
def wX_clr_fin (post : Int32 → SX → Prop) (r_5 : Int64) (u : SX) : Prop := match u with
  | (f_used, f_roots, f_asked, f_trailed, f_bound, f_pairs, f_drafted, f_noted, f_trials, f_mets, f_classes, a_up, a_kind, a_many, a_parts, a_value, a_trail, a_left, a_right, a_draft, a_stands, a_testX, a_testY, a_triggerX, a_triggerY, a_ends, a_notes, a_oldUsed, a_oldRoots, a_oldAsked, a_oldStands, a_oldTestX, a_oldTestY, a_oldTriggerX, a_oldTriggerY, a_oldEnds, a_oldTrailed, a_oldNoted, a_met, a_classOf, a_finer, a_image, a_seen, a_stack, a_deep, a_company, a_greeted) => wpX_count (fun r_53 => (∀ f_used_54 : Int64, f_used_54 = f_used &&& r_5 → (∀ f_asked_55 : Int64, f_asked_55 = f_asked &&& r_5 → (post r_53 (f_used_54, f_roots, f_asked_55, f_trailed, f_bound, f_pairs, f_drafted, f_noted, f_trials, f_mets, f_classes, a_up, a_kind, a_many, a_parts, a_value, a_trail, a_left, a_right, a_draft, a_stands, a_testX, a_testY, a_triggerX, a_triggerY, a_ends, a_notes, a_oldUsed, a_oldRoots, a_oldAsked, a_oldStands, a_oldTestX, a_oldTestY, a_oldTriggerX, a_oldTriggerY, a_oldEnds, a_oldTrailed, a_oldNoted, a_met, a_classOf, a_finer, a_image, a_seen, a_stack, a_deep, a_company, a_greeted))))) (f_used &&& (r_5 ^^^ (-1)))
def Sb (w : Int64) (P : Nat → Prop) : Prop := ∀ y, bL w y = true ↔ P y
theorem sb_add {w : Int64} {x : Nat} (hx : x < 48) (y : Nat) : bL (w ||| ((1 : Int64) <<< ((nI x).toInt64 &&& 63))) y = true ↔ bL w y = true ∨ y = x := by
  rw [bL_or1 _ (by omega), Bool.or_eq_true, decide_eq_true_eq]
  exact ⟨fun h => h.imp (fun q => q) Eq.symm, fun h => h.imp (fun q => q) Eq.symm⟩
theorem acc_s {w w' : Int64} {B : Nat → Prop} {Q : Nat → Nat → Prop} {i : Nat} (h : Sb w (fun y => B y ∨ ∃ k, k < i ∧ Q k y)) (e : ∀ y, bL w' y = true ↔ bL w y = true ∨ Q i y) : Sb w' (fun y => B y ∨ ∃ k, k < i + 1 ∧ Q k y) := by
  intro y
  rw [e, h y]
  constructor
  · rintro ((a | ⟨k, hk, q⟩) | q)
    · exact Or.inl a
    · exact Or.inr ⟨k, by omega, q⟩
    · exact Or.inr ⟨i, by omega, q⟩
  · rintro (a | ⟨k, hk, q⟩)
    · exact Or.inl (Or.inl a)
    · by_cases z : k = i
      · rw [z] at q; exact Or.inr q
      · exact Or.inl (Or.inr ⟨k, by omega, q⟩)
theorem acc_0 {w : Int64} {B : Nat → Prop} {Q : Nat → Nat → Prop} (h : Sb w B) : Sb w (fun y => B y ∨ ∃ k, k < 0 ∧ Q k y) := fun y => by
  rw [h y]
  exact ⟨Or.inl, fun z => z.elim (fun q => q) fun ⟨k, hk, _⟩ => absurd hk (by omega)⟩
/-- what streams, tests, triggers hold -/
def QE (en : Nat → Int32) (k y : Nat) : Prop := en k = nI y ∧ y < 48
def QT (sd tx ty : Nat → Int32) (k y : Nat) : Prop := sd k = 3 ∧ y < 48 ∧ (tx k = nI y ∨ ty k = nI y)
def QG (gx gy : Nat → Int32) (k y : Nat) : Prop := ¬ gx k = -1 ∧ y < 48 ∧ (gx k = nI y ∨ gy k = nI y)
def RS (roots : Int64) (sd tx ty gx gy en : Nat → Int32) (y : Nat) : Prop := bL roots y = true ∨ (∃ k, k < 4 ∧ QE en k y) ∨ (∃ k, k < 8 ∧ QT sd tx ty k y) ∨ ∃ k, k < 8 ∧ QG gx gy k y
/-- what is kept -/
def KP (c : Vw) (R : Nat → Prop) (y : Nat) : Prop := cU c y ∧ ∃ x, R x ∧ cU c x ∧ Rch c x (cT c y)
section
variable {f_used : Int64} {f_roots : Int64} {f_asked : Int64} {f_trailed : Int32} {f_bound : Int32} {f_pairs : Int32} {f_drafted : Int32} {f_noted : Int32} {f_trials : Int32} {f_mets : Int32} {f_classes : Int32} {a_up : Nat → Int32} {a_kind : Nat → Int32} {a_many : Nat → Int32} {a_parts : Nat → Int32} {a_value : Nat → Int32} {a_trail : Nat → Int32} {a_left : Nat → Int32} {a_right : Nat → Int32} {a_draft : Nat → Int32} {a_stands : Nat → Int32} {a_testX : Nat → Int32} {a_testY : Nat → Int32} {a_triggerX : Nat → Int32} {a_triggerY : Nat → Int32} {a_ends : Nat → Int32} {a_notes : Nat → Int32} {a_oldUsed : Nat → Int64} {a_oldRoots : Nat → Int64} {a_oldAsked : Nat → Int64} {a_oldStands : Nat → Int32} {a_oldTestX : Nat → Int32} {a_oldTestY : Nat → Int32} {a_oldTriggerX : Nat → Int32} {a_oldTriggerY : Nat → Int32} {a_oldEnds : Nat → Int32} {a_oldTrailed : Nat → Int32} {a_oldNoted : Nat → Int32} {a_met : Nat → Int32} {a_classOf : Nat → Int32} {a_finer : Nat → Int32} {a_image : Nat → Int32} {a_seen : Nat → Int32} {a_stack : Nat → Int32} {a_deep : Nat → Int32} {a_company : Nat → Int64} {a_greeted : Nat → Int64}
variable {p kd mn pt tr T rk : Nat → Nat} {tn : Nat} {used : Int64} {s : Nat → Int32}
theorem xw_clo79 {post : Int64 → SX → Prop} {tops : Int64} (F : Fo (uB used) p T rk) (H : ∀ w, Sb w (fun y => uB used y ∧ bL tops (T y) = true) → post w (used, f_roots, f_asked, nI tn, f_bound, f_pairs, f_drafted, f_noted, f_trials, f_mets, f_classes, nA p, nA kd, nA mn, nA pt, a_value, nA tr, a_left, a_right, a_draft, a_stands, a_testX, a_testY, a_triggerX, a_triggerY, a_ends, a_notes, a_oldUsed, a_oldRoots, a_oldAsked, a_oldStands, a_oldTestX, a_oldTestY, a_oldTriggerX, a_oldTriggerY, a_oldEnds, a_oldTrailed, a_oldNoted, a_met, a_classOf, a_finer, a_image, a_seen, a_stack, a_deep, a_company, a_greeted)) : ∀ n x w, x ≤ 48 → 48 - x < n → Sb w (fun y => y < x ∧ uB used y ∧ bL tops (T y) = true) → wX_closure_79 post tops used f_roots f_asked (nI tn) f_bound f_pairs f_drafted f_noted f_trials f_mets f_classes (nA p) (nA kd) (nA mn) (nA pt) a_value (nA tr) a_left a_right a_draft a_stands a_testX a_testY a_triggerX a_triggerY a_ends a_notes a_oldUsed a_oldRoots a_oldAsked a_oldStands a_oldTestX a_oldTestY a_oldTriggerX a_oldTriggerY a_oldEnds a_oldTrailed a_oldNoted a_met a_classOf a_finer a_image a_seen a_stack a_deep a_company a_greeted n w (nI x) := by
  intro n
  induction n with
  | zero => intro x _ _ h; omega
  | succ n ih =>
    intro x w hx hn hw
    by_cases e : x = 48
    · subst e
      refine wh_t (a := 48) (b := 48) (by omega) (H w fun y => ?_)
      rw [hw y]
      exact ⟨fun q => q.2, fun q => ⟨fo_lt F q.1, q⟩⟩
    · have lx : x < 48 := by omega
      refine wh_f (a := 48) (b := x) (by omega) ?_
      have no : (¬ (uB used x ∧ bL tops (T x) = true)) → wX_closure_79 post tops used f_roots f_asked (nI tn) f_bound f_pairs f_drafted f_noted f_trials f_mets f_classes (nA p) (nA kd) (nA mn) (nA pt) a_value (nA tr) a_left a_right a_draft a_stands a_testX a_testY a_triggerX a_triggerY a_ends a_notes a_oldUsed a_oldRoots a_oldAsked a_oldStands a_oldTestX a_oldTestY a_oldTriggerX a_oldTriggerY a_oldEnds a_oldTrailed a_oldNoted a_met a_classOf a_finer a_image a_seen a_stack a_deep a_company a_greeted n w (nI (x + 1)) := by
        intro q
        refine ih (x + 1) w (by omega) (by omega) fun y => ?_
        rw [hw y]
        refine ⟨fun z => ⟨by omega, z.2⟩, fun z => ⟨?_, z.2⟩⟩
        by_cases e2 : y = x
        · rw [e2] at z; exact absurd z.2 q
        · omega
      by_cases hu : uB used x
      · refine xw_us_t lx hu (br_f (by decide) (xw_top F hu ?_))
        have lt := fo_lt F (fo_T F hu)
        unfold wX_closure_106
        refine xw_us_t lx hu (br_f (by decide) ?_)
        by_cases ht : bL tops (T x) = true
        · refine br_f (bt_n0 (by omega) ht) (nm_e (up1 (ih (x + 1) _ (by omega) (by omega) fun y => ?_)))
          rw [sb_add lx, hw y]
          constructor
          · rintro (⟨a, b⟩ | rfl)
            · exact ⟨by omega, b⟩
            · exact ⟨by omega, hu, ht⟩
          · intro ⟨a, b⟩
            by_cases e2 : y = x
            · exact Or.inr e2
            · exact Or.inl ⟨by omega, b⟩
        · exact br_t ((bt_0 _ (by omega)).2 (ts_nt ht)) (up1 (no fun q => ht q.2))
      · have hf : ∀ y, y < 48 → nI x = nI y → bL used y = false := fun y hy e => by
          have : x = y := nI_inj e
          rw [← this]; exact ts_nt hu
        refine xw_us_f hf (br_t rfl ?_)
        unfold wX_closure_106
        exact xw_us_f hf (br_t rfl (up1 (no fun q => hu q.1)))
theorem xw_clo34 {post : Int64 → SX → Prop} {J5 : Int64 → Int64 → Int64 → Int64 → Int64 → Int32 → Int32 → Int32 → Int32 → Int32 → Int32 → Int32 → Int32 → (Nat → Int32) → (Nat → Int32) → (Nat → Int32) → (Nat → Int32) → (Nat → Int32) → (Nat → Int32) → (Nat → Int32) → (Nat → Int32) → (Nat → Int32) → (Nat → Int32) → (Nat → Int32) → (Nat → Int32) → (Nat → Int32) → (Nat → Int32) → (Nat → Int32) → (Nat → Int32) → (Nat → Int64) → (Nat → Int64) → (Nat → Int64) → (Nat → Int32) → (Nat → Int32) → (Nat → Int32) → (Nat → Int32) → (Nat → Int32) → (Nat → Int32) → (Nat → Int32) → (Nat → Int32) → (Nat → Int32) → (Nat → Int32) → (Nat → Int32) → (Nat → Int32) → (Nat → Int32) → (Nat → Int32) → (Nat → Int32) → (Nat → Int64) → (Nat → Int64) →  Prop} {x5 : Int64} {m : Nat} {mt : Nat → Nat} {B : Nat → Prop} (hm : m ≤ 48) (hmt : ∀ i, i < m → mt i < 48) (ha : Ar a_met mt m) (HJ : ∀ w, Sb w (fun y => B y ∨ ∃ k, k < m ∧ mt k = y) → J5 w (x5 &&& (x5 - 1)) used f_roots f_asked (nI tn) f_bound f_pairs f_drafted f_noted f_trials (nI m) f_classes (nA p) (nA kd) (nA mn) (nA pt) a_value (nA tr) a_left a_right a_draft a_stands a_testX a_testY a_triggerX a_triggerY a_ends a_notes a_oldUsed a_oldRoots a_oldAsked a_oldStands a_oldTestX a_oldTestY a_oldTriggerX a_oldTriggerY a_oldEnds a_oldTrailed a_oldNoted a_met a_classOf a_finer a_image a_seen a_stack a_deep a_company a_greeted) : ∀ n i w, i ≤ m → m - i < n → Sb w (fun y => B y ∨ ∃ k, k < i ∧ mt k = y) → wX_closure_34 post J5 x5 used f_roots f_asked (nI tn) f_bound f_pairs f_drafted f_noted f_trials (nI m) f_classes (nA p) (nA kd) (nA mn) (nA pt) a_value (nA tr) a_left a_right a_draft a_stands a_testX a_testY a_triggerX a_triggerY a_ends a_notes a_oldUsed a_oldRoots a_oldAsked a_oldStands a_oldTestX a_oldTestY a_oldTriggerX a_oldTriggerY a_oldEnds a_oldTrailed a_oldNoted a_met a_classOf a_finer a_image a_seen a_stack a_deep a_company a_greeted n w (nI i) := by
  intro n
  induction n with
  | zero => intro i _ _ h; omega
  | succ n ih =>
    intro i w hi hn hw
    by_cases e : i = m
    · have e2 := e.symm
      subst e2
      exact wh_t (a := m) (b := m) (by omega) (nm_e (HJ w hw))
    · refine wh_f (a := m) (b := i) (by omega) ⟨in_n (by omega), ?_⟩
      rw [cl_n (k := i), ha i (by omega)]
      refine nm_e (up1 (ih (i + 1) _ (by omega) (by omega) (acc_s (Q := fun k y => mt k = y) hw fun y => ?_)))
      rw [sb_add (hmt i (by omega))]
      exact ⟨fun z => z.imp (fun q => q) Eq.symm, fun z => z.imp (fun q => q) Eq.symm⟩
theorem xw_clo5 {post : Int64 → SX → Prop} (F : Fo (uB used) p T rk) (D : XD (uB used) p kd mn pt) {R : Nat → Prop} (hR : ∀ x, R x → uB used x) (H : ∀ w f_mets a_met a_seen a_stack, Sb w (KP (xv (uB used) T kd mn pt a_value) R) → post w (used, f_roots, f_asked, nI tn, f_bound, f_pairs, f_drafted, f_noted, f_trials, f_mets, f_classes, nA p, nA kd, nA mn, nA pt, a_value, nA tr, a_left, a_right, a_draft, a_stands, a_testX, a_testY, a_triggerX, a_triggerY, a_ends, a_notes, a_oldUsed, a_oldRoots, a_oldAsked, a_oldStands, a_oldTestX, a_oldTestY, a_oldTriggerX, a_oldTriggerY, a_oldEnds, a_oldTrailed, a_oldNoted, a_met, a_classOf, a_finer, a_image, a_seen, a_stack, a_deep, a_company, a_greeted)) : ∀ c n tops rest f_mets a_met a_seen a_stack, pc rest = c → c < n → (∀ x, bL rest x = true → R x) → Sb tops (fun y => ∃ x, R x ∧ ¬ bL rest x = true ∧ Rch (xv (uB used) T kd mn pt a_value) x y) → wX_closure_5 post n tops rest used f_roots f_asked (nI tn) f_bound f_pairs f_drafted f_noted f_trials f_mets f_classes (nA p) (nA kd) (nA mn) (nA pt) a_value (nA tr) a_left a_right a_draft a_stands a_testX a_testY a_triggerX a_triggerY a_ends a_notes a_oldUsed a_oldRoots a_oldAsked a_oldStands a_oldTestX a_oldTestY a_oldTriggerX a_oldTriggerY a_oldEnds a_oldTrailed a_oldNoted a_met a_classOf a_finer a_image a_seen a_stack a_deep a_company a_greeted := by
  have W : VW (xv (uB used) T kd mn pt a_value) := xv_W F D
  intro c
  induction c with
  | zero =>
    intro n tops rest f_mets a_met a_seen a_stack hc hn hr ht
    obtain ⟨n, rfl⟩ : ∃ m, n = m + 1 := ⟨n - 1, by omega⟩
    have e : rest = 0 := by
      by_cases e : rest = 0
      · exact e
      · obtain ⟨l, hl⟩ := low_ex e
        rw [pc_clr hl] at hc; omega
    refine br_t e (Exists.intro 49 (xw_clo79 F (fun w hw => H w f_mets a_met a_seen a_stack fun y => ?_) 49 0 0 (by omega) (by omega) fun y => ?_))
    · rw [hw y]
      refine and_congr_right fun hy => ?_
      rw [ht (T y)]
      subst e
      constructor
      · intro ⟨x, a, _, b⟩
        exact ⟨x, a, hR x a, b⟩
      · intro ⟨x, a, _, b⟩
        exact ⟨x, a, by rw [bL_0]; decide, b⟩
    · rw [bL_0]
      exact ⟨fun z => absurd z (by decide), fun z => absurd z.1 (by omega)⟩
  | succ c ih =>
    intro n tops rest f_mets a_met a_seen a_stack hc hn hr ht
    obtain ⟨n, rfl⟩ : ∃ m, n = m + 1 := ⟨n - 1, by omega⟩
    have e : ¬ rest = 0 := fun z => by rw [z, pc_0] at hc; omega
    obtain ⟨l, hl⟩ := low_ex e
    rw [pc_clr hl] at hc
    have lR := hr l hl.2.1
    have lU := hR l lR
    refine br_f e (xw_low hl (xw_gather F D lU fun m mt a_met a_seen a_stack hg ha => Exists.intro (m + 1) ?_))
    refine xw_clo34 (mt := mt) hg.2.1 (fun i hi => fo_lt F (rc_U W (x := l) lU (hg.2.2.1 i hi)).1) ha (fun w hw => ?_) (m + 1) 0 tops (by omega) (by omega) (acc_0 ht)
    refine ih n w _ (nI m) a_met a_seen a_stack (by omega) (by omega) (fun x hx => ?_) fun y => ?_
    · rw [low_clr hl, Bool.and_eq_true] at hx
      exact hr x hx.1
    · rw [hw y]
      constructor
      · rintro (⟨x, a, b, d⟩ | ⟨i, hi, rfl⟩)
        · refine ⟨x, a, fun z => b ?_, d⟩
          rw [low_clr hl, Bool.and_eq_true] at z
          exact z.1
        · refine ⟨l, lR, ?_, hg.2.2.1 i hi⟩
          rw [low_clr hl, decide_eq_true rfl]
          cases bL rest l <;> decide
      · intro ⟨x, a, b, d⟩
        by_cases z : bL rest x = true
        · have : x = l := by
            by_cases z2 : x = l
            · exact z2
            · rw [low_clr hl, z, decide_eq_false z2] at b
              exact absurd rfl b
          rw [this] at d
          obtain ⟨i, hi, q⟩ := hg.2.2.2.2 y d
          exact Or.inr ⟨i, hi, q⟩
        · exact Or.inl ⟨x, a, z, d⟩
theorem xw_closure {post : Int64 → SX → Prop} (F : Fo (uB used) p T rk) (D : XD (uB used) p kd mn pt) {R : Nat → Prop} {set : Int64} (hs : Sb set R) (hR : ∀ x, R x → uB used x) (H : ∀ w f_mets a_met a_seen a_stack, Sb w (KP (xv (uB used) T kd mn pt a_value) R) → post w (used, f_roots, f_asked, nI tn, f_bound, f_pairs, f_drafted, f_noted, f_trials, f_mets, f_classes, nA p, nA kd, nA mn, nA pt, a_value, nA tr, a_left, a_right, a_draft, a_stands, a_testX, a_testY, a_triggerX, a_triggerY, a_ends, a_notes, a_oldUsed, a_oldRoots, a_oldAsked, a_oldStands, a_oldTestX, a_oldTestY, a_oldTriggerX, a_oldTriggerY, a_oldEnds, a_oldTrailed, a_oldNoted, a_met, a_classOf, a_finer, a_image, a_seen, a_stack, a_deep, a_company, a_greeted)) : wpX_closure post (used, f_roots, f_asked, nI tn, f_bound, f_pairs, f_drafted, f_noted, f_trials, f_mets, f_classes, nA p, nA kd, nA mn, nA pt, a_value, nA tr, a_left, a_right, a_draft, a_stands, a_testX, a_testY, a_triggerX, a_triggerY, a_ends, a_notes, a_oldUsed, a_oldRoots, a_oldAsked, a_oldStands, a_oldTestX, a_oldTestY, a_oldTriggerX, a_oldTriggerY, a_oldEnds, a_oldTrailed, a_oldNoted, a_met, a_classOf, a_finer, a_image, a_seen, a_stack, a_deep, a_company, a_greeted) set := by
  refine Exists.intro (pc set + 1) (xw_clo5 F D hR H (pc set) (pc set + 1) 0 set f_mets a_met a_seen a_stack rfl (by omega) (fun x hx => (hs x).1 hx) fun y => ?_)
  rw [bL_0]
  exact ⟨fun z => absurd z (by decide), fun ⟨x, a, b, _⟩ => absurd ((hs x).2 a) b⟩
theorem xw_clr107 {post : Int32 → SX → Prop} {B : Nat → Prop} (hu : ∀ x, uB used x → x < 48) (hg : MTrig used a_triggerX a_triggerY s) (H : ∀ w, Sb w (fun y => B y ∨ ∃ k, k < 8 ∧ QG a_triggerX a_triggerY k y) → wpX_closure (fun r_5 u => wX_clr_fin post r_5 u) (used, f_roots, f_asked, nI tn, f_bound, f_pairs, f_drafted, f_noted, f_trials, f_mets, f_classes, nA p, nA kd, nA mn, nA pt, a_value, nA tr, a_left, a_right, a_draft, a_stands, a_testX, a_testY, a_triggerX, a_triggerY, a_ends, a_notes, a_oldUsed, a_oldRoots, a_oldAsked, a_oldStands, a_oldTestX, a_oldTestY, a_oldTriggerX, a_oldTriggerY, a_oldEnds, a_oldTrailed, a_oldNoted, a_met, a_classOf, a_finer, a_image, a_seen, a_stack, a_deep, a_company, a_greeted) w) : ∀ n i w, i ≤ 8 → 8 - i < n → Sb w (fun y => B y ∨ ∃ k, k < i ∧ QG a_triggerX a_triggerY k y) → wX_clear_107 post used f_roots f_asked (nI tn) f_bound f_pairs f_drafted f_noted f_trials f_mets f_classes (nA p) (nA kd) (nA mn) (nA pt) a_value (nA tr) a_left a_right a_draft a_stands a_testX a_testY a_triggerX a_triggerY a_ends a_notes a_oldUsed a_oldRoots a_oldAsked a_oldStands a_oldTestX a_oldTestY a_oldTriggerX a_oldTriggerY a_oldEnds a_oldTrailed a_oldNoted a_met a_classOf a_finer a_image a_seen a_stack a_deep a_company a_greeted n w (nI i) := by
  intro n
  induction n with
  | zero => intro i _ _ h; omega
  | succ n ih =>
    intro i w hi hn hw
    by_cases e : i = 8
    · subst e
      exact wh_t (a := 8) (b := 8) (by omega) (H w hw)
    · obtain ⟨_, _, _, _, g⟩ := hg i (by omega)
      refine wh_f (a := 8) (b := i) (by omega) ?_
      rw [cl_n (k := i)]
      refine ⟨in_n (by omega), ?_⟩
      rcases g with g | ⟨x, y, ex, ey, hx, hy⟩
      · rw [g]
        refine br_t m1_neg (up1 (ih (i + 1) w (by omega) (by omega) (acc_s hw fun y => ⟨Or.inl, fun z => z.elim (fun q => q) fun q => absurd g q.1⟩)))
      · have lx := hu x hx
        have ly := hu y hy
        have ne : ¬ a_triggerX i = -1 := by rw [ex]; exact nI_m1 (by omega)
        rw [ex, ey]
        refine br_f (nI_nn (by omega)) ⟨in_n (by omega), in_n (by omega), nm_e (up1 (ih (i + 1) _ (by omega) (by omega) (acc_s hw fun z => ?_)))⟩
        rw [bL_or, bL_or, Bool.or_eq_true, Bool.or_eq_true, bL_one (by omega), bL_one (by omega), decide_eq_true_eq, decide_eq_true_eq]
        refine or_congr_right ⟨fun q => ⟨ne, ?_, ?_⟩, fun ⟨_, lz, q⟩ => ?_⟩
        · omega
        · rcases q with q | q
          · exact Or.inl (by rw [ex, q])
          · exact Or.inr (by rw [ey, q])
        · rcases q with q | q
          · exact Or.inl (nI_inj (ex.symm.trans q))
          · exact Or.inr (nI_inj (ey.symm.trans q))
theorem xw_clr49 {post : Int32 → SX → Prop} {B : Nat → Prop} (hu : ∀ x, uB used x → x < 48) (ht : MTest used a_stands a_testX a_testY s) (H : ∀ w, Sb w (fun y => B y ∨ ∃ k, k < 8 ∧ QT a_stands a_testX a_testY k y) → ∃ n, wX_clear_107 post used f_roots f_asked (nI tn) f_bound f_pairs f_drafted f_noted f_trials f_mets f_classes (nA p) (nA kd) (nA mn) (nA pt) a_value (nA tr) a_left a_right a_draft a_stands a_testX a_testY a_triggerX a_triggerY a_ends a_notes a_oldUsed a_oldRoots a_oldAsked a_oldStands a_oldTestX a_oldTestY a_oldTriggerX a_oldTriggerY a_oldEnds a_oldTrailed a_oldNoted a_met a_classOf a_finer a_image a_seen a_stack a_deep a_company a_greeted n w 0) : ∀ n i w, i ≤ 8 → 8 - i < n → Sb w (fun y => B y ∨ ∃ k, k < i ∧ QT a_stands a_testX a_testY k y) → wX_clear_49 post used f_roots f_asked (nI tn) f_bound f_pairs f_drafted f_noted f_trials f_mets f_classes (nA p) (nA kd) (nA mn) (nA pt) a_value (nA tr) a_left a_right a_draft a_stands a_testX a_testY a_triggerX a_triggerY a_ends a_notes a_oldUsed a_oldRoots a_oldAsked a_oldStands a_oldTestX a_oldTestY a_oldTriggerX a_oldTriggerY a_oldEnds a_oldTrailed a_oldNoted a_met a_classOf a_finer a_image a_seen a_stack a_deep a_company a_greeted n w (nI i) := by
  intro n
  induction n with
  | zero => intro i _ _ h; omega
  | succ n ih =>
    intro i w hi hn hw
    by_cases e : i = 8
    · subst e
      exact wh_t (a := 8) (b := 8) (by omega) (H w hw)
    · obtain ⟨_, _, _, _, _, _, g⟩ := ht i (by omega)
      refine wh_f (a := 8) (b := i) (by omega) ?_
      rw [cl_n (k := i)]
      refine ⟨in_n (by omega), ?_⟩
      by_cases e3 : a_stands i = 3
      · obtain ⟨⟨x, ex, hx⟩, gy⟩ := g e3
        have lx := hu x hx
        rw [ex]
        refine br_t e3 ⟨in_n (by omega), nm_e ⟨in_n (by omega), ?_⟩⟩
        rcases gy with gy | ⟨y, ey, hy⟩
        · rw [gy]
          refine br_t m1_neg (up1 (ih (i + 1) _ (by omega) (by omega) (acc_s hw fun z => ?_)))
          rw [sb_add lx]
          refine or_congr_right ⟨fun q => ⟨e3, by omega, Or.inl (by rw [ex, q])⟩, fun ⟨_, lz, q⟩ => ?_⟩
          rcases q with q | q
          · exact (nI_inj (ex.symm.trans q)).symm
          · exact absurd (q.symm.trans gy) (nI_m1 (by omega))
        · have ly := hu y hy
          rw [ey]
          refine br_f (nI_nn (by omega)) ⟨in_n (by omega), nm_e (up1 (ih (i + 1) _ (by omega) (by omega) (acc_s hw fun z => ?_)))⟩
          rw [sb_add ly, sb_add lx, or_assoc]
          refine or_congr_right ⟨fun q => ⟨e3, by omega, q.imp (fun q => by rw [ex, q]) fun q => by rw [ey, q]⟩, fun ⟨_, lz, q⟩ => q.imp (fun q => (nI_inj (ex.symm.trans q)).symm) fun q => (nI_inj (ey.symm.trans q)).symm⟩
      · exact br_f e3 (up1 (ih (i + 1) w (by omega) (by omega) (acc_s hw fun y => ⟨Or.inl, fun z => z.elim (fun q => q) fun q => absurd q.1 e3⟩)))
theorem xw_clr16 {post : Int32 → SX → Prop} {B : Nat → Prop} (hu : ∀ x, uB used x → x < 48) (he : MEnd used a_ends s) (H : ∀ w, Sb w (fun y => B y ∨ ∃ k, k < 4 ∧ QE a_ends k y) → ∃ n, wX_clear_49 post used f_roots f_asked (nI tn) f_bound f_pairs f_drafted f_noted f_trials f_mets f_classes (nA p) (nA kd) (nA mn) (nA pt) a_value (nA tr) a_left a_right a_draft a_stands a_testX a_testY a_triggerX a_triggerY a_ends a_notes a_oldUsed a_oldRoots a_oldAsked a_oldStands a_oldTestX a_oldTestY a_oldTriggerX a_oldTriggerY a_oldEnds a_oldTrailed a_oldNoted a_met a_classOf a_finer a_image a_seen a_stack a_deep a_company a_greeted n w 0) : ∀ n i w, i ≤ 4 → 4 - i < n → Sb w (fun y => B y ∨ ∃ k, k < i ∧ QE a_ends k y) → wX_clear_16 post used f_roots f_asked (nI tn) f_bound f_pairs f_drafted f_noted f_trials f_mets f_classes (nA p) (nA kd) (nA mn) (nA pt) a_value (nA tr) a_left a_right a_draft a_stands a_testX a_testY a_triggerX a_triggerY a_ends a_notes a_oldUsed a_oldRoots a_oldAsked a_oldStands a_oldTestX a_oldTestY a_oldTriggerX a_oldTriggerY a_oldEnds a_oldTrailed a_oldNoted a_met a_classOf a_finer a_image a_seen a_stack a_deep a_company a_greeted n w (nI i) := by
  intro n
  induction n with
  | zero => intro i _ _ h; omega
  | succ n ih =>
    intro i w hi hn hw
    by_cases e : i = 4
    · subst e
      exact wh_t (a := 4) (b := 4) (by omega) (H w hw)
    · obtain ⟨_, _, g⟩ := he i (by omega)
      refine wh_f (a := 4) (b := i) (by omega) ?_
      rw [cl_n (k := i)]
      refine ⟨in_n (by omega), ?_⟩
      rcases g with g | ⟨x, ex, hx⟩
      · rw [g]
        exact br_t m1_neg (up1 (ih (i + 1) w (by omega) (by omega) (acc_s hw fun y => ⟨Or.inl, fun z => z.elim (fun q => q) fun q => absurd (q.1.symm.trans g) (nI_m1 (by have := q.2; omega))⟩)))
      · have lx := hu x hx
        rw [ex]
        refine br_f (nI_nn (by omega)) ⟨in_n (by omega), nm_e (up1 (ih (i + 1) _ (by omega) (by omega) (acc_s hw fun z => ?_)))⟩
        rw [sb_add lx]
        exact or_congr_right ⟨fun q => ⟨by rw [ex, q], by omega⟩, fun ⟨q, lz⟩ => (nI_inj (ex.symm.trans q)).symm⟩
end
end
section
/-! clearing: the reference -/
def Sub (v w : Int64) : Prop := ∀ y, bL v y = true → bL w y = true
theorem sub_eq {v w : Int64} (h : Sub v w) (g : Sub w v) : v = w := bL_ext fun y _ => by
  by_cases e : bL v y = true
  · rw [e, h y e]
  · rw [ts_nt e]
    exact (ts_nt fun z => e (g y z)).symm
theorem sub_pc {v w : Int64} (h : Sub v w) (ne : ¬ v = w) : pc v < pc w := by
  have : ∃ y, y < 64 ∧ bL w y = true ∧ ¬ bL v y = true := by
    by_cases e : ∃ y, y < 64 ∧ bL w y = true ∧ ¬ bL v y = true
    · exact e
    · exact absurd (sub_eq h fun y hy => Classical.not_not.1 fun z => e ⟨y, bL_lt hy, hy, z⟩) ne
  obtain ⟨y, hy, a, b⟩ := this
  refine smN_lt 64 (fun i _ => ?_) y hy (by rw [b01_t a, b01_f (ts_nt b)]; decide)
  by_cases z : bL v i = true
  · rw [b01_t z, b01_t (h i z)]; exact Nat.le_refl _
  · rw [b01_f (ts_nt z)]; exact Nat.zero_le _
theorem kp_same {c : Vw} {R : Nat → Prop} {u v : Nat} (h : KP c R u) (hv : cU c v) (e : cT c v = cT c u) : KP c R v := by
  obtain ⟨_, x, a, b, d⟩ := h
  exact ⟨hv, x, a, b, by rw [e]; exact d⟩
theorem kp_part {c : Vw} (W : VW c) {R : Nat → Prop} {u q j : Nat} (h : KP c R u) (hj : j < cM c u) (hq : cU c q) (e : cT c q = cT c (cP c u j)) : KP c R q := by
  obtain ⟨hu, x, a, b, d⟩ := h
  refine ⟨hq, x, a, b, ?_⟩
  have uT := vw_T W hu
  have eT := vw_TT W hu
  have := rc_s d (k := j) (by rw [vw_eM W uT hu eT]; exact hj)
  rw [vw_eP W uT hu eT j] at this
  rw [e]; exact this
def C29 (id : Nat → Nat) (w : Int64) (k : Nat) : Prop := bL w (k / 48) = true → id (k / 48) = id (k % 48) → bL w (k % 48) = true
def C97 (c : Vw) (s : Nat → Int32) (w : Int64) (k : Nat) : Prop := bL w (k / 3) = true → s (48 + k / 3) = 2 → k % 3 < cM c (k / 3) → ∀ q, q < 48 → s (240 + k) = nI q → bL w q = true
/-- what is closed holds all that is kept -/
theorem kp_in {c : Vw} (W : VW c) {R : Nat → Prop} {id : Nat → Nat} {s : Nat → Int32} (hY : YR c id s) {w : Int64} (hR : ∀ x, R x → bL w x = true) (h1 : ∀ k, k < 2304 → C29 id w k) (h2 : ∀ k, k < 144 → C97 c s w k) {y : Nat} (h : KP c R y) : bL w y = true := by
  have a29 : ∀ u v, cU c u → cU c v → bL w u = true → cT c u = cT c v → bL w v = true := by
    intro u v hu hv hb e
    have lu := vw_lt W hu
    have lv := vw_lt W hv
    have := h1 (v + 48 * u) (by omega)
    unfold C29 at this
    rw [Nat.add_mul_div_left _ _ (by decide), Nat.add_mul_mod_self_left, Nat.div_eq_of_lt lv, Nat.mod_eq_of_lt lv, Nat.zero_add] at this
    exact this hb ((hY.2.2.2.1 u v hu hv).2 e)
  obtain ⟨hy, x, hx, xU, hr⟩ := h
  have := hr (fun z => cU c z ∧ cT c z = z ∧ ∀ u, cU c u → cT c u = z → bL w u = true) ⟨vw_T W xU, vw_TT W xU, fun u hu e => a29 x u xU hu (hR x hx) e.symm⟩ fun z ⟨zU, zT, hz⟩ k hk => ?_
  · exact this.2.2 y hy rfl
  · have pU := vw_P W zU hk
    refine ⟨vw_T W pU, vw_TT W pU, fun v hv e => ?_⟩
    have k2 := vw_k2 W zU hk
    obtain ⟨u, hu, eu, nu⟩ := hY.2.2.2.2.2 z zU (by omega)
    have lu := vw_lt W hu
    have Tu := hY.2.2.2.2.1 u hu nu
    have eM := vw_eM W hu zU eu
    have m3 := vw_M W hu
    obtain ⟨q, q1, q2, q3⟩ := Tu.2.2.2.2.2 k (by rw [eM]; exact hk)
    have hb := hz u hu (by rw [eu]; exact zT)
    have := h2 (k + 3 * u) (by omega)
    unfold C97 at this
    rw [Nat.add_mul_div_left _ _ (by decide), Nat.add_mul_mod_self_left, Nat.div_eq_of_lt (by omega), Nat.mod_eq_of_lt (by omega), Nat.zero_add] at this
    have b := this hb (by rw [Tu.2.1, vw_eK W hu zU eu, k2]; rfl) (by rw [eM]; exact hk) q (vw_lt W q2) (by rw [show 240 + (k + 3 * u) = 240 + 3 * u + k by omega]; exact q1)
    refine a29 q v q2 hv b ?_
    rw [q3, vw_eP W hu zU eu k]; exact e.symm
section
variable {f_trials : Int32} {f_drafted : Int32} {f_found : Int32} {a_s : Nat → Int32} {a_saved : Nat → Int32} {a_draft : Nat → Int32} {a_who : Nat → Int32} {a_met : Nat → Int32} {a_stack : Nat → Int32} {a_fresh : Nat → Int32} {a_deep : Nat → Int32} {a_alike : Nat → Int64} {a_meets : Nat → Int64}
variable {c : Vw} {id : Nat → Nat} {used roots : Int64} {sd tx ty gx gy en : Nat → Int32}
theorem yw_rts93 {post : Int64 → Prop} {B : Nat → Prop} (hu : ∀ x, uB used x → x < 48) (ht : MTest used sd tx ty a_s) (hg : MTrig used gx gy a_s) (H : ∀ w, Sb w (fun y => B y ∨ ∃ k, k < 8 ∧ (QT sd tx ty k y ∨ QG gx gy k y)) → post w) : ∀ n i w, i ≤ 8 → 8 - i < n → Sb w (fun y => B y ∨ ∃ k, k < i ∧ (QT sd tx ty k y ∨ QG gx gy k y)) → wY_roots_93 post f_trials f_drafted f_found a_s a_saved a_draft a_who a_met a_stack a_fresh a_deep a_alike a_meets n w (nI i) := by
  intro n
  induction n with
  | zero => intro i _ _ h; omega
  | succ n ih =>
    intro i w hi hn hw
    by_cases e : i = 8
    · subst e
      exact wh_t (a := 8) (b := 8) (by omega) (H w hw)
    · obtain ⟨t1, t2, t3, _, _, _, tt⟩ := ht i (by omega)
      obtain ⟨g1, g2, _, _, gg⟩ := hg i (by omega)
      have l170 : ∀ w', (∀ y, bL w' y = true ↔ bL w y = true ∨ QT sd tx ty i y) → wY_roots_170 post (wY_roots_93 post f_trials f_drafted f_found a_s a_saved a_draft a_who a_met a_stack a_fresh a_deep a_alike a_meets n) w' (nI i) f_trials f_drafted f_found a_s a_saved a_draft a_who a_met a_stack a_fresh a_deep a_alike a_meets := by
        intro w' hw'
        unfold wY_roots_170
        rw [aL_552, aL_560, cl_n (k := 552 + i), cl_n (k := 560 + i), g1, g2]
        refine ⟨in_n (by omega), ?_⟩
        rcases gg with g | ⟨x, y, ex, ey, hx, hy⟩
        · rw [g]
          refine br_t m1_neg (up1 (ih (i + 1) w' (by omega) (by omega) (acc_s hw fun y => ?_)))
          rw [hw' y]
          exact or_congr_right ⟨Or.inl, fun z => z.elim (fun q => q) fun q => absurd g q.1⟩
        · have lx := hu x hx
          have ly := hu y hy
          have ne : ¬ gx i = -1 := by rw [ex]; exact nI_m1 (by omega)
          rw [ex, ey]
          refine br_f (nI_nn (by omega)) ⟨in_n (by omega), in_n (by omega), nm_e (up1 (ih (i + 1) _ (by omega) (by omega) (acc_s hw fun z => ?_)))⟩
          rw [bL_or, bL_or, Bool.or_eq_true, Bool.or_eq_true, bL_one (by omega), bL_one (by omega), decide_eq_true_eq, decide_eq_true_eq, hw' z, or_assoc]
          refine or_congr_right (or_congr_right ⟨fun q => ⟨ne, ?_, ?_⟩, fun ⟨_, lz, q⟩ => ?_⟩)
          · omega
          · rcases q with q | q
            · exact Or.inl (by rw [ex, q])
            · exact Or.inr (by rw [ey, q])
          · rcases q with q | q
            · exact Or.inl (nI_inj (ex.symm.trans q))
            · exact Or.inr (nI_inj (ey.symm.trans q))
      refine wh_f (a := 8) (b := i) (by omega) ?_
      rw [aL_544, aL_528, cl_n (k := 544 + i), cl_n (k := 528 + i), t1, t3]
      refine ⟨in_n (by omega), ?_⟩
      by_cases e3 : sd i = 3
      · obtain ⟨⟨x, ex, hx⟩, gy⟩ := tt e3
        have lx := hu x hx
        rw [ex]
        refine br_t e3 ⟨in_n (by omega), nm_e ?_⟩
        unfold wY_roots_128
        rw [aL_544, aL_536, cl_n (k := 544 + i), cl_n (k := 536 + i), t2, t3]
        refine ⟨in_n (by omega), br_t e3 ⟨in_n (by omega), ?_⟩⟩
        rcases gy with gy | ⟨y, ey, hy⟩
        · rw [gy]
          refine br_t m1_neg (l170 _ fun z => ?_)
          rw [sb_add lx]
          refine or_congr_right ⟨fun q => ⟨e3, by omega, Or.inl (by rw [ex, q])⟩, fun ⟨_, lz, q⟩ => ?_⟩
          rcases q with q | q
          · exact (nI_inj (ex.symm.trans q)).symm
          · exact absurd (q.symm.trans gy) (nI_m1 (by omega))
        · have ly := hu y hy
          rw [ey]
          refine br_f (nI_nn (by omega)) ⟨in_n (by omega), nm_e (l170 _ fun z => ?_)⟩
          rw [sb_add ly, sb_add lx, or_assoc]
          refine or_congr_right ⟨fun q => ⟨e3, by omega, q.imp (fun q => by rw [ex, q]) fun q => by rw [ey, q]⟩, fun ⟨_, lz, q⟩ => q.imp (fun q => (nI_inj (ex.symm.trans q)).symm) fun q => (nI_inj (ey.symm.trans q)).symm⟩
      · refine br_f e3 ?_
        unfold wY_roots_128
        rw [aL_544, cl_n (k := 544 + i), t3]
        exact ⟨in_n (by omega), br_f e3 (l170 w fun y => ⟨Or.inl, fun z => z.elim (fun q => q) fun q => absurd q.1 e3⟩)⟩
theorem yw_rts52 {post : Int64 → Prop} {B : Nat → Prop} (hu : ∀ x, uB used x → x < 48) (he : MEnd used en a_s) (H : ∀ w, Sb w (fun y => B y ∨ ∃ k, k < 4 ∧ QE en k y) → ∃ n, wY_roots_93 post f_trials f_drafted f_found a_s a_saved a_draft a_who a_met a_stack a_fresh a_deep a_alike a_meets n w 0) : ∀ n i w, i ≤ 4 → 4 - i < n → Sb w (fun y => B y ∨ ∃ k, k < i ∧ QE en k y) → wY_roots_52 post f_trials f_drafted f_found a_s a_saved a_draft a_who a_met a_stack a_fresh a_deep a_alike a_meets n w (nI i) := by
  intro n
  induction n with
  | zero => intro i _ _ h; omega
  | succ n ih =>
    intro i w hi hn hw
    by_cases e : i = 4
    · subst e
      exact wh_t (a := 4) (b := 4) (by omega) (H w hw)
    · obtain ⟨e1, _, g⟩ := he i (by omega)
      refine wh_f (a := 4) (b := i) (by omega) ?_
      rw [aL_568, cl_n (k := 568 + i), e1]
      refine ⟨in_n (by omega), ?_⟩
      rcases g with g | ⟨x, ex, hx⟩
      · rw [g]
        exact br_t m1_neg (up1 (ih (i + 1) w (by omega) (by omega) (acc_s hw fun y => ⟨Or.inl, fun z => z.elim (fun q => q) fun q => absurd (q.1.symm.trans g) (nI_m1 (by have := q.2; omega))⟩)))
      · have lx := hu x hx
        rw [ex]
        refine br_f (nI_nn (by omega)) ⟨in_n (by omega), nm_e (up1 (ih (i + 1) _ (by omega) (by omega) (acc_s hw fun z => ?_)))⟩
        rw [sb_add lx]
        exact or_congr_right ⟨fun q => ⟨by rw [ex, q], by omega⟩, fun ⟨q, lz⟩ => (nI_inj (ex.symm.trans q)).symm⟩
theorem yw_rts4 {post : Int64 → Prop} (hu1 : ∀ x, uB used x → a_s (384 + x) = 1) (hr : ∀ x, uB roots x → uB used x) (hu : ∀ x, uB used x → x < 48) (hz : ∀ x, x < 48 → a_s (432 + x) = nI (b01 (bL roots x))) (H : ∀ w, Sb w (fun y => bL roots y = true) → ∃ n, wY_roots_52 post f_trials f_drafted f_found a_s a_saved a_draft a_who a_met a_stack a_fresh a_deep a_alike a_meets n w 0) : ∀ n i w, i ≤ 48 → 48 - i < n → Sb w (fun y => y < i ∧ bL roots y = true) → wY_roots_4 post f_trials f_drafted f_found a_s a_saved a_draft a_who a_met a_stack a_fresh a_deep a_alike a_meets n w (nI i) := by
  intro n
  induction n with
  | zero => intro i _ _ h; omega
  | succ n ih =>
    intro i w hi hn hw
    by_cases e : i = 48
    · subst e
      refine wh_t (a := 48) (b := 48) (by omega) (H w fun y => ?_)
      rw [hw y]
      exact ⟨fun q => q.2, fun q => ⟨hu y (hr y q), q⟩⟩
    · have li : i < 48 := by omega
      refine wh_f (a := 48) (b := i) (by omega) ?_
      have no : ¬ bL roots i = true → wY_roots_4 post f_trials f_drafted f_found a_s a_saved a_draft a_who a_met a_stack a_fresh a_deep a_alike a_meets n w (nI (i + 1)) := by
        intro q
        refine ih (i + 1) w (by omega) (by omega) fun y => ?_
        rw [hw y]
        refine ⟨fun z => ⟨by omega, z.2⟩, fun z => ⟨?_, z.2⟩⟩
        by_cases e2 : y = i
        · rw [e2] at z; exact absurd z.2 q
        · omega
      rw [aL_384, aL_432, cl_n (k := 384 + i), cl_n (k := 432 + i), hz i li]
      refine ⟨in_n (by omega), ?_⟩
      by_cases hb : bL roots i = true
      · refine br_t (hu1 i (hr i hb)) ⟨in_n (by omega), br_t (by rw [b01_t hb]; rfl) (nm_e (up1 (ih (i + 1) _ (by omega) (by omega) fun y => ?_)))⟩
        rw [sb_add li, hw y]
        constructor
        · rintro (⟨a, b⟩ | rfl)
          · exact ⟨by omega, b⟩
          · exact ⟨by omega, hb⟩
        · intro ⟨a, b⟩
          by_cases e2 : y = i
          · exact Or.inr e2
          · exact Or.inl ⟨by omega, b⟩
      · exact br_c (fun _ => ⟨in_n (by omega), br_f (by rw [b01_f (ts_nt hb)]; decide) (up1 (no hb))⟩) fun _ => up1 (no hb)
theorem yw_roots {post : Int64 → Prop} (hu1 : ∀ x, uB used x → a_s (384 + x) = 1) (hr : ∀ x, uB roots x → uB used x) (hu : ∀ x, uB used x → x < 48) (hz : ∀ x, x < 48 → a_s (432 + x) = nI (b01 (bL roots x))) (ht : MTest used sd tx ty a_s) (hg : MTrig used gx gy a_s) (he : MEnd used en a_s) (H : ∀ w, Sb w (RS roots sd tx ty gx gy en) → post w) : wpY_roots post (f_trials, f_drafted, f_found, a_s, a_saved, a_draft, a_who, a_met, a_stack, a_fresh, a_deep, a_alike, a_meets) := by
  refine Exists.intro 49 (yw_rts4 hu1 hr hu hz (fun w hw => Exists.intro 5 (yw_rts52 hu he (fun w hw => Exists.intro 9 (yw_rts93 hu ht hg (fun w hw => H w fun y => ?_) 9 0 w (by omega) (by omega) (acc_0 hw))) 5 0 w (by omega) (by omega) (acc_0 hw))) 49 0 0 (by omega) (by omega) fun y => ?_)
  · refine (hw y).trans ?_
    unfold RS
    dsimp only
    rw [or_assoc]
    refine or_congr_right (or_congr_right ⟨fun ⟨k, hk, q⟩ => q.imp (fun q => ⟨k, hk, q⟩) fun q => ⟨k, hk, q⟩, fun z => z.elim (fun ⟨k, hk, q⟩ => ⟨k, hk, Or.inl q⟩) fun ⟨k, hk, q⟩ => ⟨k, hk, Or.inr q⟩⟩)
  · rw [bL_0]
    exact ⟨fun z => absurd z (by decide), fun z => absurd z.1 (by omega)⟩
theorem yw_clr97 {post : Int32 → SY → Prop} {J18 : Int64 → Int64 → Prop} (W : VW c) (hY : YR c id a_s) {R : Nat → Prop} {w0 : Int64} {Cx : Prop} (HJ : ∀ w, Sub w0 w → (∀ y, bL w y = true → KP c R y) → (w = w0 → Cx ∧ ∀ k, k < 144 → C97 c a_s w0 k) → J18 w w0) : ∀ n k w, k ≤ 144 → 144 - k < n → Sub w0 w → (∀ y, bL w y = true → KP c R y) → (w = w0 → Cx ∧ ∀ k', k' < k → C97 c a_s w0 k') → wY_clear_97 post J18 w0 f_trials f_drafted f_found a_s a_saved a_draft a_who a_met a_stack a_fresh a_deep a_alike a_meets n w (nI k) := by
  intro n
  induction n with
  | zero => intro k _ _ h; omega
  | succ n ih =>
    intro k w hk hn hs hw hc
    by_cases e : k = 144
    · subst e
      exact wh_t (a := 144) (b := 144) (by omega) (HJ w hs hw hc)
    · have e1 : nI k / 3 = nI (k / 3) := pk_div (d := 3) (by omega) (by decide) (by decide)
      have e2 : nI k - nI k / 3 * 3 = nI (k % 3) := pk_rem (d := 3) (by omega) (by decide) (by decide)
      have lu : k / 3 < 48 := by omega
      have n3 : ¬ (3 : Int32) = 0 := by decide
      refine wh_f (a := 144) (b := k) (by omega) ?_
      rw [e2, e1, aL_48, aL_192, aL_240, cl_n (k := 48 + k / 3), cl_n (k := 192 + k / 3), cl_n (k := 240 + k)]
      have skip : (w = w0 → C97 c a_s w0 k) → wY_clear_97 post J18 w0 f_trials f_drafted f_found a_s a_saved a_draft a_who a_met a_stack a_fresh a_deep a_alike a_meets n w (nI (k + 1)) := by
        intro q
        refine ih (k + 1) w (by omega) (by omega) hs hw fun z => ⟨(hc z).1, fun k' hk' => ?_⟩
        by_cases z2 : k' = k
        · rw [z2]; exact q z
        · exact (hc z).2 k' (by omega)
      refine ⟨n3, ?_⟩
      by_cases hb : bL w (k / 3) = true
      · have hK := hw _ hb
        have hU := hK.1
        refine br_t ((bt_1 _ (by omega)).2 hb) ⟨n3, in_n (by omega), ?_⟩
        by_cases k2 : a_s (48 + k / 3) = 2
        · have Tu := hY.2.2.2.2.1 (k / 3) hU (by rw [k2]; decide)
          have m3 := vw_M W hU
          refine br_t k2 ⟨n3, n3, in_n (by omega), ?_⟩
          rw [Tu.2.2.2.2.1]
          by_cases hm : k % 3 < cM c (k / 3)
          · obtain ⟨q, q1, q2, q3⟩ := Tu.2.2.2.2.2 _ hm
            have lq := vw_lt W q2
            rw [show 240 + 3 * (k / 3) + k % 3 = 240 + k by omega] at q1
            refine br_f (nI_ge hm (by omega)) ?_
            rw [q1]
            refine ⟨in_n (by omega), nm_e (up1 (ih (k + 1) _ (by omega) (by omega) (fun y hy => (sb_add lq y).2 (Or.inl (hs y hy))) (fun y hy => ?_) fun z => ?_))⟩
            · rcases (sb_add lq y).1 hy with z | rfl
              · exact hw y z
              · exact kp_part W hK hm q2 q3
            · have ew : w = w0 := (sub_eq hs fun y hy => by rw [← z]; exact (sb_add lq y).2 (Or.inl hy)).symm
              refine ⟨(hc ew).1, fun k' hk' => ?_⟩
              by_cases z2 : k' = k
              · rw [z2]
                intro _ _ _ q' lq' eq'
                have : q = q' := nI_inj (q1.symm.trans eq')
                rw [← this, ← z]
                exact (sb_add lq q).2 (Or.inr rfl)
              · exact (hc ew).2 k' (by omega)
          · exact br_t (nI_le (by omega) (by omega)) (up1 (skip fun _ _ _ z => absurd z hm))
        · exact br_f k2 (up1 (skip fun _ _ z => absurd z k2))
      · exact br_f (bt_n1 (by omega) (ts_nt hb)) (up1 (skip fun z q => absurd (by rw [z]; exact q) hb))
theorem yw_clr29 {post : Int32 → SY → Prop} {J18 : Int64 → Int64 → Prop} (W : VW c) (hY : YR c id a_s) {R : Nat → Prop} {w0 : Int64} (HJ : ∀ w, Sub w0 w → (∀ y, bL w y = true → KP c R y) → (w = w0 → (∀ k, k < 2304 → C29 id w0 k) ∧ ∀ k, k < 144 → C97 c a_s w0 k) → J18 w w0) : ∀ n k w, k ≤ 2304 → 2304 - k < n → Sub w0 w → (∀ y, bL w y = true → KP c R y) → (w = w0 → ∀ k', k' < k → C29 id w0 k') → wY_clear_29 post J18 w0 f_trials f_drafted f_found a_s a_saved a_draft a_who a_met a_stack a_fresh a_deep a_alike a_meets n w (nI k) := by
  intro n
  induction n with
  | zero => intro k _ _ h; omega
  | succ n ih =>
    intro k w hk hn hs hw hc
    by_cases e : k = 2304
    · subst e
      exact wh_t (a := 2304) (b := 2304) (by omega) (Exists.intro 145 (yw_clr97 W hY (R := R) HJ 145 0 w (by omega) (by omega) hs hw fun z => ⟨hc z, fun k' hk' => absurd hk' (by omega)⟩))
    · have e1 : nI k / 48 = nI (k / 48) := pk_div (d := 48) (by omega) (by decide) (by decide)
      have e2 : nI k - nI k / 48 * 48 = nI (k % 48) := pk_rem (d := 48) (by omega) (by decide) (by decide)
      have lu : k / 48 < 48 := by omega
      have lv : k % 48 < 48 := by omega
      have l1 := (hY.1 _ lu).2
      have l2 := (hY.1 _ lv).2
      have n48 : ¬ (48 : Int32) = 0 := by decide
      refine wh_f (a := 2304) (b := k) (by omega) ?_
      rw [e2, e1, aL_0, aL_0, cl_n (k := k / 48), cl_n (k := k % 48), (hY.1 _ lu).1, (hY.1 _ lv).1]
      have skip : (w = w0 → C29 id w0 k) → wY_clear_29 post J18 w0 f_trials f_drafted f_found a_s a_saved a_draft a_who a_met a_stack a_fresh a_deep a_alike a_meets n w (nI (k + 1)) := by
        intro q
        refine ih (k + 1) w (by omega) (by omega) hs hw fun z k' hk' => ?_
        by_cases z2 : k' = k
        · rw [z2]; exact q z
        · exact hc z k' (by omega)
      refine ⟨n48, ?_⟩
      by_cases hb : bL w (k / 48) = true
      · have hK := hw _ hb
        refine br_t ((bt_1 _ (by omega)).2 hb) ⟨n48, in_n (by omega), n48, in_n (by omega), ?_⟩
        by_cases ei : id (k / 48) = id (k % 48)
        · have hv : cU c (k % 48) := by
            by_cases q : cU c (k % 48)
            · exact q
            · exact absurd ei.symm (yr_idne W hY lv q hK.1)
          refine br_t (by rw [ei]) ⟨n48, nm_e (up1 (ih (k + 1) _ (by omega) (by omega) (fun y hy => (sb_add lv y).2 (Or.inl (hs y hy))) (fun y hy => ?_) fun z k' hk' => ?_))⟩
          · rcases (sb_add lv y).1 hy with z | z
            · exact hw y z
            · rw [z]
              exact kp_same hK hv ((hY.2.2.2.1 _ _ hv hK.1).1 ei.symm)
          · have ew : w = w0 := (sub_eq hs fun y hy => by rw [← z]; exact (sb_add lv y).2 (Or.inl hy)).symm
            by_cases z2 : k' = k
            · rw [z2]
              intro _ _
              rw [← z]
              exact (sb_add lv _).2 (Or.inr rfl)
            · exact hc ew k' (by omega)
        · exact br_f (fun z => ei (nI_inj z)) (up1 (skip fun _ _ z => absurd z ei))
      · exact br_f (bt_n1 (by omega) (ts_nt hb)) (up1 (skip fun z q => absurd (by rw [z]; exact q) hb))
/-- some variables aren't in use any more -/
def ClS (D : Nat → Prop) (s s' : Nat → Int32) (i : Nat) : Prop := (∀ v, v < i → D v → s' v = nI v ∧ s' (48 + v) = 0 ∧ s' (384 + v) = 0 ∧ s' (432 + v) = 0 ∧ s' (480 + v) = 0) ∧ (∀ v, v < 48 → ¬ (v < i ∧ D v) → s' v = s v ∧ s' (48 + v) = s (48 + v) ∧ s' (384 + v) = s (384 + v) ∧ s' (432 + v) = s (432 + v) ∧ s' (480 + v) = s (480 + v)) ∧ ∀ j, (96 ≤ j ∧ j < 384) ∨ 528 ≤ j → s' j = s j
theorem yw_clr185 {post : Int32 → SY → Prop} {w : Int64} {s : Nat → Int32} {f : Nat → Bool} (hf : ∀ v, v < 48 → (f v = true ↔ (uB used v ∧ ¬ bL w v = true))) (hu1 : ∀ x, uB used x → s (384 + x) = 1) (hu0 : ∀ x, x < 48 → ¬ uB used x → s (384 + x) = 0) (H : ∀ a_s, ClS (fun v => f v = true) s a_s 48 → post (nI (cnB f 48)) (f_trials, f_drafted, f_found, a_s, a_saved, a_draft, a_who, a_met, a_stack, a_fresh, a_deep, a_alike, a_meets)) : ∀ n i a_s, i ≤ 48 → 48 - i < n → ClS (fun v => f v = true) s a_s i → wY_clear_185 post w n (nI (cnB f i)) (nI i) f_trials f_drafted f_found a_s a_saved a_draft a_who a_met a_stack a_fresh a_deep a_alike a_meets := by
  intro n
  induction n with
  | zero => intro i _ _ h; omega
  | succ n ih =>
    intro i a_s hi hn hc
    by_cases e : i = 48
    · subst e
      exact wh_t (a := 48) (b := 48) (by omega) (H a_s hc)
    · have li : i < 48 := by omega
      have hs : cnB f (i + 1) = cnB f i + b01 (f i) := rfl
      have keep : ¬ f i = true → wY_clear_185 post w n (nI (cnB f i)) (nI (i + 1)) f_trials f_drafted f_found a_s a_saved a_draft a_who a_met a_stack a_fresh a_deep a_alike a_meets := by
        intro q
        have := ih (i + 1) a_s (by omega) (by omega) ⟨fun v hv hd => ?_, fun v hv hd => hc.2.1 v hv fun z => hd ⟨by omega, z.2⟩, hc.2.2⟩
        · rw [hs, b01_f (ts_nt q)] at this
          exact this
        · by_cases z : v = i
          · rw [z] at hd; exact absurd hd q
          · exact hc.1 v (by omega) hd
      refine wh_f (a := 48) (b := i) (by omega) ?_
      rw [aL_384, cl_n (k := 384 + i), (hc.2.1 i li (by omega)).2.2.1]
      refine ⟨in_n (by omega), ?_⟩
      by_cases hu : uB used i
      · refine br_f (by rw [hu1 i hu]; decide) ?_
        by_cases hb : bL w i = true
        · exact br_t ((bt_1 _ (by omega)).2 hb) (up1 (keep fun q => ((hf i li).1 q).2 hb))
        · have fi : f i = true := (hf i li).2 ⟨hu, hb⟩
          refine br_f (bt_n1 (by omega) (ts_nt hb)) (yw_use li ⟨in_n (by omega), ?_⟩)
          have uz := useS_z (s := a_s) li
          have := ih (i + 1) (upd (useS a_s i) (384 + i) 0) (by omega) (by omega) ⟨fun v hv hd => ?_, fun v hv hd => ?_, fun j hj => ?_⟩
          · rw [hs, b01_t fi] at this
            exact nm_e (up1 (up1 this))
          · by_cases z : v = i
            · rw [z, pk_us, pk_un (by omega), pk_un (by omega), pk_un (by omega), pk_un (by omega)]
              exact ⟨uz.1, uz.2.1, rfl, uz.2.2.2.1, uz.2.2.2.2⟩
            · have q := hc.1 v (by omega) hd
              rw [pk_un (by omega), pk_un (by omega), pk_un (by omega), pk_un (by omega), pk_un (by omega), useS_o (by omega) (by omega) (by omega) (by omega) (by omega), useS_o (by omega) (by omega) (by omega) (by omega) (by omega), useS_o (by omega) (by omega) (by omega) (by omega) (by omega), useS_o (by omega) (by omega) (by omega) (by omega) (by omega), useS_o (by omega) (by omega) (by omega) (by omega) (by omega)]
              exact q
          · have z : v ≠ i := fun q => hd ⟨by omega, by rw [q]; exact fi⟩
            have q := hc.2.1 v hv fun q => hd ⟨by omega, q.2⟩
            rw [pk_un (by omega), pk_un (by omega), pk_un (by omega), pk_un (by omega), pk_un (by omega), useS_o (by omega) (by omega) (by omega) (by omega) (by omega), useS_o (by omega) (by omega) (by omega) (by omega) (by omega), useS_o (by omega) (by omega) (by omega) (by omega) (by omega), useS_o (by omega) (by omega) (by omega) (by omega) (by omega), useS_o (by omega) (by omega) (by omega) (by omega) (by omega)]
            exact q
          · rw [pk_un (by omega), useS_o (by omega) (by omega) (by omega) (by omega) (by omega)]
            exact hc.2.2 j hj
      · exact br_t (hu0 i li hu) (up1 (keep fun q => hu ((hf i li).1 q).1))
theorem yw_clr18 {post : Int32 → SY → Prop} (W : VW c) (hY : YR c id a_s) {R : Nat → Prop} (hR : ∀ x, R x → cU c x) (H : ∀ w, Sb w (KP c R) → ∃ n, wY_clear_185 post w n 0 0 f_trials f_drafted f_found a_s a_saved a_draft a_who a_met a_stack a_fresh a_deep a_alike a_meets) : ∀ fu w w0, 2 * (64 - pc w) + (if w = w0 then 0 else 1) < fu → (∀ x, R x → bL w x = true) → (∀ y, bL w y = true → KP c R y) → (w = w0 → (∀ k, k < 2304 → C29 id w k) ∧ ∀ k, k < 144 → C97 c a_s w k) → wY_clear_18 post f_trials f_drafted f_found a_s a_saved a_draft a_who a_met a_stack a_fresh a_deep a_alike a_meets fu w w0 := by
  intro fu
  induction fu with
  | zero => intro w w0 h; omega
  | succ fu ih =>
    intro w w0 hf hr hw hc
    by_cases e : w = w0
    · have q := hc e
      exact And.intro (fun _ => H w fun y => ⟨hw y, kp_in W hY hr q.1 q.2⟩) fun z => absurd e z
    · rw [if_neg e] at hf
      refine And.intro (fun z => absurd z e) fun _ => Exists.intro 2305 (yw_clr29 W hY (R := R) (fun w' hs hw' hc' => ?_) 2305 0 w (by omega) (by omega) (fun y h => h) hw fun _ k' hk' => absurd hk' (by omega))
      refine ih w' w ?_ (fun x hx => hs x (hr x hx)) hw' fun z => by rw [z]; exact hc' z
      by_cases z : w' = w
      · rw [if_pos z, z]; omega
      · rw [if_neg z]
        have := sub_pc hs fun q => z q.symm
        have := pc_le w'
        omega
end
end
section
/-! clear -/
theorem yr_cut {U U' D : Nat → Prop} {T kd mn pt id : Nat → Nat} {val s s' : Nat → Int32} (W : VW (xv U T kd mn pt val)) (hY : YR (xv U T kd mn pt val) id s) (h1 : ∀ x, U' x → U x) (h2 : ∀ x y, U' x → U y → T y = T x → U' y) (h3 : ∀ x j q, U' x → j < cM (xv U T kd mn pt val) x → U q → T q = T (pt (3 * T x + j)) → U' q) (hc : ClS D s s' 48) (hD : ∀ x, x < 48 → (D x ↔ (U x ∧ ¬ U' x))) : ∃ id', YR (xv U' T kd mn pt val) id' s' := by
  obtain ⟨c1, c2, c3⟩ := hc
  obtain ⟨y1, y2, y3, y4, y5, y6⟩ := hY
  have keep : ∀ x, U' x → x < 48 ∧ ¬ (x < 48 ∧ D x) := fun x hx => ⟨vw_lt W (h1 x hx), fun z => ((hD x z.1).1 z.2).2 hx⟩
  have hid : ∀ x, U' x → U' (id x) := fun x hx => h2 x _ hx (y3 x (h1 x hx)).2.2.1 (y3 x (h1 x hx)).2.2.2
  obtain ⟨jd, i1, i0⟩ : ∃ f : Nat → Nat, (∀ x, U' x → f x = id x) ∧ ∀ x, ¬ U' x → f x = x := ⟨fun x => @ite Nat (U' x) (Classical.propDecidable _) (id x) x, fun x h => if_pos h, fun x h => if_neg h⟩
  refine ⟨jd, fun x hx => ?_, fun x hx hn => ?_, fun x hx => ?_, fun x y hx hy => ?_, fun x hx hn => ?_, fun x hx hk => ?_⟩
  · by_cases e : U' x
    · rw [i1 x e, (c2 x hx (keep x e).2).1]; exact y1 x hx
    · rw [i0 x e]
      by_cases d : D x
      · exact ⟨(c1 x hx d).1, hx⟩
      · have nu : ¬ U x := fun z => d ((hD x hx).2 ⟨z, e⟩)
        rw [(c2 x hx fun z => d z.2).1, (y1 x hx).1, (y2 x hx nu).1]
        exact ⟨rfl, hx⟩
  · have e : ¬ U' x := hn
    refine ⟨i0 x e, ?_⟩
    by_cases d : D x
    · exact ⟨(c1 x hx d).2.1, (c1 x hx d).2.2.1⟩
    · have nu : ¬ U x := fun z => d ((hD x hx).2 ⟨z, e⟩)
      have q := c2 x hx fun z => d z.2
      rw [q.2.1, q.2.2.1]
      exact (y2 x hx nu).2
  · have e : U' x := hx
    have k := keep x e
    have q := y3 x (h1 x e)
    rw [i1 x e, (c2 x k.1 k.2).2.2.1]
    exact ⟨q.1, q.2.1, hid x e, q.2.2.2⟩
  · have e : U' x := hx
    have e' : U' y := hy
    rw [i1 x e, i1 y e']
    exact y4 x y (h1 x e) (h1 y e')
  · have e : U' x := hx
    have k := keep x e
    have q := c2 x k.1 k.2
    rw [q.2.1] at hn
    obtain ⟨a, b, d, f, g, i⟩ := y5 x (h1 x e) hn
    have m3 := vw_M W (h1 x e)
    refine ⟨a, by rw [q.2.1]; exact b, fun z => by rw [c3 _ (by omega), c3 _ (by omega)]; exact d z, fun z => by rw [c3 _ (by omega), c3 _ (by omega)]; exact f z, by rw [c3 _ (by omega)]; exact g, fun j hj => ?_⟩
    obtain ⟨v, v1, v2, v3⟩ := i j hj
    have : cM (xv U' T kd mn pt val) x = cM (xv U T kd mn pt val) x := rfl
    rw [this] at hj
    exact ⟨v, by rw [c3 _ (by omega)]; exact v1, h3 x j v e hj v2 v3, v3⟩
  · have e : U' x := hx
    obtain ⟨u, a, b, d⟩ := y6 x (h1 x e) hk
    have hu := h2 x u e a b
    have k := keep u hu
    exact ⟨u, hu, b, by rw [(c2 u k.1 k.2).2.1]; exact d⟩
theorem i_vc_clear {k : Nat} {u : SX} {v : SY} (I : i_Rel k u v) (hk : k + 4 ≤ 2048) : wpX_clear (fun r u' => wpY_clear (fun r' v' => r' = r ∧ i_Rel (k + 4) u' v') v) u := by
  refine rel_el (P := fun u v => wpX_clear (fun r u' => wpY_clear (fun r' v' => r' = r ∧ i_Rel (k + 4) u' v') v) u) ?_ I
  intro f_bound f_mets f_classes a_value a_left a_right a_draft a_oldUsed a_oldRoots a_oldAsked a_oldStands a_oldTestX a_oldTestY a_oldTriggerX a_oldTriggerY a_oldEnds a_oldTrailed a_oldNoted a_met a_classOf a_finer a_image a_seen a_stack a_deep a_company a_greeted used roots asked p kd mn pt tr tn sd tx ty gx gy en N nt L dn dr yf3 s sv y1 w y2 y3 y4 y5 A y6 hM ⟨h1, h2, h3, h4, h5⟩
  have I' : i_Rel (k + 4) (used, roots, asked, nI tn, f_bound, 0, nI dn, nI N, nI L, f_mets, f_classes, nA p, nA kd, nA mn, nA pt, a_value, nA tr, a_left, a_right, a_draft, sd, tx, ty, gx, gy, en, nt, a_oldUsed, a_oldRoots, a_oldAsked, a_oldStands, a_oldTestX, a_oldTestY, a_oldTriggerX, a_oldTriggerY, a_oldEnds, a_oldTrailed, a_oldNoted, a_met, a_classOf, a_finer, a_image, a_seen, a_stack, a_deep, a_company, a_greeted) (nI L, nI dn, yf3, s, sv, y1, w, y2, y3, y4, y5, A, y6) := rel_mk hM ⟨h1, h2, by omega, h4, h5⟩
  by_cases e : L = 0
  · have tn0 := h2 e
    subst tn0
    subst e
    obtain ⟨⟨⟨T, rk, id, F, D, Y⟩, m1, m2, m3, m4, m5⟩, hT, hL⟩ := hM
    have W : VW (xv (uB used) T kd mn pt a_value) := xv_W F D
    have hRU : ∀ x, RS roots sd tx ty gx gy en x → uB used x := by
      intro x hx
      rcases hx with hx | ⟨i, hi, q, lx⟩ | ⟨i, hi, q, lx, z⟩ | ⟨i, hi, q, lx, z⟩
      · exact m1.2.1 x hx
      · rcases (m4 i hi).2.2 with g | ⟨y, ey, hy⟩
        · exact absurd (q.symm.trans g) (nI_m1 (by omega))
        · have ly := m1.1 y hy; have : x = y := nI_inj (q.symm.trans ey)
          rw [this]; exact hy
      · obtain ⟨⟨a, ea, ha⟩, hb⟩ := (m2 i hi).2.2.2.2.2.2 q
        rcases z with z | z
        · have la := m1.1 a ha; have : x = a := nI_inj (z.symm.trans ea)
          rw [this]; exact ha
        · rcases hb with g | ⟨y, ey, hy⟩
          · exact absurd (z.symm.trans g) (nI_m1 (by omega))
          · have ly := m1.1 y hy; have : x = y := nI_inj (z.symm.trans ey)
            rw [this]; exact hy
      · rcases (m3 i hi).2.2.2.2 with g | ⟨a, b, ea, eb, ha, hb⟩
        · exact absurd g q
        · rcases z with z | z
          · have la := m1.1 a ha; have : x = a := nI_inj (z.symm.trans ea)
            rw [this]; exact ha
          · have lb := m1.1 b hb; have : x = b := nI_inj (z.symm.trans eb)
            rw [this]; exact hb
    have hKU : ∀ x, RS roots sd tx ty gx gy en x → KP (xv (uB used) T kd mn pt a_value) (RS roots sd tx ty gx gy en) x := fun x hx => ⟨hRU x hx, x, hx, hRU x hx, rc_0 _ x⟩
    refine br_t (by decide) (Exists.intro 5 (xw_clr16 (B := fun y => bL roots y = true) m1.1 m4 (fun w1 hw1 => Exists.intro 9 (xw_clr49 m1.1 m2 (fun w2 hw2 => Exists.intro 9 (xw_clr107 m1.1 m3 (fun w3 hw3 => ?_) 9 0 w2 (by omega) (by omega) (acc_0 hw2))) 9 0 w1 (by omega) (by omega) (acc_0 hw1))) 5 0 roots (by omega) (by omega) (acc_0 fun y => Iff.rfl)))
    have hs : Sb w3 (RS roots sd tx ty gx gy en) := by
      intro y
      refine (hw3 y).trans ?_
      unfold RS
      dsimp only
      rw [or_assoc, or_assoc]
    refine xw_closure F D hs hRU fun kw f_mets a_met a_seen a_stack hkw => ?_
    unfold wX_clr_fin
    refine xw_count _ (nm_e (nm_e ?_))
    have key : ∀ x, uB (used &&& kw) x ↔ KP (xv (uB used) T kd mn pt a_value) (RS roots sd tx ty gx gy en) x := by
      intro x
      show bL (used &&& kw) x = true ↔ _
      rw [bL_and, Bool.and_eq_true, hkw x]
      exact ⟨fun z => z.2, fun z => ⟨z.1, z⟩⟩
    have kU : ∀ x, uB (used &&& kw) x → uB used x := fun x hx => ((key x).1 hx).1
    have k2 : ∀ x y, uB (used &&& kw) x → uB used y → T y = T x → uB (used &&& kw) y := fun x y hx hy ey => (key y).2 (kp_same ((key x).1 hx) hy ey)
    have k3 : ∀ x j q, uB (used &&& kw) x → j < cM (xv (uB used) T kd mn pt a_value) x → uB used q → T q = T (pt (3 * T x + j)) → uB (used &&& kw) q := fun x j q hx hj hq eq => (key q).2 (kp_part W ((key x).1 hx) hj hq eq)
    have f0 : ∀ v, v < 48 → (bL (used &&& (kw ^^^ (-1))) v = true ↔ (uB used v ∧ ¬ bL kw v = true)) := by
      intro v hv
      rw [bL_and, bL_not _ (by omega), Bool.and_eq_true, Bool.not_eq_true', Bool.not_eq_true]
      exact Iff.rfl
    unfold wpY_clear
    refine br_t (by decide) (yw_roots (fun x hx => (Y.2.2.1 x hx).1) m1.2.1 m1.1 (fun x hx => (m1.2.2.2 x hx).1) m2 m3 m4 fun w4 hw4 => ?_)
    have hw4K : ∀ y, bL w4 y = true → KP (xv (uB used) T kd mn pt a_value) (RS roots sd tx ty gx gy en) y := fun y hy => hKU y ((hw4 y).1 hy)
    have ne4 : ¬ w4 = -1 := by
      intro z
      have : bL w4 63 = true := by rw [z]; exact bL_m1 (by decide)
      have := m1.1 63 (hw4K 63 this).1
      omega
    refine Exists.intro 200 (yw_clr18 W Y (R := RS roots sd tx ty gx gy en) hRU (fun w5 hw5 => ?_) 200 w4 (-1) (by rw [if_neg ne4]; omega) (fun x hx => (hw4 x).2 hx) hw4K (fun z => absurd z ne4))
    have e5 : w5 = kw := sub_eq (fun y hy => (hkw y).2 ((hw5 y).1 hy)) fun y hy => (hw5 y).2 ((hkw y).1 hy)
    subst e5
    refine Exists.intro 49 (yw_clr185 (used := used) (s := s) (f := bL (used &&& (w5 ^^^ (-1)))) f0 (fun x hx => (Y.2.2.1 x hx).1) (fun x hx hn => (Y.2.1 x hx hn).2.2) (fun s' hc => ⟨?_, ?_⟩) 49 0 s (by omega) (by omega) ⟨fun v hv => absurd hv (by omega), fun v hv _ => ⟨rfl, rfl, rfl, rfl, rfl⟩, fun j _ => rfl⟩)
    · have := cnB_cut (f := bL (used &&& (w5 ^^^ (-1)))) (a := 48) 16 fun i a b => ts_nt fun z => by
        rw [bL_and, Bool.and_eq_true] at z
        have := m1.1 i z.1
        omega
      show nI (cnB _ 48) = nI (cnB _ 64)
      rw [← this]
    · have hD : ∀ x, x < 48 → (bL (used &&& (w5 ^^^ (-1))) x = true ↔ (uB used x ∧ ¬ uB (used &&& w5) x)) := by
        intro x hx
        rw [f0 x hx]
        refine and_congr_right fun hu => not_congr ?_
        show _ ↔ bL (used &&& w5) x = true
        rw [bL_and, Bool.and_eq_true]
        exact ⟨fun z => ⟨hu, z⟩, fun z => z.2⟩
      obtain ⟨id', Y'⟩ := yr_cut W Y kU k2 k3 hc hD
      have hKeep : ∀ x, RS roots sd tx ty gx gy en x → uB (used &&& w5) x := fun x hx => (key x).2 (hKU x hx)
      refine rel_mk (dr := dr) (dn := dn) (L := 0) (tn := 0) (tr := tr) (used := used &&& w5) (asked := asked &&& w5) ⟨⟨⟨T, rk, id', fun x hx => ?_, fun x hx ex => ?_, Y'⟩, ⟨fun x hx => m1.1 x (kU x hx), fun x hx => hKeep x (Or.inl hx), fun x hx => ?_, fun x hx => ?_⟩, fun i hi => ?_, fun i hi => ?_, fun i hi => ?_, ?_⟩, ⟨fun j hj => absurd hj (by omega), fun i j hi => absurd hi (by omega)⟩, (fun _ => 0), (fun _ => 0), fun m hm => absurd hm (by omega)⟩ ⟨h1, fun _ => rfl, by omega, h4, h5⟩
      · have f := F x (kU x hx)
        exact ⟨f.1, k2 x _ hx f.2.1 f.2.2.2.2.1, k2 x _ hx f.2.2.1 (fo_TT F (kU x hx)), f.2.2.2⟩
      · have d := D x (kU x hx) ex
        have eT : T x = x := fo_top F (kU x hx) ex
        refine ⟨d.1, fun z => ⟨(d.2 z).1, fun j hj => ?_⟩⟩
        refine k3 x j _ hx ?_ ((d.2 z).2 j hj) (by rw [eT])
        rw [xv_M2 (by rw [eT]; exact z), eT]
        exact hj
      · have hx : bL (asked &&& w5) x = true := hx
        show bL (used &&& w5) x = true
        rw [bL_and, Bool.and_eq_true] at hx ⊢
        exact ⟨m1.2.2.1 x hx.1, hx.2⟩
      · obtain ⟨q1, q2⟩ := m1.2.2.2 x hx
        by_cases d : bL (used &&& (w5 ^^^ (-1))) x = true
        · have q := hc.1 x hx d
          have nk := ((hD x hx).1 d).2
          have nw := ((f0 x hx).1 d).2
          rw [q.2.2.2.1, q.2.2.2.2, b01_f (ts_nt fun z => nk (hKeep x (Or.inl z))), b01_f (ts_nt fun z => nw ?_)]
          · exact ⟨rfl, rfl⟩
          · rw [bL_and, Bool.and_eq_true] at z
            exact z.2
        · have q := hc.2.1 x hx fun z => d z.2
          rw [q.2.2.2.1, q.2.2.2.2, q1, q2]
          refine ⟨rfl, ?_⟩
          by_cases ha : bL asked x = true
          · have hu := m1.2.2.1 x ha
            have : bL w5 x = true := Classical.not_not.1 fun z => d ((f0 x hx).2 ⟨hu, z⟩)
            rw [bL_and, ha, this]; rfl
          · rw [bL_and, ts_nt ha]; rfl
      · obtain ⟨a, b, d, e, f, g, i2⟩ := m2 i hi
        rw [hc.2.2 _ (by omega), hc.2.2 _ (by omega), hc.2.2 _ (by omega)]
        refine ⟨a, b, d, e, f, g, fun z => ?_⟩
        obtain ⟨⟨x, ex, hx⟩, hy⟩ := i2 z
        refine ⟨⟨x, ex, hKeep x (Or.inr (Or.inr (Or.inl ⟨i, hi, z, m1.1 x hx, Or.inl ex⟩)))⟩, hy.imp (fun q => q) fun ⟨y, ey, hy⟩ => ⟨y, ey, hKeep y (Or.inr (Or.inr (Or.inl ⟨i, hi, z, m1.1 y hy, Or.inr ey⟩)))⟩⟩
      · obtain ⟨a, b, d, e, f⟩ := m3 i hi
        rw [hc.2.2 _ (by omega), hc.2.2 _ (by omega)]
        refine ⟨a, b, d, e, f.imp (fun q => q) fun ⟨x, y, ex, ey, hx, hy⟩ => ?_⟩
        have ne : ¬ gx i = -1 := by rw [ex]; exact nI_m1 (by have := m1.1 x hx; omega)
        exact ⟨x, y, ex, ey, hKeep x (Or.inr (Or.inr (Or.inr ⟨i, hi, ne, m1.1 x hx, Or.inl ex⟩))), hKeep y (Or.inr (Or.inr (Or.inr ⟨i, hi, ne, m1.1 y hy, Or.inr ey⟩)))⟩
      · obtain ⟨a, b, d⟩ := m4 i hi
        rw [hc.2.2 _ (by omega)]
        exact ⟨a, b, d.imp (fun q => q) fun ⟨x, ex, hx⟩ => ⟨x, ex, hKeep x (Or.inr (Or.inl ⟨i, hi, ex, m1.1 x hx⟩))⟩⟩
      · refine ⟨by rw [hc.2.2 _ (by omega)]; exact m5.1, fun j a b => by rw [hc.2.2 _ (by omega)]; exact m5.2 j a b⟩
  · have nl : ¬ nI L ≤ 0 := nI_ge (a := 0) (b := L) (by omega) (by omega)
    refine br_f nl ?_
    unfold wpY_clear
    exact br_f nl ⟨rfl, I'⟩
end
section
/-! clearing: the component -/
/-! depth: what it is; the component -/
def Dge (c : Vw) : Nat → Nat → Prop
  | 0 => fun _ => True
  | n + 1 => fun t => cK c t = 2 ∧ (n = 0 ∨ ∃ k, k < cM c t ∧ Dge c n (cT c (cP c t k)))
theorem dg_up {c : Vw} : ∀ n t, Dge c (n + 1) t → Dge c n t
  | 0, _, _ => trivial
  | n + 1, t, h => by
    refine ⟨h.1, ?_⟩
    rcases h.2 with z | ⟨k, hk, q⟩
    · omega
    · exact Or.inr ⟨k, hk, dg_up n _ q⟩
theorem dg_le {c : Vw} {t m : Nat} : ∀ d, Dge c (m + d) t → Dge c m t
  | 0, h => h
  | d + 1, h => dg_le d (dg_up (m + d) t h)
theorem dg_l {c : Vw} {t m n : Nat} (h : m ≤ n) (q : Dge c n t) : Dge c m t := by
  obtain ⟨d, rfl⟩ : ∃ d, n = m + d := ⟨n - m, by omega⟩
  exact dg_le d q
def DP (c : Vw) (g : Nat → Nat → Prop) (t d : Nat) : Prop := (cK c t ≠ 2 ∧ d = 0) ∨ (cK c t = 2 ∧ 1 ≤ d ∧ (∀ k, k < cM c t → ∃ v, g (cT c (cP c t k)) v ∧ v < d) ∧ (d = 1 ∨ ∃ k, k < cM c t ∧ ∃ v, g (cT c (cP c t k)) v ∧ d = v + 1))
theorem dp_lb {c : Vw} {g : Nat → Nat → Prop} {t d s : Nat} (h : DP c g t d) (hl : ∀ k v, k < cM c t → g (cT c (cP c t k)) v → ∀ n, n ≤ s → Dge c n (cT c (cP c t k)) → n ≤ v) : ∀ n, n ≤ s + 1 → Dge c n t → n ≤ d := by
  intro n hn q
  cases n with
  | zero => omega
  | succ n =>
    rcases h with ⟨h, _⟩ | ⟨h1, h2, h3, _⟩
    · exact absurd q.1 h
    · rcases q.2 with z | ⟨k, hk, z⟩
      · omega
      · obtain ⟨v, gv, lv⟩ := h3 k hk
        have := hl k v hk gv n (by omega) z
        omega
theorem dp_ub {c : Vw} {g : Nat → Nat → Prop} {t d : Nat} (h : DP c g t d) (hl : ∀ k v, k < cM c t → g (cT c (cP c t k)) v → Dge c v (cT c (cP c t k))) : Dge c d t := by
  rcases h with ⟨_, rfl⟩ | ⟨h1, h2, _, h4⟩
  · trivial
  · rcases h4 with rfl | ⟨k, hk, v, gv, rfl⟩
    · exact ⟨h1, Or.inl rfl⟩
    · exact ⟨h1, Or.inr ⟨k, hk, hl k v hk gv⟩⟩
def isD (c : Vw) (t v : Nat) : Prop := ∀ n, Dge c n t ↔ n ≤ v
theorem isD_u {c : Vw} {t v w : Nat} (h : isD c t v) (g : isD c t w) : v = w := by
  have a := (g v).1 ((h v).2 (Nat.le_refl v))
  have b := (h w).1 ((g w).2 (Nat.le_refl w))
  omega
theorem dg_is {c : Vw} {t : Nat} : ∀ n, ¬ Dge c n t → ∃ v, isD c t v
  | 0, h => absurd trivial h
  | n + 1, h => by
    by_cases e : Dge c n t
    · refine ⟨n, fun m => ⟨fun q => ?_, fun q => dg_l q e⟩⟩
      by_cases z : m ≤ n
      · exact z
      · exact absurd (dg_l (by omega) q) h
    · exact dg_is n e
def Bd (c : Vw) (x : Nat) : Prop := ∃ n, ¬ Dge c n (cT c x)
theorem dg_big {c : Vw} (W : VW c) {x m : Nat} {mt : Nat → Nat} (hx : cU c x) (hg : GOK c x m mt) (hb : Bd c x) {t : Nat} (ht : Rch c x t) : ¬ Dge c (m + 1) t := by
  have bd : ∀ t, Rch c x t → ∃ v, isD c t v := by
    intro t h
    obtain ⟨_, n, hn⟩ := h (fun t => cU c t ∧ ∃ n, ¬ Dge c n t) ⟨vw_T W hx, hb⟩ fun z ⟨zU, n, hn⟩ k hk => ⟨vw_T W (vw_P W zU hk), n, fun q => hn (dg_up n z ⟨vw_k2 W zU hk, Or.inr ⟨k, hk, q⟩⟩)⟩
    exact dg_is n hn
  have chain : ∀ v t, Rch c x t → isD c t v → ∀ j, 1 ≤ j → j ≤ v → ∃ i, i < m ∧ isD c (mt i) j := by
    intro v
    induction v with
    | zero => intro t _ _ j h1 h2; omega
    | succ v ih =>
      intro t ht hd j h1 h2
      by_cases e : j = v + 1
      · obtain ⟨i, hi, q⟩ := hg.2.2.2.2 t ht
        exact ⟨i, hi, by rw [q, e]; exact hd⟩
      · have q := (hd (v + 1)).2 (Nat.le_refl _)
        rcases q.2 with z | ⟨k, hk, z⟩
        · omega
        · have hr := rc_s ht hk
          obtain ⟨w, hw⟩ := bd _ hr
          have a := (hw v).1 z
          have b := (hd (w + 1)).1 ⟨q.1, Or.inr ⟨k, hk, (hw w).2 (Nat.le_refl w)⟩⟩
          have : w = v := by omega
          rw [this] at hw
          exact ih _ hr hw j h1 (by omega)
  intro q
  obtain ⟨v, hv⟩ := bd t ht
  have l := (hv (m + 1)).1 q
  have := inj_le (m + 1) m (fun i => Classical.epsilon fun a => a < m ∧ isD c (mt a) (i + 1)) (fun i hi => (Classical.epsilon_spec (p := fun a => a < m ∧ isD c (mt a) (i + 1)) (chain v t ht hv (i + 1) (by omega) (by omega))).1) fun i j hi hj e => by
    have a := (Classical.epsilon_spec (p := fun a => a < m ∧ isD c (mt a) (i + 1)) (chain v t ht hv (i + 1) (by omega) (by omega))).2
    have b := (Classical.epsilon_spec (p := fun a => a < m ∧ isD c (mt a) (j + 1)) (chain v t ht hv (j + 1) (by omega) (by omega))).2
    have e : Classical.epsilon (fun a => a < m ∧ isD c (mt a) (i + 1)) = Classical.epsilon (fun a => a < m ∧ isD c (mt a) (j + 1)) := e
    rw [e] at a
    have := isD_u a b
    omega
  omega
/-- bytes -/
def By (v : Int32) : Prop := (∃ j, j < 128 ∧ v = nI j) ∨ v = -128
def vn (v : Int32) : Nat := v.toNatClampNeg
theorem vn_n {k : Nat} (h : k < 2 ^ 31) : vn (nI k) = k := cl_n h
theorem by_le {v : Int32} (h : By v) {b : Nat} (hb : b < 128) : vn v < 128 ∧ (v ≤ nI b ↔ vn v ≤ b) ∧ (¬ v ≤ nI b → v = nI (vn v)) := by
  rcases h with ⟨j, hj, rfl⟩ | rfl
  · rw [vn_n (by omega)]
    refine ⟨hj, ⟨fun z => ?_, fun z => nI_le z (by omega)⟩, fun _ => rfl⟩
    by_cases q : j ≤ b
    · exact q
    · exact absurd z (nI_ge (by omega) (by omega))
  · have e0 : vn (-128) = 0 := by decide
    have le : (-128 : Int32) ≤ nI b := by
      have : ∀ b, b < 128 → (-128 : Int32) ≤ nI b := by decide
      exact this b hb
    rw [e0]
    exact ⟨by omega, ⟨fun _ => by omega, fun _ => le⟩, fun z => absurd le z⟩
def bn (d : Nat) : Int32 := vp_nar .byte (nI d).toInt8.toInt32
theorem bn_lt {d : Nat} (h : d < 128) : bn d = nI d := vb_2 h
theorem bn_128 : bn 128 = -128 := by
  unfold bn
  rw [vp_nar_byte]
  decide
theorem bn_by {d : Nat} (h : d ≤ 128) : By (bn d) := by
  by_cases e : d = 128
  · rw [e, bn_128]; exact Or.inr rfl
  · rw [bn_lt (by omega)]; exact Or.inl ⟨d, by omega, rfl⟩
section
variable {f_used : Int64} {f_roots : Int64} {f_asked : Int64} {f_trailed : Int32} {f_bound : Int32} {f_pairs : Int32} {f_drafted : Int32} {f_noted : Int32} {f_trials : Int32} {f_mets : Int32} {f_classes : Int32} {a_up : Nat → Int32} {a_kind : Nat → Int32} {a_many : Nat → Int32} {a_parts : Nat → Int32} {a_value : Nat → Int32} {a_trail : Nat → Int32} {a_left : Nat → Int32} {a_right : Nat → Int32} {a_draft : Nat → Int32} {a_stands : Nat → Int32} {a_testX : Nat → Int32} {a_testY : Nat → Int32} {a_triggerX : Nat → Int32} {a_triggerY : Nat → Int32} {a_ends : Nat → Int32} {a_notes : Nat → Int32} {a_oldUsed : Nat → Int64} {a_oldRoots : Nat → Int64} {a_oldAsked : Nat → Int64} {a_oldStands : Nat → Int32} {a_oldTestX : Nat → Int32} {a_oldTestY : Nat → Int32} {a_oldTriggerX : Nat → Int32} {a_oldTriggerY : Nat → Int32} {a_oldEnds : Nat → Int32} {a_oldTrailed : Nat → Int32} {a_oldNoted : Nat → Int32} {a_met : Nat → Int32} {a_classOf : Nat → Int32} {a_finer : Nat → Int32} {a_image : Nat → Int32} {a_seen : Nat → Int32} {a_stack : Nat → Int32} {a_deep : Nat → Int32} {a_company : Nat → Int64} {a_greeted : Nat → Int64}
variable {p kd mn pt tr T rk : Nat → Nat} {tn : Nat} {used : Int64}
theorem xw_dby4 {post : Int32 → Prop} (F : Fo (uB used) p T rk) {t : Nat} (lt : t < 48) (m3 : mn t ≤ 3) (hU : ∀ k, k < mn t → uB used (pt (3 * t + k))) (hB : ∀ k, k < mn t → By (a_deep (T (pt (3 * t + k))))) (H : ∀ b, b < 128 → (∀ k, k < mn t → vn (a_deep (T (pt (3 * t + k)))) ≤ b) → (b = 0 ∨ ∃ k, k < mn t ∧ b = vn (a_deep (T (pt (3 * t + k))))) → post (nI (b + 1))) : ∀ n k b, k ≤ mn t → mn t - k < n → b < 128 → (∀ k', k' < k → vn (a_deep (T (pt (3 * t + k')))) ≤ b) → (b = 0 ∨ ∃ k', k' < k ∧ b = vn (a_deep (T (pt (3 * t + k'))))) → wX_depthBy_4 post (nI t) used f_roots f_asked (nI tn) f_bound f_pairs f_drafted f_noted f_trials f_mets f_classes (nA p) (nA kd) (nA mn) (nA pt) a_value (nA tr) a_left a_right a_draft a_stands a_testX a_testY a_triggerX a_triggerY a_ends a_notes a_oldUsed a_oldRoots a_oldAsked a_oldStands a_oldTestX a_oldTestY a_oldTriggerX a_oldTriggerY a_oldEnds a_oldTrailed a_oldNoted a_met a_classOf a_finer a_image a_seen a_stack a_deep a_company a_greeted n (nI b) (nI k) := by
  intro n
  induction n with
  | zero => intro k _ _ h; omega
  | succ n ih =>
    intro k b hk hn hb h1 h2
    unfold wX_depthBy_4
    rw [cl_n (k := t), nA_e]
    refine ⟨in_n lt, ?_⟩
    by_cases e : k = mn t
    · refine wh_t (a := mn t) (b := k) (by omega) ?_
      rw [nI_1]
      exact H b hb (fun k' hk' => h1 k' (by omega)) (h2.imp (fun q => q) fun ⟨k', a, q⟩ => ⟨k', by omega, q⟩)
    · have lk : k < mn t := by omega
      have hu := hU k lk
      have lT := fo_lt F (fo_T F hu)
      refine wh_f (a := mn t) (b := k) (by omega) ?_
      have a1 : k + 1 ≤ mn t := lk
      have a2 : mn t - (k + 1) < n := by clear h1 h2; omega
      rw [tri, cl_n (k := 3 * t + k), nA_e]
      refine ⟨in_n (by omega), xw_top F hu ?_⟩
      rw [cl_n (k := T (pt (3 * t + k)))]
      refine ⟨in_n lT, ?_⟩
      obtain ⟨q1, q2, q3⟩ := by_le (hB k lk) hb
      refine br_c (fun z => up1 (ih (k + 1) b a1 a2 hb (fun k' hk' => ?_) (h2.imp (fun q => q) fun ⟨k', a, q⟩ => ⟨k', Nat.lt_succ_of_lt a, q⟩))) fun z => ⟨in_n lT, nmr _ (q3 z) (up1 (ih (k + 1) _ a1 a2 q1 (fun k' hk' => ?_) (Or.inr ⟨k, Nat.lt_succ_self k, rfl⟩)))⟩
      · by_cases z2 : k' = k
        · rw [z2]; exact q2.1 z
        · exact h1 k' (by omega)
      · by_cases z2 : k' = k
        · rw [z2]; exact Nat.le_refl _
        · have := h1 k' (by omega)
          have : ¬ vn (a_deep (T (pt (3 * t + k)))) ≤ b := fun q => z (q2.2 q)
          omega
theorem xw_dby {post : Int32 → Prop} (F : Fo (uB used) p T rk) (D : XD (uB used) p kd mn pt) {t : Nat} (ht : uB used t) (eT : T t = t) (k2 : kd t = 2) (hB : ∀ k, k < mn t → By (a_deep (T (pt (3 * t + k))))) (H : ∀ d, d ≤ 128 → DP (xv (uB used) T kd mn pt a_value) (fun a v => v = vn (a_deep a)) t d → post (nI d)) : wpX_depthBy post (used, f_roots, f_asked, nI tn, f_bound, f_pairs, f_drafted, f_noted, f_trials, f_mets, f_classes, nA p, nA kd, nA mn, nA pt, a_value, nA tr, a_left, a_right, a_draft, a_stands, a_testX, a_testY, a_triggerX, a_triggerY, a_ends, a_notes, a_oldUsed, a_oldRoots, a_oldAsked, a_oldStands, a_oldTestX, a_oldTestY, a_oldTriggerX, a_oldTriggerY, a_oldEnds, a_oldTrailed, a_oldNoted, a_met, a_classOf, a_finer, a_image, a_seen, a_stack, a_deep, a_company, a_greeted) (nI t) := by
  have lt := fo_lt F ht
  have d := (D t ht (fo_topI F ht eT)).2 k2
  have eM : cM (xv (uB used) T kd mn pt a_value) t = mn t := by rw [xv_M2 (by rw [eT]; exact k2), eT]
  have eP : ∀ k, cT (xv (uB used) T kd mn pt a_value) (cP (xv (uB used) T kd mn pt a_value) t k) = T (pt (3 * t + k)) := fun k => by rw [xv_P, eT, xv_T]
  refine Exists.intro 4 (xw_dby4 F lt d.1 d.2 hB (fun b hb h1 h2 => H (b + 1) (by omega) (Or.inr ⟨?_, by omega, fun k hk => ⟨_, rfl, ?_⟩, ?_⟩)) 4 0 0 (by omega) (by omega) (by omega) (fun k' hk' => absurd hk' (by omega)) (Or.inl rfl))
  · show kd (T t) = 2
    rw [eT]; exact k2
  · rw [eM] at hk
    have := h1 k hk
    rw [eP]
    omega
  · rcases h2 with rfl | ⟨k, hk, q⟩
    · exact Or.inl rfl
    · exact Or.inr ⟨k, by rw [eM]; exact hk, _, rfl, by rw [eP, q]⟩
theorem xw_dep67 {post : Int32 → SX → Prop} {J47 : Int32 → Int32 → (Nat → Int32) → (Nat → Int32) → (Nat → Int32) → (Nat → Int32) → (Nat → Int32) → (Nat → Int32) → (Nat → Int32) → (Nat → Int32) → (Nat → Int32) → (Nat → Int32) → (Nat → Int32) → (Nat → Int32) → (Nat → Int32) → (Nat → Int32) → (Nat → Int32) → (Nat → Int32) → (Nat → Int64) → (Nat → Int64) → (Nat → Int64) → (Nat → Int32) → (Nat → Int32) → (Nat → Int32) → (Nat → Int32) → (Nat → Int32) → (Nat → Int32) → (Nat → Int32) → (Nat → Int32) → (Nat → Int32) → (Nat → Int32) → (Nat → Int32) → (Nat → Int32) → (Nat → Int32) → (Nat → Int32) → (Nat → Int32) → (Nat → Int64) → (Nat → Int64) →  Prop} {x1 x3 : Int32} {Inv : Nat → Nat → (Nat → Int32) → Prop} (F : Fo (uB used) p T rk) (D : XD (uB used) p kd mn pt) {x m : Nat} {mt : Nat → Nat} (hx : uB used x) (hg : GOK (xv (uB used) T kd mn pt a_value) x m mt) (ha : Ar a_met mt m) (hB : ∀ i b dp, Inv i b dp → ∀ y, Rch (xv (uB used) T kd mn pt a_value) x y → By (dp y)) (hs : ∀ i b dp d, i < m → Inv i b dp → d ≤ 128 → DP (xv (uB used) T kd mn pt a_value) (fun a v => v = vn (dp a)) (mt i) d → (dp (mt i) = nI d → Inv (i + 1) b (upd dp (mt i) (bn d))) ∧ (¬ dp (mt i) = nI d → Inv (i + 1) 1 (upd dp (mt i) (bn d)))) (HJ : ∀ b a_deep, (b = 0 ∨ b = 1) → Inv m b a_deep → J47 (nI b) (x3 + 1) (nA p) (nA kd) (nA mn) (nA pt) a_value (nA tr) a_left a_right a_draft a_stands a_testX a_testY a_triggerX a_triggerY a_ends a_notes a_oldUsed a_oldRoots a_oldAsked a_oldStands a_oldTestX a_oldTestY a_oldTriggerX a_oldTriggerY a_oldEnds a_oldTrailed a_oldNoted a_met a_classOf a_finer a_image a_seen a_stack a_deep a_company a_greeted) : ∀ n i b a_deep, i ≤ m → m - i < n → (b = 0 ∨ b = 1) → Inv i b a_deep → wX_depth_67 post J47 x1 x3 used f_roots f_asked (nI tn) f_bound f_pairs f_drafted f_noted f_trials (nI m) f_classes n (nI b) (nI i) (nA p) (nA kd) (nA mn) (nA pt) a_value (nA tr) a_left a_right a_draft a_stands a_testX a_testY a_triggerX a_triggerY a_ends a_notes a_oldUsed a_oldRoots a_oldAsked a_oldStands a_oldTestX a_oldTestY a_oldTriggerX a_oldTriggerY a_oldEnds a_oldTrailed a_oldNoted a_met a_classOf a_finer a_image a_seen a_stack a_deep a_company a_greeted := by
  have W : VW (xv (uB used) T kd mn pt a_value) := xv_W F D
  intro n
  induction n with
  | zero => intro i _ _ _ h; omega
  | succ n ih =>
    intro i b a_deep hi hn hb hI
    have m48 := hg.2.1
    by_cases e : i = m
    · refine wh_t (a := m) (b := i) (by omega) (nm_e (HJ b a_deep hb (by rw [e] at hI; exact hI)))
    · have hr := hg.2.2.1 i (by omega)
      obtain ⟨hU, eT⟩ := rc_U W (x := x) hx hr
      have hU : uB used (mt i) := hU
      have eT : T (mt i) = mt i := eT
      have lt := fo_lt F hU
      refine wh_f (a := m) (b := i) (by omega) ?_
      rw [cl_n (k := i), ha i (by omega)]
      refine ⟨in_n (by omega), nm_e ?_⟩
      rw [cl_n (k := mt i), nA_e]
      refine ⟨in_n lt, ?_⟩
      have fin : ∀ d, d ≤ 128 → DP (xv (uB used) T kd mn pt a_value) (fun a v => v = vn (a_deep a)) (mt i) d → wX_depth_106 post J47 (wX_depth_67 post J47 x1 x3 used f_roots f_asked (nI tn) f_bound f_pairs f_drafted f_noted f_trials (nI m) f_classes n) x1 (nI b) x3 (nI i) (nI (mt i)) (nI d) used f_roots f_asked (nI tn) f_bound f_pairs f_drafted f_noted f_trials (nI m) f_classes (nA p) (nA kd) (nA mn) (nA pt) a_value (nA tr) a_left a_right a_draft a_stands a_testX a_testY a_triggerX a_triggerY a_ends a_notes a_oldUsed a_oldRoots a_oldAsked a_oldStands a_oldTestX a_oldTestY a_oldTriggerX a_oldTriggerY a_oldEnds a_oldTrailed a_oldNoted a_met a_classOf a_finer a_image a_seen a_stack a_deep a_company a_greeted := by
        intro d hd hD
        have st := hs i b a_deep d (by omega) hI hd hD
        unfold wX_depth_106
        rw [cl_n (k := mt i)]
        refine ⟨in_n lt, br_c (fun z => ?_) fun z => ?_⟩
        · unfold wX_depth_126
          rw [cl_n (k := mt i)]
          refine nmr (nI b) (by rcases hb with rfl | rfl <;> decide) ⟨in_n lt, nm_e (up1 (ih (i + 1) b _ (by omega) (by omega) hb (st.1 z.symm)))⟩
        · unfold wX_depth_126
          rw [cl_n (k := mt i)]
          refine nmr (nI 1) (by rcases hb with rfl | rfl <;> decide) ⟨in_n lt, nm_e (up1 (ih (i + 1) 1 _ (by omega) (by omega) (Or.inr rfl) (st.2 fun q => z q.symm)))⟩
      by_cases k2 : kd (mt i) = 2
      · refine br_t (by rw [k2]; rfl) (xw_dby F D hU eT k2 (fun k hk => ?_) fin)
        refine hB i b a_deep hI _ ?_
        have := rc_s hr (k := k) (by rw [xv_M2 (by rw [eT]; exact k2), eT]; exact hk)
        rw [xv_P, eT] at this
        exact this
      · refine br_f (fun z => k2 (nI_inj (b := 2) (ha := ?_) z)) (fin 0 (by omega) (Or.inl ⟨?_, rfl⟩))
        · have := (D (mt i) hU (fo_topI F hU eT)).1
          omega
        · show kd (T (mt i)) ≠ 2
          rw [eT]; exact k2
end
end
section
/-! clearing: the component -/
/-! depth: the component's rounds -/
def LB (c : Vw) (s t v : Nat) : Prop := ∀ n, n ≤ s → Dge c n t → n ≤ v
def DSt (c : Vw) (x m s b : Nat) (dp : Nat → Int32) : Prop := (∀ y, Rch c x y → By (dp y)) ∧ (∀ y, Rch c x y → Dge c (vn (dp y)) y) ∧ (Bd c x → ∀ y, Rch c x y → dp y = nI (vn (dp y)) ∧ LB c s y (vn (dp y))) ∧ (b = 0 → ∀ y, Rch c x y → dp y = nI (vn (dp y)) ∧ isD c y (vn (dp y))) ∧ (Bd c x → s = m + 1 → b = 0)
def DIn (c : Vw) (x m : Nat) (mt : Nat → Nat) (s i b : Nat) (dp : Nat → Int32) : Prop := (∀ y, Rch c x y → By (dp y)) ∧ (∀ y, Rch c x y → Dge c (vn (dp y)) y) ∧ (Bd c x → (∀ y, Rch c x y → dp y = nI (vn (dp y)) ∧ LB c s y (vn (dp y))) ∧ ∀ j, j < i → LB c (s + 1) (mt j) (vn (dp (mt j)))) ∧ (b = 0 → ∀ j, j < i → dp (mt j) = nI (vn (dp (mt j))) ∧ DP c (fun a v => v = vn (dp a)) (mt j) (vn (dp (mt j)))) ∧ (Bd c x → s = m → b = 0)
theorem din_s {c : Vw} (W : VW c) {x m : Nat} {mt : Nat → Nat} (hx : cU c x) (hg : GOK c x m mt) {s i b d : Nat} {dp : Nat → Int32} (hi : i < m) (h : DIn c x m mt s i b dp) (hd : d ≤ 128) (hD : DP c (fun a v => v = vn (dp a)) (mt i) d) : (dp (mt i) = nI d → DIn c x m mt s (i + 1) b (upd dp (mt i) (bn d))) ∧ (¬ dp (mt i) = nI d → DIn c x m mt s (i + 1) 1 (upd dp (mt i) (bn d))) := by
  obtain ⟨h1, h2, h3, h4, h5⟩ := h
  have hr := hg.2.2.1 i hi
  have hub : Dge c d (mt i) := dp_ub hD fun k v hk e => by rw [e]; exact h2 _ (rc_s hr hk)
  have hlb : Bd c x → LB c (s + 1) (mt i) d := fun z => dp_lb hD fun k v hk e => by rw [e]; exact ((h3 z).1 _ (rc_s hr hk)).2
  have m48 := hg.2.1
  refine ⟨fun e => ?_, fun e => ?_⟩
  · have ld : d < 128 := by
      rcases h1 _ hr with ⟨j, hj, q⟩ | q
      · have : d = j := nI_inj (e.symm.trans q)
        omega
      · have q2 := e.symm.trans q
        by_cases z : d = 128
        · rw [z] at q2; exact absurd q2 (by decide)
        · omega
    have vd : vn (dp (mt i)) = d := by rw [e]; exact vn_n (by omega)
    have : upd dp (mt i) (bn d) = dp := by
      funext y
      by_cases z : y = mt i
      · rw [z, pk_us, bn_lt ld, e]
      · rw [pk_un z]
    rw [this]
    refine ⟨h1, h2, fun z => ⟨(h3 z).1, fun j hj => ?_⟩, fun z j hj => ?_, h5⟩
    · by_cases q : j = i
      · rw [q, vd]; exact hlb z
      · exact (h3 z).2 j (by omega)
    · by_cases q : j = i
      · rw [q, vd]; exact ⟨e, hD⟩
      · exact h4 z j (by omega)
  · have low : Bd c x → d ≤ m := fun z => by
      by_cases q : d ≤ m
      · exact q
      · exact absurd (dg_l (by omega) hub) (dg_big W hx hg z hr)
    refine ⟨fun y hy => ?_, fun y hy => ?_, fun z => ⟨fun y hy => ?_, fun j hj => ?_⟩, fun z => absurd z (by decide), fun z q => ?_⟩
    · by_cases q : y = mt i
      · rw [q, pk_us]; exact bn_by hd
      · rw [pk_un q]; exact h1 y hy
    · by_cases q : y = mt i
      · rw [q, pk_us]
        by_cases z : d = 128
        · rw [z, bn_128, show vn (-128) = 0 by decide]; trivial
        · rw [bn_lt (by omega), vn_n (by omega)]; exact hub
      · rw [pk_un q]; exact h2 y hy
    · have := low z
      by_cases q : y = mt i
      · rw [q, pk_us, bn_lt (by omega), vn_n (by omega)]
        exact ⟨rfl, fun n hn => hlb z n (by omega)⟩
      · rw [pk_un q]; exact (h3 z).1 y hy
    · have := low z
      by_cases q : mt j = mt i
      · rw [q, pk_us, bn_lt (by omega), vn_n (by omega)]
        exact hlb z
      · rw [pk_un q]
        exact (h3 z).2 j (by
          by_cases q2 : j = i
          · rw [q2] at q; exact absurd rfl q
          · omega)
    · have g := (h3 z).1 _ hr
      have l := low z
      have a : d ≤ vn (dp (mt i)) := g.2 d (by omega) hub
      have u := h2 _ hr
      have lw : vn (dp (mt i)) ≤ m := by
        by_cases q2 : vn (dp (mt i)) ≤ m
        · exact q2
        · exact absurd (dg_l (by omega) u) (dg_big W hx hg z hr)
      have b2 := hlb z _ (by omega) u
      have : d = vn (dp (mt i)) := by omega
      exact absurd (by rw [this]; exact g.1) e
theorem din_end {c : Vw} {x m : Nat} {mt : Nat → Nat} (hg : GOK c x m mt) {s b : Nat} {dp : Nat → Int32} (h : DIn c x m mt s m b dp) : DSt c x m (s + 1) b dp := by
  obtain ⟨h1, h2, h3, h4, h5⟩ := h
  refine ⟨h1, h2, fun z y hy => ?_, fun z => ?_, fun z e => h5 z (by omega)⟩
  · obtain ⟨i, hi, q⟩ := hg.2.2.2.2 y hy
    rw [← q]
    exact ⟨((h3 z).1 _ (hg.2.2.1 i hi)).1, (h3 z).2 i hi⟩
  · have key : ∀ n y, Rch c x y → LB c n y (vn (dp y)) := by
      intro n
      induction n with
      | zero => intro y _ n hn _; omega
      | succ n ih =>
        intro y hy
        obtain ⟨i, hi, e⟩ := hg.2.2.2.2 y hy
        subst e
        exact dp_lb (s := n) (h4 z i hi).2 fun k v hk e => by rw [e]; exact ih _ (rc_s hy hk)
    intro y hy
    obtain ⟨i, hi, e⟩ := hg.2.2.2.2 y hy
    refine ⟨by rw [← e]; exact (h4 z i hi).1, fun n => ⟨key n y hy n (Nat.le_refl n), fun q => dg_l q (h2 y hy)⟩⟩
section
variable {f_used : Int64} {f_roots : Int64} {f_asked : Int64} {f_trailed : Int32} {f_bound : Int32} {f_pairs : Int32} {f_drafted : Int32} {f_noted : Int32} {f_trials : Int32} {f_mets : Int32} {f_classes : Int32} {a_up : Nat → Int32} {a_kind : Nat → Int32} {a_many : Nat → Int32} {a_parts : Nat → Int32} {a_value : Nat → Int32} {a_trail : Nat → Int32} {a_left : Nat → Int32} {a_right : Nat → Int32} {a_draft : Nat → Int32} {a_stands : Nat → Int32} {a_testX : Nat → Int32} {a_testY : Nat → Int32} {a_triggerX : Nat → Int32} {a_triggerY : Nat → Int32} {a_ends : Nat → Int32} {a_notes : Nat → Int32} {a_oldUsed : Nat → Int64} {a_oldRoots : Nat → Int64} {a_oldAsked : Nat → Int64} {a_oldStands : Nat → Int32} {a_oldTestX : Nat → Int32} {a_oldTestY : Nat → Int32} {a_oldTriggerX : Nat → Int32} {a_oldTriggerY : Nat → Int32} {a_oldEnds : Nat → Int32} {a_oldTrailed : Nat → Int32} {a_oldNoted : Nat → Int32} {a_met : Nat → Int32} {a_classOf : Nat → Int32} {a_finer : Nat → Int32} {a_image : Nat → Int32} {a_seen : Nat → Int32} {a_stack : Nat → Int32} {a_deep : Nat → Int32} {a_company : Nat → Int64} {a_greeted : Nat → Int64}
variable {p kd mn pt tr T rk : Nat → Nat} {tn : Nat} {used : Int64}
theorem xw_dep47 {post : Int32 → SX → Prop} (F : Fo (uB used) p T rk) (D : XD (uB used) p kd mn pt) {x m : Nat} {mt : Nat → Nat} (hx : uB used x) (hg : GOK (xv (uB used) T kd mn pt a_value) x m mt) (ha : Ar a_met mt m) (H1 : ∀ a_deep v, isD (xv (uB used) T kd mn pt a_value) (T x) v → v ≤ 48 → post (nI v) (used, f_roots, f_asked, nI tn, f_bound, f_pairs, f_drafted, f_noted, f_trials, nI m, f_classes, nA p, nA kd, nA mn, nA pt, a_value, nA tr, a_left, a_right, a_draft, a_stands, a_testX, a_testY, a_triggerX, a_triggerY, a_ends, a_notes, a_oldUsed, a_oldRoots, a_oldAsked, a_oldStands, a_oldTestX, a_oldTestY, a_oldTriggerX, a_oldTriggerY, a_oldEnds, a_oldTrailed, a_oldNoted, a_met, a_classOf, a_finer, a_image, a_seen, a_stack, a_deep, a_company, a_greeted)) (H0 : ∀ a_deep, ¬ Bd (xv (uB used) T kd mn pt a_value) x → post (-3) (used, f_roots, f_asked, nI tn, f_bound, f_pairs, f_drafted, f_noted, f_trials, nI m, f_classes, nA p, nA kd, nA mn, nA pt, a_value, nA tr, a_left, a_right, a_draft, a_stands, a_testX, a_testY, a_triggerX, a_triggerY, a_ends, a_notes, a_oldUsed, a_oldRoots, a_oldAsked, a_oldStands, a_oldTestX, a_oldTestY, a_oldTriggerX, a_oldTriggerY, a_oldEnds, a_oldTrailed, a_oldNoted, a_met, a_classOf, a_finer, a_image, a_seen, a_stack, a_deep, a_company, a_greeted)) : ∀ n s b a_deep, s ≤ m + 1 → m + 1 - s < n → (b = 0 ∨ b = 1) → DSt (xv (uB used) T kd mn pt a_value) x m s b a_deep → wX_depth_47 post (nI x) used f_roots f_asked (nI tn) f_bound f_pairs f_drafted f_noted f_trials (nI m) f_classes n (nI b) (nI s) (nA p) (nA kd) (nA mn) (nA pt) a_value (nA tr) a_left a_right a_draft a_stands a_testX a_testY a_triggerX a_triggerY a_ends a_notes a_oldUsed a_oldRoots a_oldAsked a_oldStands a_oldTestX a_oldTestY a_oldTriggerX a_oldTriggerY a_oldEnds a_oldTrailed a_oldNoted a_met a_classOf a_finer a_image a_seen a_stack a_deep a_company a_greeted := by
  have W : VW (xv (uB used) T kd mn pt a_value) := xv_W F D
  have m48 := hg.2.1
  intro n
  induction n with
  | zero => intro s _ _ _ h; omega
  | succ n ih =>
    intro s b a_deep hs hn hb h
    rcases hb with rfl | rfl
    · refine br_t rfl (xw_top F hx ?_)
      have lT := fo_lt F (fo_T F hx)
      have q := h.2.2.2.1 rfl (T x) (rc_0 _ x)
      rw [cl_n (k := T x), q.1]
      refine ⟨in_n lT, H1 a_deep _ q.2 ?_⟩
      have hb : Bd (xv (uB used) T kd mn pt a_value) x := ⟨vn (a_deep (T x)) + 1, fun z => by have := (q.2 _).1 z; omega⟩
      have := dg_big W (x := x) hx hg hb (rc_0 _ x)
      by_cases z : vn (a_deep (T x)) ≤ 48
      · exact z
      · exact absurd ((q.2 _).2 (by omega)) this
    · refine br_f (by decide) ?_
      by_cases e : s = m + 1
      · refine wh_f (a := s) (b := m) (by omega) (H0 a_deep fun z => absurd (h.2.2.2.2 z e) (by decide))
      · refine wh_t (a := s) (b := m) (by omega) (Exists.intro (m + 1) (xw_dep67 (Inv := DIn (xv (uB used) T kd mn pt a_value) x m mt s) F D hx hg ha (fun i b dp q => q.1) (fun i b dp d hi q hd hD => din_s W (x := x) hx hg hi q hd hD) (fun b a_deep hb q => ?_) (m + 1) 0 0 a_deep (by omega) (by omega) (Or.inl rfl) ⟨h.1, h.2.1, fun z => ⟨h.2.2.1 z, fun j hj => absurd hj (by omega)⟩, fun _ j hj => absurd hj (by omega), fun _ _ => rfl⟩))
        rw [nI_1]
        exact ih (s + 1) b a_deep (by omega) (by omega) hb (din_end hg q)
theorem xw_dep17 {post : Int32 → SX → Prop} (F : Fo (uB used) p T rk) (D : XD (uB used) p kd mn pt) {x m : Nat} {mt : Nat → Nat} (hx : uB used x) (hg : GOK (xv (uB used) T kd mn pt a_value) x m mt) (ha : Ar a_met mt m) (H1 : ∀ a_deep v, isD (xv (uB used) T kd mn pt a_value) (T x) v → v ≤ 48 → post (nI v) (used, f_roots, f_asked, nI tn, f_bound, f_pairs, f_drafted, f_noted, f_trials, nI m, f_classes, nA p, nA kd, nA mn, nA pt, a_value, nA tr, a_left, a_right, a_draft, a_stands, a_testX, a_testY, a_triggerX, a_triggerY, a_ends, a_notes, a_oldUsed, a_oldRoots, a_oldAsked, a_oldStands, a_oldTestX, a_oldTestY, a_oldTriggerX, a_oldTriggerY, a_oldEnds, a_oldTrailed, a_oldNoted, a_met, a_classOf, a_finer, a_image, a_seen, a_stack, a_deep, a_company, a_greeted)) (H0 : ∀ a_deep, ¬ Bd (xv (uB used) T kd mn pt a_value) x → post (-3) (used, f_roots, f_asked, nI tn, f_bound, f_pairs, f_drafted, f_noted, f_trials, nI m, f_classes, nA p, nA kd, nA mn, nA pt, a_value, nA tr, a_left, a_right, a_draft, a_stands, a_testX, a_testY, a_triggerX, a_triggerY, a_ends, a_notes, a_oldUsed, a_oldRoots, a_oldAsked, a_oldStands, a_oldTestX, a_oldTestY, a_oldTriggerX, a_oldTriggerY, a_oldEnds, a_oldTrailed, a_oldNoted, a_met, a_classOf, a_finer, a_image, a_seen, a_stack, a_deep, a_company, a_greeted)) : ∀ n i a_deep, i ≤ m → m - i < n → (∀ j, j < i → a_deep (mt j) = 0) → wX_depth_17 post (nI x) used f_roots f_asked (nI tn) f_bound f_pairs f_drafted f_noted f_trials (nI m) f_classes n (nI i) (nA p) (nA kd) (nA mn) (nA pt) a_value (nA tr) a_left a_right a_draft a_stands a_testX a_testY a_triggerX a_triggerY a_ends a_notes a_oldUsed a_oldRoots a_oldAsked a_oldStands a_oldTestX a_oldTestY a_oldTriggerX a_oldTriggerY a_oldEnds a_oldTrailed a_oldNoted a_met a_classOf a_finer a_image a_seen a_stack a_deep a_company a_greeted := by
  have W : VW (xv (uB used) T kd mn pt a_value) := xv_W F D
  have m48 := hg.2.1
  intro n
  induction n with
  | zero => intro i _ _ h; omega
  | succ n ih =>
    intro i a_deep hi hn h
    by_cases e : i = m
    · have z : ∀ y, Rch (xv (uB used) T kd mn pt a_value) x y → a_deep y = 0 := fun y hy => by
        obtain ⟨j, hj, q⟩ := hg.2.2.2.2 y hy
        rw [← q]; exact h j (by omega)
      have v0 : vn 0 = 0 := by decide
      refine wh_t (a := m) (b := i) (by omega) (Exists.intro (m + 2) (xw_dep47 F D hx hg ha H1 H0 (m + 2) 0 1 a_deep (by omega) (by omega) (Or.inr rfl) ⟨fun y hy => ?_, fun y hy => ?_, fun _ y hy => ?_, fun q => absurd q (by decide), fun _ q => absurd q (by omega)⟩))
      · rw [z y hy]; exact Or.inl ⟨0, by decide, rfl⟩
      · rw [z y hy, v0]; trivial
      · rw [z y hy, v0]; exact ⟨rfl, fun n hn _ => hn⟩
    · have hr := hg.2.2.1 i (by omega)
      have lt : mt i < 48 := vw_lt W (rc_U W (x := x) hx hr).1
      refine wh_f (a := m) (b := i) (by omega) ?_
      rw [cl_n (k := i), ha i (by omega), cl_n (k := mt i), vb_0]
      refine ⟨in_n (by omega), in_n lt, nm_e (up1 (ih (i + 1) _ (by omega) (by omega) fun j hj => ?_))⟩
      by_cases q : mt j = mt i
      · rw [q, pk_us]
      · rw [pk_un q]
        refine h j ?_
        by_cases q2 : j = i
        · rw [q2] at q; exact absurd rfl q
        · omega
end
section
variable {f_trials : Int32} {f_drafted : Int32} {f_found : Int32} {a_s : Nat → Int32} {a_saved : Nat → Int32} {a_draft : Nat → Int32} {a_who : Nat → Int32} {a_met : Nat → Int32} {a_stack : Nat → Int32} {a_fresh : Nat → Int32} {a_deep : Nat → Int32} {a_alike : Nat → Int64} {a_meets : Nat → Int64}
variable {c : Vw} {id : Nat → Nat}
theorem yw_dpr31 {post : Int32 → Prop} {t M : Nat} {dn q : Nat → Nat} (lt : t < 48) (m3 : M ≤ 3) (hM : a_s (192 + t) = nI M) (hq : ∀ k, k < M → a_s (240 + 3 * t + k) = nI (q k) ∧ q k < 48) (hd : ∀ u, u < 48 → a_deep u = nI (dn u) ∧ dn u < 4000) (H : ∀ b, (∀ k, k < M → dn (q k) ≤ b) → (b = 0 ∨ ∃ k, k < M ∧ b = dn (q k)) → post (nI (b + 1))) : ∀ n k b, k ≤ M → M - k < n → b < 4000 → (∀ k', k' < k → dn (q k') ≤ b) → (b = 0 ∨ ∃ k', k' < k ∧ b = dn (q k')) → wY_deeper_31 post (nI t) f_trials f_drafted f_found a_s a_saved a_draft a_who a_met a_stack a_fresh a_deep a_alike a_meets n (nI b) (nI k) := by
  intro n
  induction n with
  | zero => intro k _ _ h; omega
  | succ n ih =>
    intro k b hk hn hb h1 h2
    unfold wY_deeper_31
    rw [aL_192, cl_n (k := 192 + t), hM]
    refine ⟨in_n (by omega), ?_⟩
    by_cases e : k = M
    · refine wh_t (a := M) (b := k) (by omega) ?_
      rw [nI_1]
      exact H b (fun k' hk' => h1 k' (by omega)) (h2.imp (fun q => q) fun ⟨k', a, q⟩ => ⟨k', by omega, q⟩)
    · have lk : k < M := by clear h1 h2; omega
      have a1 : k + 1 ≤ M := lk
      have a2 : M - (k + 1) < n := by clear h1 h2; omega
      obtain ⟨q1, q2⟩ := hq k lk
      obtain ⟨d1, d2⟩ := hd (q k) q2
      refine wh_f (a := M) (b := k) (by omega) ?_
      rw [aP, cl_n (k := 240 + 3 * t + k), q1, cl_n (k := q k), d1]
      refine ⟨in_n (by omega), in_n q2, ?_⟩
      by_cases z : dn (q k) ≤ b
      · refine br_t (nI_le z (by clear h1 h2; omega)) (up1 (ih (k + 1) b a1 a2 hb (fun k' hk' => ?_) (h2.imp (fun q => q) fun ⟨k', a, q⟩ => ⟨k', Nat.lt_succ_of_lt a, q⟩)))
        by_cases z2 : k' = k
        · rw [z2]; exact z
        · exact h1 k' (by omega)
      · refine br_f (nI_ge (by clear h1 h2; omega) (by clear h1 h2; omega)) ⟨in_n (by omega), in_n q2, nm_e (up1 (ih (k + 1) _ a1 a2 d2 (fun k' hk' => ?_) (Or.inr ⟨k, Nat.lt_succ_self k, rfl⟩)))⟩
        by_cases z2 : k' = k
        · rw [z2]; exact Nat.le_refl _
        · have := h1 k' (by omega)
          omega
theorem yw_deeper {post : Int32 → Prop} (W : VW c) (hY : YR c id a_s) (hw : Who c a_s a_who) {u : Nat} {dn : Nat → Nat} (lu : u < 48) (hd : ∀ u, u < 48 → a_deep u = nI (dn u) ∧ dn u < 4000) (H : ∀ d, (¬ cU c u → d = 0) → (d = 0 ∨ ∃ v, v < 48 ∧ d ≤ dn v + 1) → (cU c u → DP c (fun a v => ∃ q, cU c q ∧ cT c q = a ∧ v = dn q) u d) → post (nI d)) : wpY_deeper post (f_trials, f_drafted, f_found, a_s, a_saved, a_draft, a_who, a_met, a_stack, a_fresh, a_deep, a_alike, a_meets) (nI u) := by
  unfold wpY_deeper
  rw [cl_n (k := u)]
  refine ⟨in_n lu, nm_e ?_⟩
  by_cases hu : cU c u
  · by_cases k0 : cK c u = 0
    · rw [hw.2.1 u hu k0]
      exact br_t m1_neg (H 0 (fun z => absurd hu z) (Or.inl rfl) fun _ => Or.inl ⟨by omega, rfl⟩)
    · obtain ⟨t, e1, e2, e3, e4⟩ := hw.1 u hu k0
      have lt := vw_lt W e2
      have Tu := hY.2.2.2.2.1 t e2 e4
      have eK := vw_eK W e2 hu e3
      have eM := vw_eM W e2 hu e3
      rw [e1]
      refine br_f (nI_nn (by omega)) ?_
      rw [aL_48, cl_n (k := 48 + t), Tu.2.1]
      refine ⟨in_n (by omega), ?_⟩
      have K2 := vw_K W e2
      by_cases k2 : cK c t = 2
      · obtain ⟨q, hq⟩ : ∃ q : Nat → Nat, ∀ k, k < cM c t → a_s (240 + 3 * t + k) = nI (q k) ∧ cU c (q k) ∧ cT c (q k) = cT c (cP c t k) := ⟨fun k => Classical.epsilon fun v => a_s (240 + 3 * t + k) = nI v ∧ cU c v ∧ cT c v = cT c (cP c t k), fun k hk => Classical.epsilon_spec (p := fun v => a_s (240 + 3 * t + k) = nI v ∧ cU c v ∧ cT c v = cT c (cP c t k)) (Tu.2.2.2.2.2 k hk)⟩
        refine br_t (by rw [k2]; rfl) (Exists.intro 4 (yw_dpr31 (M := cM c t) (dn := dn) (q := q) lt (vw_M W e2) Tu.2.2.2.2.1 (fun k hk => ⟨(hq k hk).1, vw_lt W (hq k hk).2.1⟩) hd (fun b h1 h2 => ?_) 4 0 0 (by omega) (by have := vw_M W e2; omega) (by omega) (fun k' hk' => absurd hk' (by omega)) (Or.inl rfl)))
        refine H (b + 1) (fun z => absurd hu z) (Or.inr ?_) fun _ => Or.inr ⟨by rw [← eK]; exact k2, by omega, fun k hk => ?_, ?_⟩
        · rcases h2 with rfl | ⟨k, hk, z⟩
          · exact ⟨0, by omega, by omega⟩
          · exact ⟨q k, vw_lt W (hq k hk).2.1, by rw [z]; exact Nat.le_refl _⟩
        · rw [← eM] at hk
          have g := hq k hk
          exact ⟨_, ⟨q k, g.2.1, by rw [g.2.2, vw_eP W e2 hu e3 k], rfl⟩, Nat.lt_succ_of_le (h1 k hk)⟩
        · rcases h2 with rfl | ⟨k, hk, z⟩
          · exact Or.inl rfl
          · have g := hq k hk
            exact Or.inr ⟨k, by rw [← eM]; exact hk, _, ⟨q k, g.2.1, by rw [g.2.2, vw_eP W e2 hu e3 k], rfl⟩, by rw [z]⟩
      · exact br_f (fun z => k2 (nI_inj (b := 2) z)) (H 0 (fun z => absurd hu z) (Or.inl rfl) fun _ => Or.inl ⟨by rw [← eK]; exact k2, rfl⟩)
  · rw [hw.2.2 u lu hu]
    exact br_t m1_neg (H 0 (fun _ => rfl) (Or.inl rfl) fun z => absurd z hu)
end
end
section
/-! depth: the reference's rounds; depth -/
theorem dp_T {c : Vw} (W : VW c) {g : Nat → Nat → Prop} {u d : Nat} (hu : cU c u) (h : DP c g u d) : DP c g (cT c u) d := by
  have uT := vw_T W hu
  have eT := vw_TT W hu
  have eP : cP c (cT c u) = cP c u := funext fun k => vw_eP W uT hu eT k
  unfold DP
  rw [vw_eK W uT hu eT, vw_eM W uT hu eT, eP]
  exact h
section
variable {f_trials : Int32} {f_drafted : Int32} {f_found : Int32} {a_s : Nat → Int32} {a_saved : Nat → Int32} {a_draft : Nat → Int32} {a_who : Nat → Int32} {a_met : Nat → Int32} {a_stack : Nat → Int32} {a_fresh : Nat → Int32} {a_deep : Nat → Int32} {a_alike : Nat → Int64} {a_meets : Nat → Int64}
variable {c : Vw} {id : Nat → Nat}
theorem yw_dep42 {post : Int32 → SY → Prop} (W : VW c) (hY : YR c id a_s) (hw : Who c a_s a_who) {x nb : Nat} (hx : cU c x) (hnb : nb ≤ 48) (hb : ∀ u, cU c u → u < nb) (H1 : ∀ a_deep d, d ≤ 48 → Dge c d (cT c x) → LB c 50 (cT c x) d → post (nI d) (f_trials, f_drafted, f_found, a_s, a_saved, a_draft, a_who, a_met, a_stack, a_fresh, a_deep, a_alike, a_meets)) (H0 : ∀ a_deep d, 48 < d → Dge c d (cT c x) → LB c 50 (cT c x) d → post (-3) (f_trials, f_drafted, f_found, a_s, a_saved, a_draft, a_who, a_met, a_stack, a_fresh, a_deep, a_alike, a_meets)) : ∀ n q r a_deep (dn : Nat → Nat), q ≤ 50 → r < nb → (q = 50 → r = 0) → 50 * nb - (r + nb * q) < n → (∀ u, u < 48 → a_deep u = nI (dn u) ∧ dn u ≤ r + nb * q) → (∀ u, cU c u → Dge c (dn u) (cT c u)) → (∀ u, cU c u → LB c q (cT c u) (dn u)) → (∀ u, cU c u → u < r → LB c (q + 1) (cT c u) (dn u)) → wY_depth_42 post (nI x) (nI nb) f_trials f_drafted f_found n (nI (r + nb * q)) a_s a_saved a_draft a_who a_met a_stack a_fresh a_deep a_alike a_meets := by
  have lx := vw_lt W hx
  have e50 : (50 : Int32) * nI nb = nI (50 * nb) := by rw [show (50 : Int32) = nI 50 from rfl, pk_mul]
  intro n
  induction n with
  | zero => intro q r _ _ _ _ _ h; omega
  | succ n ih =>
    intro q r a_deep dn hq hr hq0 hn h1 h2 h3 h4
    have bq : nb * q ≤ nb * 50 := Nat.mul_le_mul_left nb hq
    by_cases e : q = 50
    · have r0 := hq0 e
      subst e
      subst r0
      refine wh_t (a := 50 * nb) (b := 0 + nb * 50) (by omega) ?_ (by omega) e50 rfl
      rw [cl_n (k := x), (h1 x lx).1]
      refine ⟨in_n lx, ?_⟩
      have l := (h1 x lx).2
      by_cases z : dn x ≤ 48
      · exact br_t (nI_le (b := 48) z (by decide)) ⟨in_n lx, H1 a_deep _ z (h2 x hx) (h3 x hx)⟩
      · exact br_f (nI_ge (a := 48) (b := dn x) (by omega) (by omega)) (H0 a_deep _ (by omega) (h2 x hx) (h3 x hx))
    · have b2 : nb * (q + 1) ≤ nb * 50 := Nat.mul_le_mul_left nb (by omega)
      rw [Nat.mul_succ] at b2
      have n0 : ¬ nI nb = 0 := fun z => by have := nI_inj (b := 0) z; omega
      have er : nI (r + nb * q) - nI (r + nb * q) / nI nb * nI nb = nI r := by
        rw [pk_rem (by omega) (by omega) (by omega), Nat.add_mul_mod_self_left, Nat.mod_eq_of_lt hr]
      refine wh_f (a := 50 * nb) (b := r + nb * q) (by omega) ?_ (by omega) e50 rfl
      rw [er]
      have lr : r < 48 := by omega
      refine ⟨n0, n0, yw_deeper W hY hw (dn := dn) lr (fun u hu => ⟨(h1 u hu).1, by have := (h1 u hu).2; omega⟩) fun d d0 d1 d2 => ?_⟩
      have ld : d ≤ r + nb * q + 1 := by
        rcases d1 with rfl | ⟨v, lv, z⟩
        · omega
        · have := (h1 v lv).2
          omega
      have ub : cU c r → Dge c d (cT c r) := fun hu => dp_ub (dp_T W hu (d2 hu)) fun k v hk ⟨v', a, b, e⟩ => by rw [e, ← b]; exact h2 v' a
      have lb : cU c r → LB c (q + 1) (cT c r) d := fun hu => dp_lb (dp_T W hu (d2 hu)) fun k v hk ⟨v', a, b, e⟩ => by rw [e, ← b]; exact h3 v' a
      have g1 : ∀ u, u < 48 → upd a_deep r (nI d) u = nI (un dn r d u) ∧ un dn r d u ≤ r + nb * q + 1 := fun u hu => by
        by_cases z : u = r
        · rw [z, pk_us, un_s]; exact ⟨rfl, ld⟩
        · rw [pk_un z, un_n z]
          have := h1 u hu
          exact ⟨this.1, by omega⟩
      have g2 : ∀ u, cU c u → Dge c (un dn r d u) (cT c u) := fun u hu => by
        by_cases z : u = r
        · subst z; rw [un_s]; exact ub hu
        · rw [un_n z]; exact h2 u hu
      have g3 : ∀ u, cU c u → LB c q (cT c u) (un dn r d u) := fun u hu => by
        by_cases z : u = r
        · subst z; rw [un_s]; exact fun n hn => lb hu n (by omega)
        · rw [un_n z]; exact h3 u hu
      have g4 : ∀ u, cU c u → u < r + 1 → LB c (q + 1) (cT c u) (un dn r d u) := fun u hu lu => by
        by_cases z : u = r
        · subst z; rw [un_s]; exact lb hu
        · rw [un_n z]; exact h4 u hu (by omega)
      rw [cl_n (k := r)]
      refine ⟨in_n lr, nm_e ?_⟩
      by_cases e2 : r + 1 < nb
      · have ek : nI (r + nb * q) + 1 = nI (r + 1 + nb * q) := by rw [nI_1, show r + nb * q + 1 = r + 1 + nb * q by omega]
        refine nmr _ ek (ih q (r + 1) _ (un dn r d) hq e2 (fun z => absurd z e) (by omega) (fun u hu => ⟨(g1 u hu).1, by have := (g1 u hu).2; omega⟩) g2 g3 g4)
      · have e3 : r + 1 = nb := by omega
        have em : nb * (q + 1) = nb * q + nb := Nat.mul_succ nb q
        have ek : nI (r + nb * q) + 1 = nI (0 + nb * (q + 1)) := by rw [nI_1, em, show r + nb * q + 1 = 0 + (nb * q + nb) by omega]
        refine nmr _ ek (ih (q + 1) 0 _ (un dn r d) (by omega) (by omega) (fun _ => rfl) (by rw [em]; omega) (fun u hu => ⟨(g1 u hu).1, by have := (g1 u hu).2; rw [em]; omega⟩) g2 (fun u hu => g4 u hu (by have := hb u hu; omega)) fun u _ z => absurd z (by omega))
theorem yw_dep16 {post : Int32 → SY → Prop} (W : VW c) (hY : YR c id a_s) (hw : Who c a_s a_who) {x : Nat} (hx : cU c x) (H1 : ∀ a_deep d, d ≤ 48 → Dge c d (cT c x) → LB c 50 (cT c x) d → post (nI d) (f_trials, f_drafted, f_found, a_s, a_saved, a_draft, a_who, a_met, a_stack, a_fresh, a_deep, a_alike, a_meets)) (H0 : ∀ a_deep d, 48 < d → Dge c d (cT c x) → LB c 50 (cT c x) d → post (-3) (f_trials, f_drafted, f_found, a_s, a_saved, a_draft, a_who, a_met, a_stack, a_fresh, a_deep, a_alike, a_meets)) : ∀ n i a_deep, i ≤ 48 → 48 - i < n → (∀ u, u < i → a_deep u = 0) → wY_depth_16 post (nI x) f_trials f_drafted f_found n (nI i) a_s a_saved a_draft a_who a_met a_stack a_fresh a_deep a_alike a_meets := by
  intro n
  induction n with
  | zero => intro i _ _ h; omega
  | succ n ih =>
    intro i a_deep hi hn h
    by_cases e : i = 48
    · subst e
      refine wh_t (a := 48) (b := 48) (by omega) (yw_bound fun nb hnb hz => Exists.intro (50 * nb + 1) ?_)
      have hb := yb_lt W hY hz
      have := hb x hx
      have q := yw_dep42 (post := post) (nb := nb) W hY hw hx hnb hb H1 H0 (50 * nb + 1) 0 0 a_deep (fun _ => 0) (by omega) (by omega) (fun z => absurd z (by decide)) (by omega) (fun u hu => ⟨h u hu, Nat.zero_le _⟩) (fun _ _ => trivial) (fun _ _ n hn _ => hn) fun u _ z => absurd z (by omega)
      rw [Nat.mul_zero] at q
      exact q
    · refine wh_f (a := 48) (b := i) (by omega) ?_
      rw [cl_n (k := i)]
      refine ⟨in_n (by omega), nm_e (up1 (ih (i + 1) _ (by omega) (by omega) fun u hu => ?_))⟩
      by_cases z : u = i
      · rw [z, pk_us]
      · rw [pk_un z]; exact h u (by omega)
end
theorem i_vc_depth {k : Nat} {u : SX} {v : SY} (I : i_Rel k u v) (hk : k + 4 ≤ 2048) (v1 : Int32) : wpX_depth (fun r u' => wpY_depth (fun r' v' => r' = r ∧ i_Rel (k + 4) u' v') v v1) u v1 := by
  refine rel_el (P := fun u v => wpX_depth (fun r u' => wpY_depth (fun r' v' => r' = r ∧ i_Rel (k + 4) u' v') v v1) u v1) ?_ I
  intro f_bound f_mets f_classes a_value a_left a_right a_draft a_oldUsed a_oldRoots a_oldAsked a_oldStands a_oldTestX a_oldTestY a_oldTriggerX a_oldTriggerY a_oldEnds a_oldTrailed a_oldNoted a_met a_classOf a_finer a_image a_seen a_stack a_deep a_company a_greeted used roots asked p kd mn pt tr tn sd tx ty gx gy en N nt L dn dr yf3 s sv y1 w y2 y3 y4 y5 A y6 hM ⟨h1, h2, h3, h4, h5⟩
  have I' : i_Rel (k + 4) (used, roots, asked, nI tn, f_bound, 0, nI dn, nI N, nI L, f_mets, f_classes, nA p, nA kd, nA mn, nA pt, a_value, nA tr, a_left, a_right, a_draft, sd, tx, ty, gx, gy, en, nt, a_oldUsed, a_oldRoots, a_oldAsked, a_oldStands, a_oldTestX, a_oldTestY, a_oldTriggerX, a_oldTriggerY, a_oldEnds, a_oldTrailed, a_oldNoted, a_met, a_classOf, a_finer, a_image, a_seen, a_stack, a_deep, a_company, a_greeted) (nI L, nI dn, yf3, s, sv, y1, w, y2, y3, y4, y5, A, y6) := rel_mk hM ⟨h1, h2, by omega, h4, h5⟩
  unfold wpX_depth
  rcases us_or (uB used) v1 with ⟨x, lx, hx, rfl⟩ | hx
  · refine xu_t hM hx (br_f (by decide) ?_)
    have hM' := hM
    obtain ⟨⟨⟨T, rk, id, F, D, Y⟩, m1, m2, m3, m4, m5⟩, hT, hL⟩ := hM'
    have W : VW (xv (uB used) T kd mn pt a_value) := xv_W F D
    refine xw_gather F D hx fun m mt a_met a_seen a_stack hg ha => Exists.intro (m + 1) (xw_dep17 F D hx hg ha (fun a_deep d hd ld => ?_) (fun a_deep nb => ?_) (m + 1) 0 a_deep (by omega) (by omega) fun j hj => absurd hj (by omega))
    · unfold wpY_depth
      refine yu_t hM hx (br_f (by decide) (yw_values W Y fun w hw => Exists.intro 49 (yw_dep16 W Y hw (x := x) hx (fun y5 e le u b => ⟨?_, rel_mk hM ⟨h1, h2, by omega, h4, h5⟩⟩) (fun y5 e le u b => ?_) 49 0 y5 (by omega) (by omega) fun j hj => absurd hj (by omega))))
      · have := (hd e).1 u
        omega
      · have a1 := (hd e).1 u
        have a2 := b d (by omega) ((hd d).2 (Nat.le_refl d))
        rw [show e = d by omega]
    · unfold wpY_depth
      have all : ∀ n, Dge (xv (uB used) T kd mn pt a_value) n (T x) := fun n => Classical.not_not.1 fun z => nb ⟨n, z⟩
      refine yu_t hM hx (br_f (by decide) (yw_values W Y fun w hw => Exists.intro 49 (yw_dep16 W Y hw (x := x) hx (fun y5 e le u b => ?_) (fun y5 e le u b => ⟨rfl, rel_mk hM ⟨h1, h2, by omega, h4, h5⟩⟩) 49 0 y5 (by omega) (by omega) fun j hj => absurd hj (by omega))))
      have := b 49 (by omega) (all 49)
      omega
  · unfold wpY_depth
    exact xu_f hx (br_t rfl (yu_f hM hx (br_t rfl ⟨rfl, I'⟩)))
end
section
/-! clearing: the component -/
/-! matches: what meets what; the component -/
def Mt (c : Vw) (x y a b : Nat) : Prop := ∀ S : Nat → Nat → Prop, S (cT c x) (cT c y) → (∀ a b, S a b → Same c a b → ∀ k, k < cM c a → S (cT c (cP c a k)) (cT c (cP c b k))) → S a b
theorem mt_0 (c : Vw) (x y : Nat) : Mt c x y (cT c x) (cT c y) := fun _ h _ => h
theorem mt_s {c : Vw} {x y a b k : Nat} (h : Mt c x y a b) (hs : Same c a b) (hk : k < cM c a) : Mt c x y (cT c (cP c a k)) (cT c (cP c b k)) := fun S h0 h1 => h1 a b (h S h0 h1) hs k hk
theorem mt_U {c : Vw} (W : VW c) {x y a b : Nat} (hx : cU c x) (hy : cU c y) (h : Mt c x y a b) : (cU c a ∧ cT c a = a) ∧ (cU c b ∧ cT c b = b) ∧ Rch c y b :=
  h (fun a b => (cU c a ∧ cT c a = a) ∧ (cU c b ∧ cT c b = b) ∧ Rch c y b) ⟨⟨vw_T W hx, vw_TT W hx⟩, ⟨vw_T W hy, vw_TT W hy⟩, rc_0 c y⟩ fun a b ⟨ha, hb, hr⟩ hs k hk => by
    have hk' : k < cM c b := by rw [← hs.2.2]; exact hk
    exact ⟨⟨vw_T W (vw_P W ha.1 hk), vw_TT W (vw_P W ha.1 hk)⟩, ⟨vw_T W (vw_P W hb.1 hk'), vw_TT W (vw_P W hb.1 hk')⟩, rc_s hr hk'⟩
def Bad1 (c : Vw) (x y : Nat) : Prop := ∃ a b, Mt c x y a b ∧ cK c a ≠ 0 ∧ ¬ Same c a b
def Bad2 (c : Vw) (x y : Nat) : Prop := ∃ a b b', Mt c x y a b ∧ Mt c x y a b' ∧ cK c a = 0 ∧ ¬ Alike c b b'
/-- one more bit in a row -/
def adB (f : Nat → Int64) (a b : Nat) : Nat → Int64 := vp_updL f a (f a ||| ((1 : Int64) <<< ((nI b).toInt64 &&& 63)))
theorem adB_i {f : Nat → Int64} {a b : Nat} (hb : b < 48) (q y : Nat) : bL (adB f a b q) y = true ↔ bL (f q) y = true ∨ (q = a ∧ y = b) := by
  unfold adB
  by_cases e : q = a
  · rw [e, pk_uLs, sb_add hb]
    exact ⟨fun z => z.imp (fun q => q) fun q => ⟨rfl, q⟩, fun z => z.imp (fun q => q) fun q => q.2⟩
  · rw [pk_uLn e]
    exact ⟨Or.inl, fun z => z.elim (fun q => q) fun q => absurd q.1 e⟩
def Rsub (f g : Nat → Int64) : Prop := ∀ a b, bL (f a) b = true → bL (g a) b = true
theorem mA_le (A : Nat → Int64) : mA A ≤ 2304 := cnB_le (fun k => bL (A (k / 48)) (k % 48)) 2304
theorem mA_mono {f g : Nat → Int64} (h : Rsub f g) : mA f ≤ mA g := by
  refine smN_le 2304 fun i _ => ?_
  by_cases z : bL (f (i / 48)) (i % 48) = true
  · rw [b01_t z, b01_t (h _ _ z)]; exact Nat.le_refl _
  · rw [b01_f (ts_nt z)]; exact Nat.zero_le _
theorem mA_lt {f g : Nat → Int64} (h : Rsub f g) {a b : Nat} (ha : a < 48) (hb : b < 48) (h1 : ¬ bL (f a) b = true) (h2 : bL (g a) b = true) : mA f < mA g := by
  refine smN_lt 2304 (fun i _ => ?_) (b + 48 * a) (by omega) ?_
  · by_cases z : bL (f (i / 48)) (i % 48) = true
    · rw [b01_t z, b01_t (h _ _ z)]; exact Nat.le_refl _
    · rw [b01_f (ts_nt z)]; exact Nat.zero_le _
  · rw [Nat.add_mul_div_left _ _ (by decide), Nat.add_mul_mod_self_left, Nat.div_eq_of_lt hb, Nat.mod_eq_of_lt hb, Nat.zero_add, b01_f (ts_nt h1), b01_t h2]
    decide
def PI (c : Vw) (x y : Nat) (com gr : Nat → Int64) (ex : Nat → Nat → Prop) : Prop := (∀ a b, a < 48 → bL (com a) b = true → Mt c x y a b) ∧ (∀ a b, a < 48 → bL (gr a) b = true → bL (com a) b = true ∧ (ex a b ∨ cK c a = 0 ∨ (Same c a b ∧ ∀ k, k < cM c a → bL (com (cT c (cP c a k))) (cT c (cP c b k)) = true))) ∧ bL (com (cT c x)) (cT c y) = true
def nE : Nat → Nat → Prop := fun _ _ => False
theorem pi_com {c : Vw} {x y : Nat} {com gr : Nat → Int64} {ex : Nat → Nat → Prop} (h : PI c x y com gr ex) {a b : Nat} (hb : b < 48) (hm : Mt c x y a b) : PI c x y (adB com a b) gr ex := by
  refine ⟨fun q z hq e => ?_, fun q z hq e => ?_, (adB_i hb _ _).2 (Or.inl h.2.2)⟩
  · rcases (adB_i hb _ _).1 e with e | ⟨rfl, rfl⟩
    · exact h.1 q z hq e
    · exact hm
  · obtain ⟨a1, a2⟩ := h.2.1 q z hq e
    exact ⟨(adB_i hb _ _).2 (Or.inl a1), a2.imp (fun q => q) fun q => q.imp (fun q => q) fun q => ⟨q.1, fun k hk => (adB_i hb _ _).2 (Or.inl (q.2 k hk))⟩⟩
section
variable {f_used : Int64} {f_roots : Int64} {f_asked : Int64} {f_trailed : Int32} {f_bound : Int32} {f_pairs : Int32} {f_drafted : Int32} {f_noted : Int32} {f_trials : Int32} {f_mets : Int32} {f_classes : Int32} {a_up : Nat → Int32} {a_kind : Nat → Int32} {a_many : Nat → Int32} {a_parts : Nat → Int32} {a_value : Nat → Int32} {a_trail : Nat → Int32} {a_left : Nat → Int32} {a_right : Nat → Int32} {a_draft : Nat → Int32} {a_stands : Nat → Int32} {a_testX : Nat → Int32} {a_testY : Nat → Int32} {a_triggerX : Nat → Int32} {a_triggerY : Nat → Int32} {a_ends : Nat → Int32} {a_notes : Nat → Int32} {a_oldUsed : Nat → Int64} {a_oldRoots : Nat → Int64} {a_oldAsked : Nat → Int64} {a_oldStands : Nat → Int32} {a_oldTestX : Nat → Int32} {a_oldTestY : Nat → Int32} {a_oldTriggerX : Nat → Int32} {a_oldTriggerY : Nat → Int32} {a_oldEnds : Nat → Int32} {a_oldTrailed : Nat → Int32} {a_oldNoted : Nat → Int32} {a_met : Nat → Int32} {a_classOf : Nat → Int32} {a_finer : Nat → Int32} {a_image : Nat → Int32} {a_seen : Nat → Int32} {a_stack : Nat → Int32} {a_deep : Nat → Int32} {a_company : Nat → Int64} {a_greeted : Nat → Int64}
variable {p kd mn pt tr T rk : Nat → Nat} {tn x y : Nat} {used : Int64}
theorem xw_meet {post : SX → Prop} (F : Fo (uB used) p T rk) {u v : Nat} (hu : uB used u) (hv : uB used v) (H : post (used, f_roots, f_asked, nI tn, f_bound, f_pairs, f_drafted, f_noted, f_trials, f_mets, f_classes, nA p, nA kd, nA mn, nA pt, a_value, nA tr, a_left, a_right, a_draft, a_stands, a_testX, a_testY, a_triggerX, a_triggerY, a_ends, a_notes, a_oldUsed, a_oldRoots, a_oldAsked, a_oldStands, a_oldTestX, a_oldTestY, a_oldTriggerX, a_oldTriggerY, a_oldEnds, a_oldTrailed, a_oldNoted, a_met, a_classOf, a_finer, a_image, a_seen, a_stack, a_deep, adB a_company (T u) (T v), a_greeted)) : wpX_meet post (used, f_roots, f_asked, nI tn, f_bound, f_pairs, f_drafted, f_noted, f_trials, f_mets, f_classes, nA p, nA kd, nA mn, nA pt, a_value, nA tr, a_left, a_right, a_draft, a_stands, a_testX, a_testY, a_triggerX, a_triggerY, a_ends, a_notes, a_oldUsed, a_oldRoots, a_oldAsked, a_oldStands, a_oldTestX, a_oldTestY, a_oldTriggerX, a_oldTriggerY, a_oldEnds, a_oldTrailed, a_oldNoted, a_met, a_classOf, a_finer, a_image, a_seen, a_stack, a_deep, a_company, a_greeted) (nI u) (nI v) := by
  unfold wpX_meet
  have lu := fo_lt F (fo_T F hu)
  refine xw_top F hu (xw_top F hv ?_)
  rw [cl_n (k := T u)]
  exact ⟨in_n lu, in_n lu, nm_e H⟩
theorem xw_grt75 {post : Int32 → SX → Prop} {J18 : Int64 → Int64 → Int64 → Int64 → Int32 → Int32 → Int32 → Int32 → Int32 → Int32 → Int32 → Int32 → (Nat → Int32) → (Nat → Int32) → (Nat → Int32) → (Nat → Int32) → (Nat → Int32) → (Nat → Int32) → (Nat → Int32) → (Nat → Int32) → (Nat → Int32) → (Nat → Int32) → (Nat → Int32) → (Nat → Int32) → (Nat → Int32) → (Nat → Int32) → (Nat → Int32) → (Nat → Int32) → (Nat → Int64) → (Nat → Int64) → (Nat → Int64) → (Nat → Int32) → (Nat → Int32) → (Nat → Int32) → (Nat → Int32) → (Nat → Int32) → (Nat → Int32) → (Nat → Int32) → (Nat → Int32) → (Nat → Int32) → (Nat → Int32) → (Nat → Int32) → (Nat → Int32) → (Nat → Int32) → (Nat → Int32) → (Nat → Int32) → (Nat → Int64) → (Nat → Int64) →  Prop} {x2 : Int64} (F : Fo (uB used) p T rk) (D : XD (uB used) p kd mn pt) {a l : Nat} (ha : uB used a) (ea : T a = a) (hl : uB used l) (el : T l = l) (hm : Mt (xv (uB used) T kd mn pt a_value) x y a l) (hS : Same (xv (uB used) T kd mn pt a_value) a l) {com0 : Nat → Int64} (HJ : ∀ a_company, PI (xv (uB used) T kd mn pt a_value) x y a_company a_greeted nE → Rsub com0 a_company → J18 (x2 &&& (x2 - 1)) used f_roots f_asked (nI tn) f_bound f_pairs f_drafted f_noted f_trials f_mets f_classes (nA p) (nA kd) (nA mn) (nA pt) a_value (nA tr) a_left a_right a_draft a_stands a_testX a_testY a_triggerX a_triggerY a_ends a_notes a_oldUsed a_oldRoots a_oldAsked a_oldStands a_oldTestX a_oldTestY a_oldTriggerX a_oldTriggerY a_oldEnds a_oldTrailed a_oldNoted a_met a_classOf a_finer a_image a_seen a_stack a_deep a_company a_greeted) : ∀ n k a_company, (kd a = 2 → k ≤ mn a) → 3 - k < n → PI (xv (uB used) T kd mn pt a_value) x y a_company a_greeted (fun q z => q = a ∧ z = l) → (∀ j, j < k → j < cM (xv (uB used) T kd mn pt a_value) a → bL (a_company (T (pt (3 * a + j)))) (T (pt (3 * l + j))) = true) → Rsub com0 a_company → wX_greet_75 post J18 (nI a) x2 (nI l) n (nI k) used f_roots f_asked (nI tn) f_bound f_pairs f_drafted f_noted f_trials f_mets f_classes (nA p) (nA kd) (nA mn) (nA pt) a_value (nA tr) a_left a_right a_draft a_stands a_testX a_testY a_triggerX a_triggerY a_ends a_notes a_oldUsed a_oldRoots a_oldAsked a_oldStands a_oldTestX a_oldTestY a_oldTriggerX a_oldTriggerY a_oldEnds a_oldTrailed a_oldNoted a_met a_classOf a_finer a_image a_seen a_stack a_deep a_company a_greeted := by
  have W : VW (xv (uB used) T kd mn pt a_value) := xv_W F D
  have la := fo_lt F ha
  have ll := fo_lt F hl
  have d := D a ha (fo_topI F ha ea)
  have eP : ∀ k, cP (xv (uB used) T kd mn pt a_value) a k = pt (3 * a + k) := fun k => by rw [xv_P, ea]
  have eP' : ∀ k, cP (xv (uB used) T kd mn pt a_value) l k = pt (3 * l + k) := fun k => by rw [xv_P, el]
  have fin : ∀ k a_company, cM (xv (uB used) T kd mn pt a_value) a ≤ k → PI (xv (uB used) T kd mn pt a_value) x y a_company a_greeted (fun q z => q = a ∧ z = l) → (∀ j, j < k → j < cM (xv (uB used) T kd mn pt a_value) a → bL (a_company (T (pt (3 * a + j)))) (T (pt (3 * l + j))) = true) → Rsub com0 a_company → J18 (x2 &&& (x2 - 1)) used f_roots f_asked (nI tn) f_bound f_pairs f_drafted f_noted f_trials f_mets f_classes (nA p) (nA kd) (nA mn) (nA pt) a_value (nA tr) a_left a_right a_draft a_stands a_testX a_testY a_triggerX a_triggerY a_ends a_notes a_oldUsed a_oldRoots a_oldAsked a_oldStands a_oldTestX a_oldTestY a_oldTriggerX a_oldTriggerY a_oldEnds a_oldTrailed a_oldNoted a_met a_classOf a_finer a_image a_seen a_stack a_deep a_company a_greeted := by
    intro k a_company hk hp hj h0
    refine HJ a_company ⟨hp.1, fun q z hq e => ?_, hp.2.2⟩ h0
    obtain ⟨a1, a2⟩ := hp.2.1 q z hq e
    refine ⟨a1, Or.inr ?_⟩
    rcases a2 with ⟨rfl, rfl⟩ | a2
    · exact Or.inr ⟨hS, fun j h => by rw [eP, eP']; exact hj j (by omega) h⟩
    · exact a2
  intro n
  induction n with
  | zero => intro k _ _ h; omega
  | succ n ih =>
    intro k a_company hk hn hp hj hs0
    unfold wX_greet_75
    rw [cl_n (k := a), nA_e, nA_e]
    refine ⟨in_n la, ?_⟩
    by_cases k2 : kd a = 2
    · have eM : cM (xv (uB used) T kd mn pt a_value) a = mn a := by rw [xv_M2 (by rw [ea]; exact k2), ea]
      have m3 := (d.2 k2).1
      have hk := hk k2
      by_cases e : k = mn a
      · exact wh_t (a := mn a) (b := k) (by omega) (nm_e (fin k a_company (by omega) hp hj hs0))
      · have lk : k < mn a := by omega
        have hk' : k < cM (xv (uB used) T kd mn pt a_value) l := by rw [← hS.2.2, eM]; exact lk
        have u1 : uB used (pt (3 * a + k)) := (d.2 k2).2 k lk
        have u2 : uB used (pt (3 * l + k)) := by
          have := vw_P W (x := l) hl hk'
          rw [eP'] at this
          exact this
        have l2 := fo_lt F (fo_T F u2)
        refine wh_f (a := mn a) (b := k) (by omega) ⟨in_n la, br_t (by rw [k2]; rfl) ?_⟩
        rw [tri, tri, cl_n (k := 3 * a + k), cl_n (k := 3 * l + k), nA_e, nA_e]
        refine ⟨in_n (by omega), in_n (by omega), xw_meet F u1 u2 (up1 (ih (k + 1) _ (fun _ => by omega) (by omega) (pi_com hp l2 ?_) (fun j h1 h2 => ?_) fun q z w => (adB_i l2 _ _).2 (Or.inl (hs0 q z w))))⟩
        · have := mt_s hm hS (k := k) (by rw [eM]; exact lk)
          rw [eP, eP'] at this
          exact this
        · by_cases z : j = k
          · rw [z]; exact (adB_i l2 _ _).2 (Or.inr ⟨rfl, rfl⟩)
          · exact (adB_i l2 _ _).2 (Or.inl (hj j (by omega) h2))
    · have eM : cM (xv (uB used) T kd mn pt a_value) a = 0 := xv_M0 (by rw [ea]; exact k2)
      refine br_c (fun _ => nm_e (fin k a_company (by omega) hp hj hs0)) fun _ => ⟨in_n la, br_f (fun z => k2 (nI_inj (b := 2) (ha := by omega) z)) (nm_e (fin k a_company (by omega) hp hj hs0))⟩
theorem xw_grt18 {post : Int32 → SX → Prop} (F : Fo (uB used) p T rk) (D : XD (uB used) p kd mn pt) (hx : uB used x) (hy : uB used y) {a : Nat} (la : a < 48) {x0 : Int64} {gr0 : Nat → Int64} (H1 : ∀ a_company a_greeted, PI (xv (uB used) T kd mn pt a_value) x y a_company a_greeted nE → (∀ b, bL x0 b = true → bL (a_greeted a) b = true) → Rsub gr0 a_greeted → post 1 (used, f_roots, f_asked, nI tn, f_bound, f_pairs, f_drafted, f_noted, f_trials, f_mets, f_classes, nA p, nA kd, nA mn, nA pt, a_value, nA tr, a_left, a_right, a_draft, a_stands, a_testX, a_testY, a_triggerX, a_triggerY, a_ends, a_notes, a_oldUsed, a_oldRoots, a_oldAsked, a_oldStands, a_oldTestX, a_oldTestY, a_oldTriggerX, a_oldTriggerY, a_oldEnds, a_oldTrailed, a_oldNoted, a_met, a_classOf, a_finer, a_image, a_seen, a_stack, a_deep, a_company, a_greeted)) (H0 : ∀ a_company a_greeted, Bad1 (xv (uB used) T kd mn pt a_value) x y → post 0 (used, f_roots, f_asked, nI tn, f_bound, f_pairs, f_drafted, f_noted, f_trials, f_mets, f_classes, nA p, nA kd, nA mn, nA pt, a_value, nA tr, a_left, a_right, a_draft, a_stands, a_testX, a_testY, a_triggerX, a_triggerY, a_ends, a_notes, a_oldUsed, a_oldRoots, a_oldAsked, a_oldStands, a_oldTestX, a_oldTestY, a_oldTriggerX, a_oldTriggerY, a_oldEnds, a_oldTrailed, a_oldNoted, a_met, a_classOf, a_finer, a_image, a_seen, a_stack, a_deep, a_company, a_greeted)) : ∀ n x2 a_company a_greeted, pc x2 < n → (∀ b, bL x2 b = true → bL (a_company a) b = true) → PI (xv (uB used) T kd mn pt a_value) x y a_company a_greeted nE → (∀ b, bL x0 b = true → bL x2 b = true ∨ bL (a_greeted a) b = true) → Rsub gr0 a_greeted → wX_greet_18 post (nI a) n x2 used f_roots f_asked (nI tn) f_bound f_pairs f_drafted f_noted f_trials f_mets f_classes (nA p) (nA kd) (nA mn) (nA pt) a_value (nA tr) a_left a_right a_draft a_stands a_testX a_testY a_triggerX a_triggerY a_ends a_notes a_oldUsed a_oldRoots a_oldAsked a_oldStands a_oldTestX a_oldTestY a_oldTriggerX a_oldTriggerY a_oldEnds a_oldTrailed a_oldNoted a_met a_classOf a_finer a_image a_seen a_stack a_deep a_company a_greeted := by
  have W : VW (xv (uB used) T kd mn pt a_value) := xv_W F D
  intro n
  induction n with
  | zero => intro x2 _ _ h; omega
  | succ n ih =>
    intro x2 a_company a_greeted hn hc hp h0 hr
    by_cases e : x2 = 0
    · refine br_t e (H1 a_company a_greeted hp (fun b hb => (h0 b hb).elim (fun q => ?_) fun q => q) hr)
      rw [e, bL_0] at q
      exact absurd q (by decide)
    · obtain ⟨l, hl⟩ := low_ex e
      have hpc := pc_clr hl
      have hml := hp.1 a l la (hc l hl.2.1)
      obtain ⟨⟨aU, aT⟩, ⟨lU, lT⟩, _⟩ := mt_U W (x := x) (y := y) hx hy hml
      have aU : uB used a := aU
      have aT : T a = a := aT
      have lU : uB used l := lU
      have lT : T l = l := lT
      have ll := fo_lt F lU
      refine br_f e (xw_low hl ?_)
      have hx2 : ∀ b, bL (x2 &&& (x2 - 1)) b = true ↔ bL x2 b = true ∧ b ≠ l := fun b => by
        rw [low_clr hl, Bool.and_eq_true, Bool.not_eq_true', decide_eq_false_iff_not]
      have hg : ∀ q z, bL (vp_updL a_greeted a (a_greeted a ||| (x2 &&& -x2)) q) z = true ↔ bL (a_greeted q) z = true ∨ (q = a ∧ z = l) := fun q z => by
        by_cases e2 : q = a
        · rw [e2, pk_uLs, bL_or, low_bit hl, Bool.or_eq_true, decide_eq_true_eq]
          exact ⟨fun w => w.imp (fun q => q) fun q => ⟨rfl, q⟩, fun w => w.imp (fun q => q) fun q => q.2⟩
        · rw [pk_uLn e2]
          exact ⟨Or.inl, fun w => w.elim (fun q => q) fun q => absurd q.1 e2⟩
      have hp' : PI (xv (uB used) T kd mn pt a_value) x y a_company (vp_updL a_greeted a (a_greeted a ||| (x2 &&& -x2))) (fun q z => q = a ∧ z = l) := by
        refine ⟨hp.1, fun q z hq w => ?_, hp.2.2⟩
        rcases (hg q z).1 w with w | w
        · obtain ⟨a1, a2⟩ := hp.2.1 q z hq w
          exact ⟨a1, Or.inr (a2.elim (fun q => q.elim) fun q => q)⟩
        · exact ⟨by rw [w.1, w.2]; exact hc l hl.2.1, Or.inl w⟩
      have next : ∀ a_company', PI (xv (uB used) T kd mn pt a_value) x y a_company' (vp_updL a_greeted a (a_greeted a ||| (x2 &&& -x2))) nE → (∀ b, bL x2 b = true → bL (a_company' a) b = true) → wX_greet_18 post (nI a) n (x2 &&& (x2 - 1)) used f_roots f_asked (nI tn) f_bound f_pairs f_drafted f_noted f_trials f_mets f_classes (nA p) (nA kd) (nA mn) (nA pt) a_value (nA tr) a_left a_right a_draft a_stands a_testX a_testY a_triggerX a_triggerY a_ends a_notes a_oldUsed a_oldRoots a_oldAsked a_oldStands a_oldTestX a_oldTestY a_oldTriggerX a_oldTriggerY a_oldEnds a_oldTrailed a_oldNoted a_met a_classOf a_finer a_image a_seen a_stack a_deep a_company' (vp_updL a_greeted a (a_greeted a ||| (x2 &&& -x2))) := by
        intro a_company' hp2 hc2
        refine ih _ a_company' _ (by omega) (fun b hb => hc2 b ((hx2 b).1 hb).1) hp2 (fun b hb => ?_) fun q z w => (hg q z).2 (Or.inl (hr q z w))
        rcases h0 b hb with w | w
        · by_cases e2 : b = l
          · exact Or.inr ((hg a b).2 (Or.inr ⟨rfl, e2⟩))
          · exact Or.inl ((hx2 b).2 ⟨w, e2⟩)
        · exact Or.inr ((hg a b).2 (Or.inl w))
      rw [cl_n (k := a), nA_e]
      refine ⟨in_n la, in_n la, nm_e ⟨in_n la, ?_⟩⟩
      have kl := (D a aU (fo_topI F aU aT)).1
      by_cases k0 : kd a = 0
      · refine br_t (by rw [k0]; rfl) (nm_e (next a_company ⟨hp'.1, fun q z hq w => ?_, hp'.2.2⟩ hc))
        obtain ⟨a1, a2⟩ := hp'.2.1 q z hq w
        refine ⟨a1, Or.inr (a2.elim (fun q => Or.inl ?_) fun q => q)⟩
        rw [q.1, xv_K, aT]
        exact k0
      · refine br_f (fun z => k0 (nI_inj (b := 0) z)) (xw_isSuch la ll (fun hs => br_f (by decide) ?_) fun hs => br_t rfl (H0 _ _ ⟨a, l, hml, ?_, ?_⟩))
        · have hS := (such_same F D aU lU aT lT k0).1 hs
          refine Exists.intro 4 (xw_grt75 (x := x) (y := y) F D aU aT lU lT hml hS (com0 := a_company) (fun a_company' hp2 h2 => next a_company' hp2 fun b hb => h2 a b (hc b hb)) 4 0 a_company (fun _ => by omega) (by omega) hp' (fun j hj => absurd hj (by omega)) fun _ _ w => w)
        · rw [xv_K, aT]; exact k0
        · exact fun z => hs ((such_same F D aU lU aT lT k0).2 z)
end
end
section
/-! clearing: the component -/
/-! matches: the component's rounds -/
theorem an_not {v w : Int64} (h : v &&& (w ^^^ (-1)) = 0) {b : Nat} (hb : bL v b = true) : bL w b = true := by
  have := bL_and v (w ^^^ (-1)) b
  rw [h, bL_0, hb, bL_not w (bL_lt hb)] at this
  revert this
  cases bL w b <;> decide
theorem an_not2 {v w : Int64} {b : Nat} : bL (v &&& (w ^^^ (-1))) b = true ↔ bL v b = true ∧ ¬ bL w b = true := by
  rw [bL_and, Bool.and_eq_true]
  refine ⟨fun z => ⟨z.1, ?_⟩, fun z => ⟨z.1, ?_⟩⟩
  · have := z.2
    rw [bL_not w (bL_lt z.1)] at this
    revert this
    cases bL w b <;> decide
  · rw [bL_not w (bL_lt z.1), ts_nt z.2]; rfl
section
variable {f_used : Int64} {f_roots : Int64} {f_asked : Int64} {f_trailed : Int32} {f_bound : Int32} {f_pairs : Int32} {f_drafted : Int32} {f_noted : Int32} {f_trials : Int32} {f_mets : Int32} {f_classes : Int32} {a_up : Nat → Int32} {a_kind : Nat → Int32} {a_many : Nat → Int32} {a_parts : Nat → Int32} {a_value : Nat → Int32} {a_trail : Nat → Int32} {a_left : Nat → Int32} {a_right : Nat → Int32} {a_draft : Nat → Int32} {a_stands : Nat → Int32} {a_testX : Nat → Int32} {a_testY : Nat → Int32} {a_triggerX : Nat → Int32} {a_triggerY : Nat → Int32} {a_ends : Nat → Int32} {a_notes : Nat → Int32} {a_oldUsed : Nat → Int64} {a_oldRoots : Nat → Int64} {a_oldAsked : Nat → Int64} {a_oldStands : Nat → Int32} {a_oldTestX : Nat → Int32} {a_oldTestY : Nat → Int32} {a_oldTriggerX : Nat → Int32} {a_oldTriggerY : Nat → Int32} {a_oldEnds : Nat → Int32} {a_oldTrailed : Nat → Int32} {a_oldNoted : Nat → Int32} {a_met : Nat → Int32} {a_classOf : Nat → Int32} {a_finer : Nat → Int32} {a_image : Nat → Int32} {a_seen : Nat → Int32} {a_stack : Nat → Int32} {a_deep : Nat → Int32} {a_company : Nat → Int64} {a_greeted : Nat → Int64}
variable {p kd mn pt tr T rk : Nat → Nat} {tn x y : Nat} {used : Int64}
theorem xw_pty45 {post : Int32 → SX → Prop} {J36 : Int32 → Int64 → Int64 → Int64 → Int32 → Int32 → Int32 → Int32 → Int32 → Int32 → Int32 → Int32 → (Nat → Int32) → (Nat → Int32) → (Nat → Int32) → (Nat → Int32) → (Nat → Int32) → (Nat → Int32) → (Nat → Int32) → (Nat → Int32) → (Nat → Int32) → (Nat → Int32) → (Nat → Int32) → (Nat → Int32) → (Nat → Int32) → (Nat → Int32) → (Nat → Int32) → (Nat → Int32) → (Nat → Int64) → (Nat → Int64) → (Nat → Int64) → (Nat → Int32) → (Nat → Int32) → (Nat → Int32) → (Nat → Int32) → (Nat → Int32) → (Nat → Int32) → (Nat → Int32) → (Nat → Int32) → (Nat → Int32) → (Nat → Int32) → (Nat → Int32) → (Nat → Int32) → (Nat → Int32) → (Nat → Int32) → (Nat → Int32) → (Nat → Int64) → (Nat → Int64) →  Prop} (F : Fo (uB used) p T rk) (D : XD (uB used) p kd mn pt) (hx : uB used x) (hy : uB used y) {gr0 : Nat → Int64} (HJ : ∀ r a_company a_greeted, (r = 0 ∨ r = 1) → PI (xv (uB used) T kd mn pt a_value) x y a_company a_greeted nE → mA gr0 ≤ mA a_greeted → (r = 1 → mA gr0 < mA a_greeted) → (r = 0 → ∀ a, a < 48 → ∀ b, bL (a_company a) b = true → bL (a_greeted a) b = true) → J36 (nI r) used f_roots f_asked (nI tn) f_bound f_pairs f_drafted f_noted f_trials f_mets f_classes (nA p) (nA kd) (nA mn) (nA pt) a_value (nA tr) a_left a_right a_draft a_stands a_testX a_testY a_triggerX a_triggerY a_ends a_notes a_oldUsed a_oldRoots a_oldAsked a_oldStands a_oldTestX a_oldTestY a_oldTriggerX a_oldTriggerY a_oldEnds a_oldTrailed a_oldNoted a_met a_classOf a_finer a_image a_seen a_stack a_deep a_company a_greeted) (H0 : ∀ a_company a_greeted, Bad1 (xv (uB used) T kd mn pt a_value) x y → post 0 (used, f_roots, f_asked, nI tn, f_bound, f_pairs, f_drafted, f_noted, f_trials, f_mets, f_classes, nA p, nA kd, nA mn, nA pt, a_value, nA tr, a_left, a_right, a_draft, a_stands, a_testX, a_testY, a_triggerX, a_triggerY, a_ends, a_notes, a_oldUsed, a_oldRoots, a_oldAsked, a_oldStands, a_oldTestX, a_oldTestY, a_oldTriggerX, a_oldTriggerY, a_oldEnds, a_oldTrailed, a_oldNoted, a_met, a_classOf, a_finer, a_image, a_seen, a_stack, a_deep, a_company, a_greeted)) : ∀ n i r a_company a_greeted, i ≤ 48 → 48 - i < n → (r = 0 ∨ r = 1) → PI (xv (uB used) T kd mn pt a_value) x y a_company a_greeted nE → Rsub gr0 a_greeted → (r = 1 → mA gr0 < mA a_greeted) → (r = 0 → ∀ a, a < i → ∀ b, bL (a_company a) b = true → bL (a_greeted a) b = true) → wX_party_45 post J36 n (nI r) (nI i) used f_roots f_asked (nI tn) f_bound f_pairs f_drafted f_noted f_trials f_mets f_classes (nA p) (nA kd) (nA mn) (nA pt) a_value (nA tr) a_left a_right a_draft a_stands a_testX a_testY a_triggerX a_triggerY a_ends a_notes a_oldUsed a_oldRoots a_oldAsked a_oldStands a_oldTestX a_oldTestY a_oldTriggerX a_oldTriggerY a_oldEnds a_oldTrailed a_oldNoted a_met a_classOf a_finer a_image a_seen a_stack a_deep a_company a_greeted := by
  have W : VW (xv (uB used) T kd mn pt a_value) := xv_W F D
  intro n
  induction n with
  | zero => intro i _ _ _ _ h; omega
  | succ n ih =>
    intro i r a_company a_greeted hi hn hr hp hs h1 h0
    by_cases e : i = 48
    · subst e
      exact wh_t (a := 48) (b := 48) (by omega) (HJ r a_company a_greeted hr hp (mA_mono hs) h1 h0)
    · have li : i < 48 := by omega
      refine wh_f (a := 48) (b := i) (by omega) ?_
      rw [cl_n (k := i)]
      refine ⟨in_n li, in_n li, br_c (fun z => up1 (ih (i + 1) r a_company a_greeted (by omega) (by omega) hr hp hs h1 fun q a ha b hb => ?_)) fun z => ?_⟩
      · by_cases e2 : a = i
        · rw [e2] at hb ⊢
          exact an_not z hb
        · exact h0 q a (by omega) b hb
      · unfold wpX_greet
        rw [cl_n (k := i)]
        refine ⟨in_n li, in_n li, nm_e (Exists.intro (pc (a_company i &&& (a_greeted i ^^^ (-1))) + 1) (xw_grt18 (x := x) (y := y) (x0 := a_company i &&& (a_greeted i ^^^ (-1))) (gr0 := a_greeted) F D hx hy li (fun a_company' a_greeted' hp' hgb hs' => br_f (by decide) (up1 (ih (i + 1) 1 a_company' a_greeted' (by omega) (by omega) (Or.inr rfl) hp' (fun q z w => hs' q z (hs q z w)) (fun _ => ?_) fun q => absurd q (by decide)))) (fun a_company a_greeted hb => br_t rfl (H0 a_company a_greeted hb)) _ _ a_company a_greeted (Nat.lt_succ_self _) (fun b hb => (an_not2.1 hb).1) hp (fun b hb => Or.inl hb) fun _ _ w => w))⟩
        obtain ⟨b, hb⟩ := low_ex z
        have q := an_not2.1 hb.2.1
        have lb := vw_lt W (mt_U W (x := x) (y := y) hx hy (hp.1 i b li q.1)).2.1.1
        have := mA_lt hs' li lb q.2 (hgb b hb.2.1)
        have := mA_mono hs
        omega
theorem xw_pty36 {post : Int32 → SX → Prop} (F : Fo (uB used) p T rk) (D : XD (uB used) p kd mn pt) (hx : uB used x) (hy : uB used y) (H1 : ∀ a_company a_greeted, (∀ a b, a < 48 → (bL (a_company a) b = true ↔ Mt (xv (uB used) T kd mn pt a_value) x y a b)) → ¬ Bad1 (xv (uB used) T kd mn pt a_value) x y → post 1 (used, f_roots, f_asked, nI tn, f_bound, f_pairs, f_drafted, f_noted, f_trials, f_mets, f_classes, nA p, nA kd, nA mn, nA pt, a_value, nA tr, a_left, a_right, a_draft, a_stands, a_testX, a_testY, a_triggerX, a_triggerY, a_ends, a_notes, a_oldUsed, a_oldRoots, a_oldAsked, a_oldStands, a_oldTestX, a_oldTestY, a_oldTriggerX, a_oldTriggerY, a_oldEnds, a_oldTrailed, a_oldNoted, a_met, a_classOf, a_finer, a_image, a_seen, a_stack, a_deep, a_company, a_greeted)) (H0 : ∀ a_company a_greeted, Bad1 (xv (uB used) T kd mn pt a_value) x y → post 0 (used, f_roots, f_asked, nI tn, f_bound, f_pairs, f_drafted, f_noted, f_trials, f_mets, f_classes, nA p, nA kd, nA mn, nA pt, a_value, nA tr, a_left, a_right, a_draft, a_stands, a_testX, a_testY, a_triggerX, a_triggerY, a_ends, a_notes, a_oldUsed, a_oldRoots, a_oldAsked, a_oldStands, a_oldTestX, a_oldTestY, a_oldTriggerX, a_oldTriggerY, a_oldEnds, a_oldTrailed, a_oldNoted, a_met, a_classOf, a_finer, a_image, a_seen, a_stack, a_deep, a_company, a_greeted)) : ∀ n r a_company a_greeted, (r = 0 ∨ r = 1) → PI (xv (uB used) T kd mn pt a_value) x y a_company a_greeted nE → 2304 - mA a_greeted + r < n → (r = 0 → ∀ a, a < 48 → ∀ b, bL (a_company a) b = true → bL (a_greeted a) b = true) → wX_party_36 post n (nI r) used f_roots f_asked (nI tn) f_bound f_pairs f_drafted f_noted f_trials f_mets f_classes (nA p) (nA kd) (nA mn) (nA pt) a_value (nA tr) a_left a_right a_draft a_stands a_testX a_testY a_triggerX a_triggerY a_ends a_notes a_oldUsed a_oldRoots a_oldAsked a_oldStands a_oldTestX a_oldTestY a_oldTriggerX a_oldTriggerY a_oldEnds a_oldTrailed a_oldNoted a_met a_classOf a_finer a_image a_seen a_stack a_deep a_company a_greeted := by
  have W : VW (xv (uB used) T kd mn pt a_value) := xv_W F D
  intro n
  induction n with
  | zero => intro r _ _ _ _ h; omega
  | succ n ih =>
    intro r a_company a_greeted hr hp hn h0
    rcases hr with rfl | rfl
    · have hc := h0 rfl
      have key : ∀ a b, a < 48 → (bL (a_company a) b = true ↔ Mt (xv (uB used) T kd mn pt a_value) x y a b) := by
        intro a b ha
        refine ⟨hp.1 a b ha, fun hm => ?_⟩
        refine (hm (fun a b => cU (xv (uB used) T kd mn pt a_value) a ∧ a < 48 ∧ bL (a_company a) b = true) ⟨fo_T F hx, fo_lt F (fo_T F hx), hp.2.2⟩ fun a b ⟨aU, la, q⟩ hs k hk => ?_).2.2
        have pU := vw_P W aU hk
        refine ⟨vw_T W pU, vw_lt W (vw_T W pU), ?_⟩
        rcases (hp.2.1 a b la (hc a la b q)).2 with z | z | z
        · exact z.elim
        · have := vw_k2 W aU hk
          omega
        · exact z.2 k hk
      refine br_t rfl (H1 a_company a_greeted key fun ⟨a, b, hm, hk, hs⟩ => ?_)
      have aU := (mt_U W (x := x) (y := y) hx hy hm).1.1
      have la := vw_lt W aU
      rcases (hp.2.1 a b la (hc a la b ((key a b la).2 hm))).2 with z | z | z
      · exact z.elim
      · exact hk z
      · exact hs z.1
    · refine br_f (by decide) (Exists.intro 49 (xw_pty45 (x := x) (y := y) (gr0 := a_greeted) F D hx hy (fun r a_company' a_greeted' hr' hp' hle h1 h0' => ih r a_company' a_greeted' hr' hp' ?_ h0') H0 49 0 0 a_company a_greeted (by omega) (by omega) (Or.inl rfl) hp (fun _ _ w => w) (fun z => absurd z (by decide)) fun _ a ha => absurd ha (by omega)))
      have := mA_le a_greeted'
      rcases hr' with rfl | rfl
      · omega
      · have := h1 rfl
        omega
theorem xw_pty2 {post : Int32 → SX → Prop} (F : Fo (uB used) p T rk) (D : XD (uB used) p kd mn pt) (hx : uB used x) (hy : uB used y) (H1 : ∀ a_company a_greeted, (∀ a b, a < 48 → (bL (a_company a) b = true ↔ Mt (xv (uB used) T kd mn pt a_value) x y a b)) → ¬ Bad1 (xv (uB used) T kd mn pt a_value) x y → post 1 (used, f_roots, f_asked, nI tn, f_bound, f_pairs, f_drafted, f_noted, f_trials, f_mets, f_classes, nA p, nA kd, nA mn, nA pt, a_value, nA tr, a_left, a_right, a_draft, a_stands, a_testX, a_testY, a_triggerX, a_triggerY, a_ends, a_notes, a_oldUsed, a_oldRoots, a_oldAsked, a_oldStands, a_oldTestX, a_oldTestY, a_oldTriggerX, a_oldTriggerY, a_oldEnds, a_oldTrailed, a_oldNoted, a_met, a_classOf, a_finer, a_image, a_seen, a_stack, a_deep, a_company, a_greeted)) (H0 : ∀ a_company a_greeted, Bad1 (xv (uB used) T kd mn pt a_value) x y → post 0 (used, f_roots, f_asked, nI tn, f_bound, f_pairs, f_drafted, f_noted, f_trials, f_mets, f_classes, nA p, nA kd, nA mn, nA pt, a_value, nA tr, a_left, a_right, a_draft, a_stands, a_testX, a_testY, a_triggerX, a_triggerY, a_ends, a_notes, a_oldUsed, a_oldRoots, a_oldAsked, a_oldStands, a_oldTestX, a_oldTestY, a_oldTriggerX, a_oldTriggerY, a_oldEnds, a_oldTrailed, a_oldNoted, a_met, a_classOf, a_finer, a_image, a_seen, a_stack, a_deep, a_company, a_greeted)) : ∀ n i a_company a_greeted, i ≤ 48 → 48 - i < n → (∀ j, j < i → a_company j = 0 ∧ a_greeted j = 0) → wX_party_2 post (nI x) (nI y) used f_roots f_asked (nI tn) f_bound f_pairs f_drafted f_noted f_trials f_mets f_classes n (nI i) (nA p) (nA kd) (nA mn) (nA pt) a_value (nA tr) a_left a_right a_draft a_stands a_testX a_testY a_triggerX a_triggerY a_ends a_notes a_oldUsed a_oldRoots a_oldAsked a_oldStands a_oldTestX a_oldTestY a_oldTriggerX a_oldTriggerY a_oldEnds a_oldTrailed a_oldNoted a_met a_classOf a_finer a_image a_seen a_stack a_deep a_company a_greeted := by
  intro n
  induction n with
  | zero => intro i _ _ _ h; omega
  | succ n ih =>
    intro i a_company a_greeted hi hn h
    by_cases e : i = 48
    · subst e
      have ly := fo_lt F (fo_T F hy)
      refine wh_t (a := 48) (b := 48) (by omega) (xw_meet F hx hy (Exists.intro 2306 (xw_pty36 (x := x) (y := y) F D hx hy H1 H0 2306 1 _ a_greeted (Or.inr rfl) ⟨fun a b ha q => ?_, fun a b ha q => ?_, (adB_i ly _ _).2 (Or.inr ⟨rfl, rfl⟩)⟩ (by omega) fun z => absurd z (by decide))))
      · rcases (adB_i ly _ _).1 q with q | ⟨rfl, rfl⟩
        · rw [(h a ha).1, bL_0] at q
          exact absurd q (by decide)
        · exact mt_0 _ x y
      · rw [(h a ha).2, bL_0] at q
        exact absurd q (by decide)
    · refine wh_f (a := 48) (b := i) (by omega) ?_
      rw [cl_n (k := i)]
      refine ⟨in_n (by omega), nm_e ⟨in_n (by omega), nm_e (up1 (ih (i + 1) _ _ (by omega) (by omega) fun j hj => ?_))⟩⟩
      by_cases z : j = i
      · rw [z, pk_uLs, pk_uLs]; exact ⟨rfl, rfl⟩
      · rw [pk_uLn z, pk_uLn z]; exact h j (by omega)
theorem xw_mat72 {post : Int32 → SX → Prop} {J33 : Int32 → Int32 → Prop} {m nc i : Nat} {mt co : Nat → Nat} (li : i < 48) (hc : CLS (xv (uB used) T kd mn pt a_value) y m mt nc co) (hmt : ∀ j, j < m → mt j < 48) (ha : Ar a_met mt m) (hco : ∀ j, j < m → a_classOf (mt j) = nI (co (mt j))) (H1 : (∀ j j', j < m → j' < m → bL (a_company i) (mt j) = true → bL (a_company i) (mt j') = true → co (mt j) = co (mt j')) → J33 1 (nI (i + 1))) (H0 : (∃ j j', j < m ∧ j' < m ∧ bL (a_company i) (mt j) = true ∧ bL (a_company i) (mt j') = true ∧ co (mt j) ≠ co (mt j')) → J33 0 (nI (i + 1))) : ∀ n j g l, j ≤ m → m - j < n → (g = 1 → ∀ u v, u < j → v < j → bL (a_company i) (mt u) = true → bL (a_company i) (mt v) = true → co (mt u) = co (mt v)) → (g = 0 ∨ g = 1) → (g = 0 → ∃ u v, u < m ∧ v < m ∧ bL (a_company i) (mt u) = true ∧ bL (a_company i) (mt v) = true ∧ co (mt u) ≠ co (mt v)) → ((l = -1 ∧ ∀ u, u < j → ¬ bL (a_company i) (mt u) = true) ∨ ∃ u, u < j ∧ bL (a_company i) (mt u) = true ∧ l = nI (co (mt u))) → wX_matches_72 post J33 (nI i) used f_roots f_asked (nI tn) f_bound f_pairs f_drafted f_noted f_trials (nI m) f_classes (nA p) (nA kd) (nA mn) (nA pt) a_value (nA tr) a_left a_right a_draft a_stands a_testX a_testY a_triggerX a_triggerY a_ends a_notes a_oldUsed a_oldRoots a_oldAsked a_oldStands a_oldTestX a_oldTestY a_oldTriggerX a_oldTriggerY a_oldEnds a_oldTrailed a_oldNoted a_met a_classOf a_finer a_image a_seen a_stack a_deep a_company a_greeted n (nI g) l (nI j) := by
  have m48 := hc.1.2.1
  intro n
  induction n with
  | zero => intro j _ _ _ h; omega
  | succ n ih =>
    intro j g l hj hn h1 hg h0 hl
    by_cases e : j = m
    · refine wh_t (a := m) (b := j) (by omega) (up1 ?_)
      rcases hg with rfl | rfl
      · exact H0 (h0 rfl)
      · exact H1 fun u v hu hv => h1 rfl u v (by omega) (by omega)
    · have lj : j < m := by clear h0 hl h1; omega
      have a1 : j + 1 ≤ m := lj
      have a2 : m - (j + 1) < n := by clear h0 hl h1; omega
      have lt := hmt j lj
      have cn := hc.2.1 j lj
      have cn2 := hc.2.2.1
      refine wh_f (a := m) (b := j) (by clear h0 hl h1; omega) ?_
      rw [cl_n (k := i), cl_n (k := j), ha j lj]
      refine ⟨in_n li, in_n (by clear h0 hl h1; omega), ?_⟩
      by_cases hb : bL (a_company i) (mt j) = true
      · refine br_f (bt_n0 (by omega) hb) ?_
        have go : ∀ g', (g' = 0 ∨ g' = 1) → (g' = 1 → ∀ u v, u < j + 1 → v < j + 1 → bL (a_company i) (mt u) = true → bL (a_company i) (mt v) = true → co (mt u) = co (mt v)) → (g' = 0 → ∃ u v, u < m ∧ v < m ∧ bL (a_company i) (mt u) = true ∧ bL (a_company i) (mt v) = true ∧ co (mt u) ≠ co (mt v)) → wX_matches_130 post J33 (wX_matches_72 post J33 (nI i) used f_roots f_asked (nI tn) f_bound f_pairs f_drafted f_noted f_trials (nI m) f_classes (nA p) (nA kd) (nA mn) (nA pt) a_value (nA tr) a_left a_right a_draft a_stands a_testX a_testY a_triggerX a_triggerY a_ends a_notes a_oldUsed a_oldRoots a_oldAsked a_oldStands a_oldTestX a_oldTestY a_oldTriggerX a_oldTriggerY a_oldEnds a_oldTrailed a_oldNoted a_met a_classOf a_finer a_image a_seen a_stack a_deep a_company a_greeted n) (nI g') (nI i) (nI j) used f_roots f_asked (nI tn) f_bound f_pairs f_drafted f_noted f_trials (nI m) f_classes (nA p) (nA kd) (nA mn) (nA pt) a_value (nA tr) a_left a_right a_draft a_stands a_testX a_testY a_triggerX a_triggerY a_ends a_notes a_oldUsed a_oldRoots a_oldAsked a_oldStands a_oldTestX a_oldTestY a_oldTriggerX a_oldTriggerY a_oldEnds a_oldTrailed a_oldNoted a_met a_classOf a_finer a_image a_seen a_stack a_deep a_company a_greeted := by
          intro g' hg' q1 q0
          unfold wX_matches_130
          rw [cl_n (k := j), ha j lj, cl_n (k := mt j), hco j lj]
          exact ⟨in_n (by omega), in_n lt, nm_e (up1 (ih (j + 1) g' _ a1 a2 q1 hg' q0 (Or.inr ⟨j, Nat.lt_succ_self j, hb, rfl⟩)))⟩
        rcases hl with ⟨rfl, hl⟩ | ⟨u0, lu, bu, rfl⟩
        · refine br_t m1_neg (go g hg (fun q u v hu hv bu bv => ?_) h0)
          by_cases eu : u = j
          · by_cases ev : v = j
            · rw [eu, ev]
            · exact absurd bv (hl v (by omega))
          · exact absurd bu (hl u (by omega))
        · have c0 := hc.2.1 u0 (by omega)
          refine br_f (nI_nn (by omega)) ⟨in_n (by omega), in_n lt, ?_⟩
          rw [cl_n (k := mt j), hco j lj]
          by_cases ec : co (mt u0) = co (mt j)
          · refine br_t (by rw [ec]) (go g hg (fun q u v hu hv bu' bv => ?_) h0)
            have key : ∀ u, u < j + 1 → bL (a_company i) (mt u) = true → co (mt u) = co (mt j) := fun u hu bu' => by
              by_cases eu : u = j
              · rw [eu]
              · rw [h1 q u u0 (by omega) lu bu' bu, ec]
            rw [key u hu bu', key v hv bv]
          · exact br_f (fun z => ec (nI_inj z)) (go 0 (Or.inl rfl) (fun z => absurd z (by decide)) fun _ => ⟨u0, j, by omega, lj, bu, hb, ec⟩)
      · refine br_t ((bt_0 _ (by omega)).2 (ts_nt hb)) (up1 (ih (j + 1) g l a1 a2 (fun q u v hu hv bu bv => ?_) hg h0 (hl.imp (fun q => ⟨q.1, fun u hu => ?_⟩) fun ⟨u, q1, q2, q3⟩ => ⟨u, Nat.lt_succ_of_lt q1, q2, q3⟩)))
        · by_cases eu : u = j
          · rw [eu] at bu; exact absurd bu hb
          · by_cases ev : v = j
            · rw [ev] at bv; exact absurd bv hb
            · exact h1 q u v (by omega) (by omega) bu bv
        · by_cases eu : u = j
          · rw [eu]; exact hb
          · exact q.2 u (by omega)
def Gd (c : Vw) (x y a : Nat) : Prop := ∀ b b', Mt c x y a b → Mt c x y a b' → cK c a = 0 → Alike c b b'
theorem xw_mat33 {post : Int32 → SX → Prop} {m nc : Nat} {mt co : Nat → Nat} (F : Fo (uB used) p T rk) (D : XD (uB used) p kd mn pt) (hx : uB used x) (hy : uB used y) (hc : CLS (xv (uB used) T kd mn pt a_value) y m mt nc co) (ha : Ar a_met mt m) (hco : ∀ j, j < m → a_classOf (mt j) = nI (co (mt j))) (hcm : ∀ a b, a < 48 → (bL (a_company a) b = true ↔ Mt (xv (uB used) T kd mn pt a_value) x y a b)) (H2 : Bad2 (xv (uB used) T kd mn pt a_value) x y → post 2 (used, f_roots, f_asked, nI tn, f_bound, f_pairs, f_drafted, f_noted, f_trials, nI m, f_classes, nA p, nA kd, nA mn, nA pt, a_value, nA tr, a_left, a_right, a_draft, a_stands, a_testX, a_testY, a_triggerX, a_triggerY, a_ends, a_notes, a_oldUsed, a_oldRoots, a_oldAsked, a_oldStands, a_oldTestX, a_oldTestY, a_oldTriggerX, a_oldTriggerY, a_oldEnds, a_oldTrailed, a_oldNoted, a_met, a_classOf, a_finer, a_image, a_seen, a_stack, a_deep, a_company, a_greeted)) (H1 : ¬ Bad2 (xv (uB used) T kd mn pt a_value) x y → post 1 (used, f_roots, f_asked, nI tn, f_bound, f_pairs, f_drafted, f_noted, f_trials, nI m, f_classes, nA p, nA kd, nA mn, nA pt, a_value, nA tr, a_left, a_right, a_draft, a_stands, a_testX, a_testY, a_triggerX, a_triggerY, a_ends, a_notes, a_oldUsed, a_oldRoots, a_oldAsked, a_oldStands, a_oldTestX, a_oldTestY, a_oldTriggerX, a_oldTriggerY, a_oldEnds, a_oldTrailed, a_oldNoted, a_met, a_classOf, a_finer, a_image, a_seen, a_stack, a_deep, a_company, a_greeted)) : ∀ n i g, i ≤ 48 → 48 - i < n → (g = 0 ∨ g = 1) → (g = 1 → ∀ a, a < i → Gd (xv (uB used) T kd mn pt a_value) x y a) → (g = 0 → Bad2 (xv (uB used) T kd mn pt a_value) x y) → wX_matches_33 post used f_roots f_asked (nI tn) f_bound f_pairs f_drafted f_noted f_trials (nI m) f_classes (nA p) (nA kd) (nA mn) (nA pt) a_value (nA tr) a_left a_right a_draft a_stands a_testX a_testY a_triggerX a_triggerY a_ends a_notes a_oldUsed a_oldRoots a_oldAsked a_oldStands a_oldTestX a_oldTestY a_oldTriggerX a_oldTriggerY a_oldEnds a_oldTrailed a_oldNoted a_met a_classOf a_finer a_image a_seen a_stack a_deep a_company a_greeted n (nI g) (nI i) := by
  have W : VW (xv (uB used) T kd mn pt a_value) := xv_W F D
  intro n
  induction n with
  | zero => intro i _ _ h; omega
  | succ n ih =>
    intro i g hi hn hg h1 h0
    rcases hg with rfl | rfl
    · have fin : wX_matches_156 post (nI 0) used f_roots f_asked (nI tn) f_bound f_pairs f_drafted f_noted f_trials (nI m) f_classes (nA p) (nA kd) (nA mn) (nA pt) a_value (nA tr) a_left a_right a_draft a_stands a_testX a_testY a_triggerX a_triggerY a_ends a_notes a_oldUsed a_oldRoots a_oldAsked a_oldStands a_oldTestX a_oldTestY a_oldTriggerX a_oldTriggerY a_oldEnds a_oldTrailed a_oldNoted a_met a_classOf a_finer a_image a_seen a_stack a_deep a_company a_greeted := br_t rfl (H2 (h0 rfl))
      exact br_c (fun _ => fin) fun _ => br_t rfl fin
    · by_cases e : i = 48
      · subst e
        refine wh_t (a := 48) (b := 48) (by omega) (br_f (by decide) (H1 fun ⟨a, b, b', q1, q2, q3, q4⟩ => ?_))
        exact q4 (h1 rfl a (vw_lt W (mt_U W (x := x) (y := y) hx hy q1).1.1) b b' q1 q2 q3)
      · have li : i < 48 := by omega
        refine wh_f (a := 48) (b := i) (by omega) (br_f (by decide) ?_)
        have skip : Gd (xv (uB used) T kd mn pt a_value) x y i → wX_matches_33 post used f_roots f_asked (nI tn) f_bound f_pairs f_drafted f_noted f_trials (nI m) f_classes (nA p) (nA kd) (nA mn) (nA pt) a_value (nA tr) a_left a_right a_draft a_stands a_testX a_testY a_triggerX a_triggerY a_ends a_notes a_oldUsed a_oldRoots a_oldAsked a_oldStands a_oldTestX a_oldTestY a_oldTriggerX a_oldTriggerY a_oldEnds a_oldTrailed a_oldNoted a_met a_classOf a_finer a_image a_seen a_stack a_deep a_company a_greeted n (nI 1) (nI (i + 1)) := fun q => ih (i + 1) 1 (by omega) (by omega) (Or.inr rfl) (fun _ a la => by
          by_cases z : a = i
          · rw [z]; exact q
          · exact h1 rfl a (by omega)) fun z => absurd z (by decide)
        by_cases hu : uB used i
        · refine xw_us_t li hu (br_f (by decide) ?_)
          rw [cl_n (k := i), nA_e]
          refine ⟨in_n li, ?_⟩
          by_cases k0 : nI (kd i) = 0
          · refine br_t k0 (Exists.intro (m + 1) (xw_mat72 (y := y) li hc (fun j hj => vw_lt W (rc_U W (x := y) hy (hc.1.2.2.1 j hj)).1) ha hco (fun q => skip fun b b' q1 q2 q3 => ?_) (fun ⟨j, j', lj, lj', b1, b2, ne⟩ => ih (i + 1) 0 (by omega) (by omega) (Or.inl rfl) (fun z => absurd z (by decide)) fun _ => ⟨i, mt j, mt j', (hcm i _ li).1 b1, (hcm i _ li).1 b2, ?_, fun z => ne ((hc.2.2.2.2 j j' lj lj').2 z)⟩) (m + 1) 0 1 (-1) (by omega) (by omega) (fun _ u v hu => absurd hu (by omega)) (Or.inr rfl) (fun z => absurd z (by decide)) (Or.inl ⟨rfl, fun u hu => absurd hu (by omega)⟩)))
            · obtain ⟨j, lj, rfl⟩ := hc.1.2.2.2.2 b (mt_U W (x := x) (y := y) hx hy q1).2.2
              obtain ⟨j', lj', rfl⟩ := hc.1.2.2.2.2 b' (mt_U W (x := x) (y := y) hx hy q2).2.2
              exact (hc.2.2.2.2 j j' lj lj').1 (q j j' lj lj' ((hcm i _ li).2 q1) ((hcm i _ li).2 q2))
            · have := (mt_U W (x := x) (y := y) hx hy ((hcm i _ li).1 b1)).1.2
              have this : T i = i := this
              have kl := (D i hu (fo_topI F hu this)).1
              rw [xv_K, this]; exact nI_inj (b := 0) k0
          · refine br_f k0 (up1 (skip fun b b' q1 q2 q3 => ?_))
            have := (mt_U W (x := x) (y := y) hx hy q1).1.2
            have this : T i = i := this
            rw [xv_K, this] at q3
            exact absurd (by rw [q3]; rfl) k0
        · refine xw_us_f (fun z hz ez => ?_) (br_t rfl (up1 (skip fun b b' q1 q2 q3 => absurd (mt_U W (x := x) (y := y) hx hy q1).1.1 hu)))
          have : i = z := nI_inj ez
          rw [← this]; exact ts_nt hu
end
end
section
/-! matches: the reference; matches -/
theorem adB_id {f : Nat → Int64} {a b : Nat} (hb : b < 48) (h : bL (f a) b = true) : adB f a b = f := by
  funext q
  refine bL_ext fun y _ => ?_
  by_cases e : bL (f q) y = true
  · rw [e]; exact (adB_i hb q y).2 (Or.inl e)
  · rw [ts_nt e]
    refine ts_nt fun z => ?_
    rcases (adB_i hb q y).1 z with z | ⟨rfl, rfl⟩
    · exact e z
    · exact e h
def YMt (c : Vw) (id : Nat → Nat) (x y : Nat) (A : Nat → Int64) : Prop := (∀ u v, u < 48 → bL (A u) v = true → cU c u ∧ cU c v ∧ id u = u ∧ id v = v ∧ Mt c x y (cT c u) (cT c v)) ∧ bL (A (id x)) (id y) = true
theorem nb_01 {r : Nat} (h : r = 0 ∨ r = 1) : narrow .boolean (.int (nI r)) = .int (nI r) := by
  rcases h with rfl | rfl <;> rfl
theorem or_r2 {r r' : Nat} (h : r = 0 ∨ r = 1) (h' : r' = 0 ∨ r' = 1) : nI r ||| nI r' = nI (if r = 1 then 1 else r') := by
  rcases h with rfl | rfl <;> rcases h' with rfl | rfl <;> decide
section
variable {f_trials : Int32} {f_drafted : Int32} {f_found : Int32} {a_s : Nat → Int32} {a_saved : Nat → Int32} {a_draft : Nat → Int32} {a_who : Nat → Int32} {a_met : Nat → Int32} {a_stack : Nat → Int32} {a_fresh : Nat → Int32} {a_deep : Nat → Int32} {a_alike : Nat → Int64} {a_meets : Nat → Int64}
variable {c : Vw} {id : Nat → Nat} {x y : Nat}
theorem yr_ii (W : VW c) (hY : YR c id a_s) {u : Nat} (hu : cU c u) : id (id u) = id u := (hY.2.2.2.1 _ _ (hY.2.2.1 u hu).2.2.1 hu).2 (hY.2.2.1 u hu).2.2.2
theorem yw_mp5 {post : Int32 → SY → Prop} (W : VW c) (hY : YR c id a_s) {u v a b M : Nat} (hu : cU c u) (hv : cU c v) (hm : Mt c x y (cT c u) (cT c v)) (hS : Same c u v) (la : a < 48) (lb : b < 48) (eM : a_s (192 + a) = nI M) (e2 : M = cM c u) {qa qb : Nat → Nat} (hqa : ∀ k, k < M → a_s (240 + 3 * a + k) = nI (qa k) ∧ cU c (qa k) ∧ cT c (qa k) = cT c (cP c u k)) (hqb : ∀ k, k < M → a_s (240 + 3 * b + k) = nI (qb k) ∧ cU c (qb k) ∧ cT c (qb k) = cT c (cP c v k)) {m0 : Nat → Int64} (H : ∀ r a_meets, (r = 0 ∨ r = 1) → YMt c id x y a_meets → Rsub m0 a_meets → (r = 1 → mA m0 < mA a_meets) → (r = 0 → a_meets = m0 ∧ ∀ j, j < M → bL (m0 (id (qa j))) (id (qb j)) = true) → post (nI r) (f_trials, f_drafted, f_found, a_s, a_saved, a_draft, a_who, a_met, a_stack, a_fresh, a_deep, a_alike, a_meets)) : ∀ n k r a_meets, k ≤ M → M - k < n → (r = 0 ∨ r = 1) → YMt c id x y a_meets → Rsub m0 a_meets → (r = 1 → mA m0 < mA a_meets) → (r = 0 → a_meets = m0 ∧ ∀ j, j < k → bL (m0 (id (qa j))) (id (qb j)) = true) → wY_meetParts_5 post (nI a) (nI b) f_trials f_drafted f_found n (nI r) (nI k) a_s a_saved a_draft a_who a_met a_stack a_fresh a_deep a_alike a_meets := by
  have uT := vw_T W hu
  have vT := vw_T W hv
  have eu := vw_TT W hu
  have ev := vw_TT W hv
  have m3 := vw_M W hu
  intro n
  induction n with
  | zero => intro k _ _ _ h; omega
  | succ n ih =>
    intro k r a_meets hk hn hr hI hs h1 h0
    unfold wY_meetParts_5
    rw [aL_192, cl_n (k := 192 + a), eM]
    refine ⟨in_n (by omega), ?_⟩
    by_cases e : k = M
    · subst e
      exact wh_t (a := k) (b := k) (by omega) ⟨nb_01 hr, H r a_meets hr hI hs h1 h0⟩
    · have lk : k < M := by omega
      obtain ⟨a1, a2, a3⟩ := hqa k lk
      obtain ⟨b1, b2, b3⟩ := hqb k lk
      have lqa := vw_lt W a2
      have lqb := vw_lt W b2
      have ia := hY.1 _ lqa
      have ib := hY.1 _ lqb
      have ja := hY.2.2.1 _ a2
      have jb := hY.2.2.1 _ b2
      refine wh_f (a := M) (b := k) (by omega) ?_
      rw [aP, aP, cl_n (k := 240 + 3 * a + k), cl_n (k := 240 + 3 * b + k), a1, b1, aL_0, aL_0, cl_n (k := qa k), cl_n (k := qb k), ia.1, ib.1]
      refine ⟨in_n (by omega), in_n (by omega), nm_e ⟨in_n (by omega), in_n (by omega), nm_e ?_⟩⟩
      rw [cl_n (k := id (qa k))]
      refine ⟨in_n ia.2, ?_⟩
      have hm' : Mt c x y (cT c (id (qa k))) (cT c (id (qb k))) := by
        have := mt_s hm (same_t (same_T W uT hu eu) (same_t hS (same_s (same_T W vT hv ev)))) (k := k) (by rw [vw_eM W uT hu eu, ← e2]; exact lk)
        rw [vw_eP W uT hu eu, vw_eP W vT hv ev] at this
        rw [ja.2.2.2, jb.2.2.2, a3, b3]
        exact this
      have hI' : YMt c id x y (adB a_meets (id (qa k)) (id (qb k))) := by
        refine ⟨fun w z hw q => ?_, (adB_i ib.2 _ _).2 (Or.inl hI.2)⟩
        rcases (adB_i ib.2 _ _).1 q with q | ⟨rfl, rfl⟩
        · exact hI.1 w z hw q
        · exact ⟨ja.2.2.1, jb.2.2.1, yr_ii W hY a2, yr_ii W hY b2, hm'⟩
      have hs' : Rsub m0 (adB a_meets (id (qa k)) (id (qb k))) := fun w z q => (adB_i ib.2 _ _).2 (Or.inl (hs w z q))
      have hss : Rsub a_meets (adB a_meets (id (qa k)) (id (qb k))) := fun w z q => (adB_i ib.2 _ _).2 (Or.inl q)
      by_cases hb : bL (a_meets (id (qa k))) (id (qb k)) = true
      · refine br_f (bt_n0 (by omega) hb) ?_
        unfold wY_meetParts_91
        rw [cl_n (k := id (qa k))]
        refine nmr (nI r) (by rcases hr with rfl | rfl <;> decide) ⟨in_n ia.2, in_n ia.2, nmr a_meets (adB_id ib.2 hb) (up1 (ih (k + 1) r a_meets (by omega) (by omega) hr hI hs h1 fun z => ⟨(h0 z).1, fun j hj => ?_⟩))⟩
        by_cases q : j = k
        · rw [q, ← (h0 z).1]; exact hb
        · exact (h0 z).2 j (by omega)
      · refine br_t ((bt_0 _ (by omega)).2 (ts_nt hb)) ?_
        unfold wY_meetParts_91
        rw [cl_n (k := id (qa k))]
        have := mA_mono hs
        have := mA_lt hss ia.2 ib.2 hb ((adB_i ib.2 _ _).2 (Or.inr ⟨rfl, rfl⟩))
        refine nmr (nI 1) (by rcases hr with rfl | rfl <;> decide) ⟨in_n ia.2, in_n ia.2, nm_e (up1 (ih (k + 1) 1 _ (by omega) (by omega) (Or.inr rfl) hI' hs' (fun _ => ?_) fun z => absurd z (by decide)))⟩
        exact Nat.lt_of_le_of_lt ‹mA m0 ≤ mA a_meets› ‹_›
def Pp (c : Vw) (id : Nat → Nat) (A : Nat → Int64) (u v : Nat) : Prop := bL (A u) v = true → cK c u ≠ 0 → Same c u v ∧ ∀ j, j < cM c u → ∀ qa qb, cU c qa → cU c qb → cT c qa = cT c (cP c u j) → cT c qb = cT c (cP c v j) → bL (A (id qa)) (id qb) = true
theorem yw_ma63 {post : Int32 → SY → Prop} {J52 : Int32 → Int32 → Int32 → Int32 → (Nat → Int32) → (Nat → Int32) → (Nat → Int32) → (Nat → Int32) → (Nat → Int32) → (Nat → Int32) → (Nat → Int32) → (Nat → Int32) → (Nat → Int64) → (Nat → Int64) →  Prop} (W : VW c) (hY : YR c id a_s) (hw : Who c a_s a_who) {nb : Nat} (hnb : nb ≤ 48) {m0 : Nat → Int64} (HJ : ∀ r a_meets, (r = 0 ∨ r = 1) → YMt c id x y a_meets → mA m0 ≤ mA a_meets → (r = 1 → mA m0 < mA a_meets) → (r = 0 → ∀ u v, u < nb → v < nb → Pp c id a_meets u v) → J52 (nI r) f_trials f_drafted f_found a_s a_saved a_draft a_who a_met a_stack a_fresh a_deep a_alike a_meets) (H0 : ∀ a_meets, Bad1 c x y → post 0 (f_trials, f_drafted, f_found, a_s, a_saved, a_draft, a_who, a_met, a_stack, a_fresh, a_deep, a_alike, a_meets)) : ∀ n k r a_meets, k ≤ nb * nb → nb * nb - k < n → (r = 0 ∨ r = 1) → YMt c id x y a_meets → Rsub m0 a_meets → (r = 1 → mA m0 < mA a_meets) → (r = 0 → a_meets = m0 ∧ ∀ k', k' < k → Pp c id m0 (k' / nb) (k' % nb)) → wY_meetAll_63 post J52 (nI nb) n (nI r) (nI k) f_trials f_drafted f_found a_s a_saved a_draft a_who a_met a_stack a_fresh a_deep a_alike a_meets := by
  have hnn : nb * nb ≤ 2304 := Nat.mul_le_mul hnb hnb
  intro n
  induction n with
  | zero => intro k _ _ _ h; omega
  | succ n ih =>
    intro k r a_meets hk hn hr hI hs h1 h0
    refine And.intro (fun z => ?_) (fun z => ?_)
    · rw [pk_mul, nI_leI (by omega) (by omega)] at z
      have : k = nb * nb := by omega
      subst this
      refine HJ r a_meets hr hI (mA_mono hs) h1 fun e u v hu hv => ?_
      have := (h0 e).2 (u * nb + v) (by
        have : u * nb + nb ≤ nb * nb := by rw [← Nat.succ_mul]; exact Nat.mul_le_mul_right nb hu
        omega)
      rw [show u * nb + v = v + nb * u by rw [Nat.mul_comm]; omega, Nat.add_mul_div_left _ _ (by omega), Nat.add_mul_mod_self_left, Nat.div_eq_of_lt hv, Nat.mod_eq_of_lt hv, Nat.zero_add, ← (h0 e).1] at this
      exact this
    · rw [pk_mul, nI_leI (by omega) (by omega)] at z
      have hnb0 : 0 < nb := by
        cases nb with
        | zero => omega
        | succ m => omega
      have hk' : k < nb * nb := by omega
      have hu : k / nb < nb := Nat.div_lt_of_lt_mul hk'
      have hv : k % nb < nb := Nat.mod_lt _ hnb0
      have hne : ¬ nI nb = 0 := fun e => by have := nI_inj (b := 0) e; omega
      generalize eu : k / nb = u at hu
      generalize ev : k % nb = v at hv
      refine ⟨hne, nmr (nI u) (by rw [pk_div (by omega) hnb0 (by omega), eu]) ⟨hne, nmr (nI v) (by rw [pk_rem (by omega) hnb0 (by omega), ev]) ?_⟩⟩
      have lu : u < 48 := by omega
      have lv : v < 48 := by omega
      have next : (r = 0 → Pp c id m0 u v) → wY_meetAll_63 post J52 (nI nb) n (nI r) (nI (k + 1)) f_trials f_drafted f_found a_s a_saved a_draft a_who a_met a_stack a_fresh a_deep a_alike a_meets := by
        intro q
        refine ih (k + 1) r a_meets (by omega) (by omega) hr hI hs h1 fun e => ⟨(h0 e).1, fun k' hk' => ?_⟩
        by_cases z : k' = k
        · rw [z, eu, ev]; exact q e
        · exact (h0 e).2 k' (by omega)
      rw [cl_n (k := u), cl_n (k := v)]
      refine ⟨in_n lu, ?_⟩
      by_cases hb : bL (a_meets u) v = true
      · refine br_f (bt_n0 (by omega) hb) ⟨in_n lu, ?_⟩
        obtain ⟨uU, vU, iu, iv, hm⟩ := hI.1 u v lu hb
        by_cases ku : cK c u = 0
        · rw [hw.2.1 u uU ku]
          exact br_f (by decide) (up1 (next fun _ _ q => absurd ku q))
        · obtain ⟨a, ea, aU, aT, na⟩ := hw.1 u uU ku
          have la := vw_lt W aU
          have uTU := vw_T W uU
          have vTU := vw_T W vU
          have sU := same_T W uTU uU (vw_TT W uU)
          have sV := same_T W vTU vU (vw_TT W vU)
          have bad : ¬ Same c u v → Bad1 c x y := fun q => ⟨_, _, hm, by rw [sU.1]; exact ku, fun w => q (same_t (same_s sU) (same_t w sV))⟩
          rw [ea]
          refine br_t (nI_le (a := 0) (b := a) (by omega) (by omega)) ⟨in_n lv, ?_⟩
          by_cases kv : cK c v = 0
          · rw [hw.2.1 v vU kv]
            exact br_t m1_neg (H0 a_meets (bad fun q => ku (by rw [q.1]; exact kv)))
          · obtain ⟨b, eb, bU, bT, nb'⟩ := hw.1 v vU kv
            have lb := vw_lt W bU
            rw [eb]
            have Ta := hY.2.2.2.2.1 a aU na
            have Tb := hY.2.2.2.2.1 b bU nb'
            have hoth := oth_same W aU bU Ta Tb
            have sa := same_T W aU uU aT
            have sb := same_T W bU vU bT
            refine br_f (nI_nn (by omega)) ⟨in_n lu, in_n lv, yw_isOther la lb (fun ho => br_f (by decide) (H0 a_meets (bad fun q => (hoth.2 (same_t sa (same_t q (same_s sb)))) ho))) (fun ho => br_t rfl ⟨in_n lu, in_n lv, ?_⟩)⟩
            have hS : Same c u v := same_t (same_s sa) (same_t (hoth.1 ho) sb)
            obtain ⟨qa, hqa⟩ := tld_q Ta
            obtain ⟨qb, hqb⟩ := tld_q Tb
            rw [sa.2.2] at hqa
            rw [sb.2.2, ← hS.2.2] at hqb
            have eM := Ta.2.2.2.2.1
            rw [sa.2.2] at eM
            refine Exists.intro 4 (yw_mp5 (x := x) (y := y) (m0 := a_meets) (qa := qa) (qb := qb) W hY uU vU hm hS la lb eM rfl (fun k hk => ?_) (fun k hk => ?_) (fun r' a_meets' hr' hI' hs' h1' h0' => ?_) 4 0 0 a_meets (by omega) (by have := vw_M W uU; omega) (Or.inl rfl) hI (fun _ _ w => w) (fun q => absurd q (by decide)) fun _ => ⟨rfl, fun j hj => absurd hj (by omega)⟩)
            · have := hqa k hk
              rw [vw_eP W aU uU aT k] at this
              exact this
            · have := hqb k hk
              rw [vw_eP W bU vU bT k] at this
              exact this
            · have l1 := mA_mono hs
              have l2 := mA_mono hs'
              refine nmr _ (or_r2 hr hr') (up1 (ih (k + 1) _ a_meets' (by omega) (by omega) ?_ hI' (fun w z q => hs' w z (hs w z q)) (fun q => ?_) fun q => ?_))
              · by_cases z : r = 1
                · rw [if_pos z]; exact Or.inr rfl
                · rw [if_neg z]; exact hr'
              · by_cases z : r = 1
                · have := h1 z
                  omega
                · rw [if_neg z] at q
                  have := h1' q
                  omega
              · by_cases z : r = 1
                · rw [if_pos z] at q; exact absurd q (by decide)
                · rw [if_neg z] at q
                  have r0 : r = 0 := hr.elim (fun q => q) fun q => absurd q z
                  have e0 := (h0 r0).1
                  obtain ⟨g1, g2⟩ := h0' q
                  refine ⟨g1.trans e0, fun k' hk' => ?_⟩
                  by_cases z2 : k' = k
                  · rw [z2, eu, ev]
                    intro _ _
                    refine ⟨hS, fun j hj xa xb ha' hb' ta tb => ?_⟩
                    have := g2 j hj
                    have fa := hqa j hj
                    have fb := hqb j hj
                    rw [vw_eP W aU uU aT j] at fa
                    rw [vw_eP W bU vU bT j] at fb
                    rw [(hY.2.2.2.1 xa _ ha' fa.2.1).2 (by rw [ta, fa.2.2]), (hY.2.2.2.1 xb _ hb' fb.2.1).2 (by rw [tb, fb.2.2]), ← e0]
                    exact this
                  · exact (h0 r0).2 k' (by omega)
      · exact br_t ((bt_0 _ (by omega)).2 (ts_nt hb)) (up1 (next fun q w => absurd (by rw [(h0 q).1]; exact w) hb))
end
end
section
/-! matches: the reference's rounds; matches -/
section
variable {f_trials : Int32} {f_drafted : Int32} {f_found : Int32} {a_s : Nat → Int32} {a_saved : Nat → Int32} {a_draft : Nat → Int32} {a_who : Nat → Int32} {a_met : Nat → Int32} {a_stack : Nat → Int32} {a_fresh : Nat → Int32} {a_deep : Nat → Int32} {a_alike : Nat → Int64} {a_meets : Nat → Int64}
variable {c : Vw} {id : Nat → Nat} {x y : Nat}
def YMe (c : Vw) (id : Nat → Nat) (x y : Nat) (A : Nat → Int64) : Prop := ∀ u v, u < 48 → (bL (A u) v = true ↔ (cU c u ∧ cU c v ∧ id u = u ∧ id v = v ∧ Mt c x y (cT c u) (cT c v)))
theorem yw_ma52 {post : Int32 → SY → Prop} (W : VW c) (hY : YR c id a_s) (hw : Who c a_s a_who) (hx : cU c x) (hy : cU c y) {nb : Nat} (hnb : nb ≤ 48) (hb : ∀ x, cU c x → x < nb) (H1 : ∀ a_meets, YMe c id x y a_meets → ¬ Bad1 c x y → post 1 (f_trials, f_drafted, f_found, a_s, a_saved, a_draft, a_who, a_met, a_stack, a_fresh, a_deep, a_alike, a_meets)) (H0 : ∀ a_meets, Bad1 c x y → post 0 (f_trials, f_drafted, f_found, a_s, a_saved, a_draft, a_who, a_met, a_stack, a_fresh, a_deep, a_alike, a_meets)) : ∀ n r a_meets, (r = 0 ∨ r = 1) → YMt c id x y a_meets → 2304 - mA a_meets + r < n → (r = 0 → ∀ u v, u < nb → v < nb → Pp c id a_meets u v) → wY_meetAll_52 post (nI nb) n (nI r) f_trials f_drafted f_found a_s a_saved a_draft a_who a_met a_stack a_fresh a_deep a_alike a_meets := by
  intro n
  induction n with
  | zero => intro r _ _ _ h; omega
  | succ n ih =>
    intro r a_meets hr hI hn h0
    rcases hr with rfl | rfl
    · have hp := h0 rfl
      have key : ∀ a b, Mt c x y a b → cU c a ∧ cU c b ∧ bL (a_meets (id a)) (id b) = true := by
        intro a b hm
        refine hm (fun a b => cU c a ∧ cU c b ∧ bL (a_meets (id a)) (id b) = true) ⟨vw_T W hx, vw_T W hy, ?_⟩ fun a b ⟨aU, bU, q⟩ hs k hk => ?_
        · rw [(hY.2.2.2.1 _ _ (vw_T W hx) hx).2 (vw_TT W hx), (hY.2.2.2.1 _ _ (vw_T W hy) hy).2 (vw_TT W hy)]
          exact hI.2
        · have ia := hY.2.2.1 a aU
          have ib := hY.2.2.1 b bU
          have hk' : k < cM c b := by rw [← hs.2.2]; exact hk
          have eM := vw_eM W ia.2.2.1 aU ia.2.2.2
          have k2 := vw_k2 W aU hk
          have g := (hp _ _ (hb _ ia.2.2.1) (hb _ ib.2.2.1) q (by rw [vw_eK W ia.2.2.1 aU ia.2.2.2]; omega)).2 k (by rw [eM]; exact hk) (cT c (cP c a k)) (cT c (cP c b k)) (vw_T W (vw_P W aU hk)) (vw_T W (vw_P W bU hk')) (by rw [vw_TT W (vw_P W aU hk), vw_eP W ia.2.2.1 aU ia.2.2.2]) (by rw [vw_TT W (vw_P W bU hk'), vw_eP W ib.2.2.1 bU ib.2.2.2])
          exact ⟨vw_T W (vw_P W aU hk), vw_T W (vw_P W bU hk'), g⟩
      refine br_t rfl (H1 a_meets (fun u v lu => ⟨hI.1 u v lu, fun ⟨uU, vU, iu, iv, hm⟩ => ?_⟩) fun ⟨a, b, hm, hk, hs⟩ => ?_)
      · have := (key _ _ hm).2.2
        rw [(hY.2.2.2.1 _ _ (vw_T W uU) uU).2 (vw_TT W uU), (hY.2.2.2.1 _ _ (vw_T W vU) vU).2 (vw_TT W vU), iu, iv] at this
        exact this
      · obtain ⟨aU, bU, q⟩ := key a b hm
        have ia := hY.2.2.1 a aU
        have ib := hY.2.2.1 b bU
        have sa := same_T W ia.2.2.1 aU ia.2.2.2
        have sb := same_T W ib.2.2.1 bU ib.2.2.2
        have g := (hp _ _ (hb _ ia.2.2.1) (hb _ ib.2.2.1) q (by rw [sa.1]; exact hk)).1
        exact hs (same_t (same_s sa) (same_t g sb))
    · refine br_f (by decide) (Exists.intro (nb * nb + 1) (yw_ma63 (x := x) (y := y) (m0 := a_meets) W hY hw hnb (fun r a_meets' hr' hI' hle h1 h0' => ih r a_meets' hr' hI' ?_ h0') H0 _ 0 0 a_meets (by omega) (by omega) (Or.inl rfl) hI (fun _ _ w => w) (fun z => absurd z (by decide)) fun _ => ⟨rfl, fun k' hk' => absurd hk' (by omega)⟩))
      have := mA_le a_meets'
      rcases hr' with rfl | rfl
      · omega
      · have := h1 rfl
        omega
theorem yw_ma2 {post : Int32 → SY → Prop} (W : VW c) (hY : YR c id a_s) (hw : Who c a_s a_who) (hx : cU c x) (hy : cU c y) (H1 : ∀ a_meets, YMe c id x y a_meets → ¬ Bad1 c x y → post 1 (f_trials, f_drafted, f_found, a_s, a_saved, a_draft, a_who, a_met, a_stack, a_fresh, a_deep, a_alike, a_meets)) (H0 : ∀ a_meets, Bad1 c x y → post 0 (f_trials, f_drafted, f_found, a_s, a_saved, a_draft, a_who, a_met, a_stack, a_fresh, a_deep, a_alike, a_meets)) : ∀ n i a_meets, i ≤ 48 → 48 - i < n → (∀ j, j < i → a_meets j = 0) → wY_meetAll_2 post (nI x) (nI y) f_trials f_drafted f_found n (nI i) a_s a_saved a_draft a_who a_met a_stack a_fresh a_deep a_alike a_meets := by
  have lx := vw_lt W hx
  have ly := vw_lt W hy
  have ix := hY.1 x lx
  have iy := hY.1 y ly
  have jx := hY.2.2.1 x hx
  have jy := hY.2.2.1 y hy
  intro n
  induction n with
  | zero => intro i _ _ h; omega
  | succ n ih =>
    intro i a_meets hi hn h
    by_cases e : i = 48
    · subst e
      refine wh_t (a := 48) (b := 48) (by omega) ?_
      rw [aL_0, aL_0, cl_n (k := x), cl_n (k := y), ix.1, iy.1, cl_n (k := id x)]
      refine ⟨in_n (by omega), in_n (by omega), in_n ix.2, nm_e (yw_bound fun nb hnb hz => Exists.intro 2306 (yw_ma52 (x := x) (y := y) W hY hw hx hy hnb (yb_lt W hY hz) H1 H0 2306 1 _ (Or.inr rfl) ⟨fun u v lu q => ?_, ?_⟩ (by omega) fun z => absurd z (by decide)))⟩
      · by_cases z : u = id x
        · rw [z, pk_uLs, bL_one (by omega), decide_eq_true_eq] at q
          rw [z, ← q]
          refine ⟨jx.2.2.1, jy.2.2.1, yr_ii W hY hx, yr_ii W hY hy, ?_⟩
          rw [jx.2.2.2, jy.2.2.2]
          exact mt_0 c x y
        · rw [pk_uLn z, h u lu, bL_0] at q
          exact absurd q (by decide)
      · rw [pk_uLs, bL_one (by omega), decide_eq_true_eq]
    · refine wh_f (a := 48) (b := i) (by omega) ?_
      rw [cl_n (k := i)]
      refine ⟨in_n (by omega), nm_e (up1 (ih (i + 1) _ (by omega) (by omega) fun j hj => ?_))⟩
      by_cases z : j = i
      · rw [z, pk_uLs]
      · rw [pk_uLn z]; exact h j (by omega)
theorem yw_mat32 {post : Int32 → SY → Prop} (W : VW c) (hY : YR c id a_s) (hw : Who c a_s a_who) (hA : AlOK c a_alike) (hx : cU c x) (hy : cU c y) (hm : YMe c id x y a_meets) (H2 : Bad2 c x y → post 2 (f_trials, f_drafted, f_found, a_s, a_saved, a_draft, a_who, a_met, a_stack, a_fresh, a_deep, a_alike, a_meets)) (H1 : ¬ Bad2 c x y → post 1 (f_trials, f_drafted, f_found, a_s, a_saved, a_draft, a_who, a_met, a_stack, a_fresh, a_deep, a_alike, a_meets)) : ∀ n k g, k ≤ 2304 → 2304 - k < n → (g = 0 ∨ g = 1) → (g = 0 → Bad2 c x y) → (g = 1 → ∀ k', k' < k → bL (a_meets (k' / 48)) (k' % 48) = true → cK c (k' / 48) = 0 → ∀ b, bL (a_meets (k' / 48)) b = true → Alike c (k' % 48) b) → wY_matches_32 post f_trials f_drafted f_found a_s a_saved a_draft a_who a_met a_stack a_fresh a_deep a_alike a_meets n (nI g) (nI k) := by
  intro n
  induction n with
  | zero => intro k _ _ h; omega
  | succ n ih =>
    intro k g hk hn hg h0 h1
    rcases hg with rfl | rfl
    · have fin : wY_matches_121 post (nI 0) f_trials f_drafted f_found a_s a_saved a_draft a_who a_met a_stack a_fresh a_deep a_alike a_meets := br_t rfl (H2 (h0 rfl))
      exact br_c (fun _ => fin) fun _ => br_t rfl fin
    · by_cases e : k = 2304
      · subst e
        refine wh_t (a := 2304) (b := 2304) (by omega) (br_f (by decide) (H1 fun ⟨a, b, b', q1, q2, q3, q4⟩ => q4 ?_))
        obtain ⟨⟨aU, aT⟩, ⟨bU, bT⟩, _⟩ := mt_U W hx hy q1
        obtain ⟨_, ⟨bU', bT'⟩, _⟩ := mt_U W hx hy q2
        have ia := hY.2.2.1 a aU
        have ib := hY.2.2.1 b bU
        have ib' := hY.2.2.1 b' bU'
        have la := vw_lt W ia.2.2.1
        have lb := vw_lt W ib.2.2.1
        have f1 := (hm (id a) (id b) la).2 ⟨ia.2.2.1, ib.2.2.1, yr_ii W hY aU, yr_ii W hY bU, by rw [ia.2.2.2, ib.2.2.2, aT, bT]; exact q1⟩
        have f2 := (hm (id a) (id b') la).2 ⟨ia.2.2.1, ib'.2.2.1, yr_ii W hY aU, yr_ii W hY bU', by rw [ia.2.2.2, ib'.2.2.2, aT, bT']; exact q2⟩
        have := h1 rfl (id b + 48 * id a) (by omega)
        rw [Nat.add_mul_div_left _ _ (by decide), Nat.add_mul_mod_self_left, Nat.div_eq_of_lt lb, Nat.mod_eq_of_lt lb, Nat.zero_add] at this
        have g := this f1 (by rw [vw_eK W ia.2.2.1 aU ia.2.2.2]; exact q3) _ f2
        exact al_l W bU ib.2.2.2.symm (al_rr W bU' ib'.2.2.2 g)
      · have e1 : nI k / 48 = nI (k / 48) := pk_div (d := 48) (by omega) (by decide) (by decide)
        have e2 : nI k - nI k / 48 * 48 = nI (k % 48) := pk_rem (d := 48) (by omega) (by decide) (by decide)
        have lu : k / 48 < 48 := by omega
        have lv : k % 48 < 48 := by omega
        have n48 : ¬ (48 : Int32) = 0 := by decide
        refine wh_f (a := 2304) (b := k) (by omega) (br_f (by decide) ?_)
        refine ⟨n48, nmr _ e1 ⟨n48, nmr _ e2 ?_⟩⟩
        rw [cl_n (k := k / 48), cl_n (k := k % 48)]
        have skip : (bL (a_meets (k / 48)) (k % 48) = true → cK c (k / 48) = 0 → ∀ b, bL (a_meets (k / 48)) b = true → Alike c (k % 48) b) → wY_matches_32 post f_trials f_drafted f_found a_s a_saved a_draft a_who a_met a_stack a_fresh a_deep a_alike a_meets n (nI 1) (nI (k + 1)) := fun q => ih (k + 1) 1 (by omega) (by omega) (Or.inr rfl) (fun z => absurd z (by decide)) fun _ k' hk' => by
          by_cases z : k' = k
          · rw [z]; exact q
          · exact h1 rfl k' (by omega)
        refine ⟨in_n lu, ?_⟩
        by_cases hb : bL (a_meets (k / 48)) (k % 48) = true
        · obtain ⟨uU, vU, iu, iv, hmt⟩ := (hm _ _ lu).1 hb
          by_cases ku : cK c (k / 48) = 0
          · rw [hw.2.1 _ uU ku]
            refine br_f (by decide) ⟨in_n lu, br_t ((bt_1 _ (by omega)).2 hb) ⟨in_n lu, in_n lv, br_c (fun z => up1 (skip fun _ _ b q => ?_)) fun z => up1 (ih (k + 1) 0 (by omega) (by omega) (Or.inl rfl) (fun _ => ?_) fun q => absurd q (by decide))⟩⟩
            · obtain ⟨_, bU, _⟩ := (hm _ _ lu).1 q
              exact (hA _ _ vU bU).1 (an_not z q)
            · obtain ⟨b, hbl⟩ := low_ex z
              have q := an_not2.1 hbl.2.1
              obtain ⟨_, bU, _, _, hmb⟩ := (hm _ _ lu).1 q.1
              refine ⟨_, _, _, hmt, hmb, by rw [vw_eK W (vw_T W uU) uU (vw_TT W uU)]; exact ku, fun w => q.2 ((hA _ _ vU bU).2 ?_)⟩
              exact al_l W vU (vw_TT W vU).symm (al_rr W bU (vw_TT W bU) w)
          · obtain ⟨a, ea, aU, aT, na⟩ := hw.1 _ uU ku
            have la := vw_lt W aU
            rw [ea]
            exact br_t (nI_le (a := 0) (b := a) (by omega) (by omega)) (up1 (skip fun _ q => absurd q ku))
        · exact br_c (fun _ => up1 (skip fun q => absurd q hb)) fun _ => ⟨in_n lu, br_f (bt_n1 (by omega) (ts_nt hb)) (up1 (skip fun q => absurd q hb))⟩
theorem yw_matches {post : Int32 → SY → Prop} (W : VW c) (hY : YR c id a_s) (hx : cU c x) (hy : cU c y) (H2 : ∀ a_who a_alike a_meets, Bad1 c x y ∨ Bad2 c x y → post 2 (f_trials, f_drafted, f_found, a_s, a_saved, a_draft, a_who, a_met, a_stack, a_fresh, a_deep, a_alike, a_meets)) (H1 : ∀ a_who a_alike a_meets, ¬ Bad1 c x y → ¬ Bad2 c x y → post 1 (f_trials, f_drafted, f_found, a_s, a_saved, a_draft, a_who, a_met, a_stack, a_fresh, a_deep, a_alike, a_meets)) : wpY_relate (fun u => match u with
  | (f_trials, f_drafted, f_found, a_s, a_saved, a_draft, a_who, a_met, a_stack, a_fresh, a_deep, a_alike, a_meets) => wpY_meetAll (fun r u => match u with
    | (f_trials, f_drafted, f_found, a_s, a_saved, a_draft, a_who, a_met, a_stack, a_fresh, a_deep, a_alike, a_meets) => ∃ n32 : Nat, wY_matches_32 post f_trials f_drafted f_found a_s a_saved a_draft a_who a_met a_stack a_fresh a_deep a_alike a_meets n32 r 0) (f_trials, f_drafted, f_found, a_s, a_saved, a_draft, a_who, a_met, a_stack, a_fresh, a_deep, a_alike, a_meets) (nI x) (nI y)) (f_trials, f_drafted, f_found, a_s, a_saved, a_draft, a_who, a_met, a_stack, a_fresh, a_deep, a_alike, a_meets) := by
  refine yw_relate W hY fun w A hw hA => Exists.intro 49 (yw_ma2 (x := x) (y := y) W hY hw hx hy (fun a_meets hm n1 => Exists.intro 2305 ?_) (fun a_meets b1 => Exists.intro 1 ?_) 49 0 a_meets (by omega) (by omega) fun j hj => absurd hj (by omega))
  · exact yw_mat32 W hY hw hA hx hy hm (fun b2 => H2 w A a_meets (Or.inr b2)) (fun n2 => H1 w A a_meets n1 n2) 2305 0 1 (by omega) (by omega) (Or.inr rfl) (fun z => absurd z (by decide)) fun _ k' hk' => absurd hk' (by omega)
  · exact wh_f (a := 2304) (b := 0) (by omega) (br_t rfl (br_t rfl (H2 w A a_meets (Or.inl b1))))
end
theorem i_vc_matches {k : Nat} {u : SX} {v : SY} (I : i_Rel k u v) (hk : k + 4 ≤ 2048) (v1 : Int32) (v2 : Int32) : wpX_matches (fun r u' => wpY_matches (fun r' v' => r' = r ∧ i_Rel (k + 4) u' v') v v1 v2) u v1 v2 := by
  refine rel_el (P := fun u v => wpX_matches (fun r u' => wpY_matches (fun r' v' => r' = r ∧ i_Rel (k + 4) u' v') v v1 v2) u v1 v2) ?_ I
  intro f_bound f_mets f_classes a_value a_left a_right a_draft a_oldUsed a_oldRoots a_oldAsked a_oldStands a_oldTestX a_oldTestY a_oldTriggerX a_oldTriggerY a_oldEnds a_oldTrailed a_oldNoted a_met a_classOf a_finer a_image a_seen a_stack a_deep a_company a_greeted used roots asked p kd mn pt tr tn sd tx ty gx gy en N nt L dn dr yf3 s sv y1 w y2 y3 y4 y5 A y6 hM ⟨h1, h2, h3, h4, h5⟩
  have I' : i_Rel (k + 4) (used, roots, asked, nI tn, f_bound, 0, nI dn, nI N, nI L, f_mets, f_classes, nA p, nA kd, nA mn, nA pt, a_value, nA tr, a_left, a_right, a_draft, sd, tx, ty, gx, gy, en, nt, a_oldUsed, a_oldRoots, a_oldAsked, a_oldStands, a_oldTestX, a_oldTestY, a_oldTriggerX, a_oldTriggerY, a_oldEnds, a_oldTrailed, a_oldNoted, a_met, a_classOf, a_finer, a_image, a_seen, a_stack, a_deep, a_company, a_greeted) (nI L, nI dn, yf3, s, sv, y1, w, y2, y3, y4, y5, A, y6) := rel_mk hM ⟨h1, h2, by omega, h4, h5⟩
  unfold wpX_matches
  rcases us_or (uB used) v1 with ⟨x, lx, hx, rfl⟩ | hx
  · rcases us_or (uB used) v2 with ⟨y, ly, hy, rfl⟩ | hy
    · refine xu_t hM hx (br_f (by decide) (xu_t hM hy (br_f (by decide) ?_)))
      have hM' := hM
      obtain ⟨⟨⟨T, rk, id, F, D, Y⟩, m1, m2, m3, m4, m5⟩, hT, hL⟩ := hM'
      have W : VW (xv (uB used) T kd mn pt a_value) := xv_W F D
      refine Exists.intro 49 (xw_pty2 (x := x) (y := y) F D hx hy (fun a_company a_greeted hcm n1 => ?_) (fun a_company a_greeted b1 => ?_) 49 0 a_company a_greeted (by omega) (by omega) fun j hj => absurd hj (by omega))
      · refine xw_classify F D hy fun m mt nc co a_met a_seen a_stack a_classOf a_finer hc ha hco => Exists.intro 49 (xw_mat33 (x := x) (y := y) F D hx hy hc ha hco hcm (fun b2 => ?_) (fun n2 => ?_) 49 0 1 (by omega) (by omega) (Or.inr rfl) (fun _ a la => absurd la (by omega)) fun z => absurd z (by decide))
        · unfold wpY_matches
          exact yu_t hM hx (br_f (by decide) (yu_t hM hy (br_f (by decide) (yw_matches (x := x) (y := y) W Y hx hy (fun w A y6 _ => ⟨rfl, rel_mk hM ⟨h1, h2, by omega, h4, h5⟩⟩) fun w A y6 _ n2 => absurd b2 n2))))
        · unfold wpY_matches
          exact yu_t hM hx (br_f (by decide) (yu_t hM hy (br_f (by decide) (yw_matches (x := x) (y := y) W Y hx hy (fun w A y6 q => q.elim (fun q => absurd q n1) fun q => absurd q n2) fun w A y6 _ _ => ⟨rfl, rel_mk hM ⟨h1, h2, by omega, h4, h5⟩⟩))))
      · refine xw_classify F D hy fun m mt nc co a_met a_seen a_stack a_classOf a_finer hc ha hco => Exists.intro 1 (wh_f (a := 48) (b := 0) (by omega) (br_t rfl (br_t rfl ?_)))
        unfold wpY_matches
        exact yu_t hM hx (br_f (by decide) (yu_t hM hy (br_f (by decide) (yw_matches (x := x) (y := y) W Y hx hy (fun w A y6 _ => ⟨rfl, rel_mk hM ⟨h1, h2, by omega, h4, h5⟩⟩) fun w A y6 n1 _ => absurd b1 n1))))
    · unfold wpY_matches
      exact xu_t hM hx (br_f (by decide) (xu_f hy (br_t rfl (yu_t hM hx (br_f (by decide) (yu_f hM hy (br_t rfl ⟨rfl, I'⟩)))))))
  · unfold wpY_matches
    exact xu_f hx (br_t rfl (yu_f hM hx (br_t rfl ⟨rfl, I'⟩)))
end
section
/-! copy: what it makes -/
def Zm (n : Nat) (z : Nat → Nat) (x : Nat) : Prop := ∃ i, i < n ∧ x = z i
def CpX (n : Nat) (z t : Nat → Nat) (ix : Nat → Nat → Nat) (U U' : Nat → Prop) (p kd mn pt p' kd' mn' pt' : Nat → Nat) (val val' : Nat → Int32) : Prop :=
  (∀ x, U' x ↔ (U x ∨ Zm n z x)) ∧
  (∀ x, U x → p' x = p x ∧ kd' x = kd x ∧ mn' x = mn x ∧ val' x = val x ∧ ∀ k, k < 3 → pt' (3 * x + k) = pt (3 * x + k)) ∧
  (∀ i, i < n → p' (z i) = z i ∧ kd' (z i) = kd (t i) ∧ (kd (t i) ≠ 0 → val' (z i) = val (t i)) ∧ (kd (t i) = 2 → mn' (z i) = mn (t i) ∧ ∀ k, k < mn (t i) → pt' (3 * z i + k) = z (ix i k)))
def CpY (n : Nat) (z t wh : Nat → Nat) (ix : Nat → Nat → Nat) (kd mn : Nat → Nat) (s s' : Nat → Int32) : Prop :=
  (∀ i, i < n → s' (z i) = nI (z i) ∧ s' (384 + z i) = 1 ∧ s' (432 + z i) = 0 ∧ s' (480 + z i) = 0 ∧ (kd (t i) = 0 → s' (48 + z i) = 0) ∧ (kd (t i) ≠ 0 → s' (48 + z i) = s (48 + wh i) ∧ s' (96 + z i) = s (96 + wh i) ∧ s' (144 + z i) = s (144 + wh i) ∧ s' (192 + z i) = s (192 + wh i)) ∧ (kd (t i) = 2 → ∀ k, k < mn (t i) → s' (240 + 3 * z i + k) = nI (z (ix i k)))) ∧
  (∀ v, v < 48 → ¬ Zm n z v → s' v = s v ∧ s' (48 + v) = s (48 + v) ∧ s' (96 + v) = s (96 + v) ∧ s' (144 + v) = s (144 + v) ∧ s' (192 + v) = s (192 + v) ∧ s' (384 + v) = s (384 + v) ∧ s' (432 + v) = s (432 + v) ∧ s' (480 + v) = s (480 + v) ∧ ∀ k, k < 3 → s' (240 + 3 * v + k) = s (240 + 3 * v + k)) ∧
  ∀ j, 528 ≤ j → s' j = s j
theorem copy_yr {U U' : Nat → Prop} {p T rk kd mn pt p' kd' mn' pt' id z t wh : Nat → Nat} {ix : Nat → Nat → Nat} {n : Nat} {val val' s s' : Nat → Int32} (F : Fo U p T rk) (D : XD U p kd mn pt) (Y : YR (xv U T kd mn pt val) id s) (hz : ∀ i, i < n → z i < 48 ∧ ¬ U (z i)) (hzi : ∀ i j, i < n → j < n → z i = z j → i = j) (ht : ∀ i, i < n → U (t i) ∧ T (t i) = t i) (hwh : ∀ i, i < n → kd (t i) ≠ 0 → U (wh i) ∧ T (wh i) = t i ∧ ¬ s (48 + wh i) = 0) (hix : ∀ i, i < n → kd (t i) = 2 → ∀ k, k < mn (t i) → ix i k < n) (hX : CpX n z t ix U U' p kd mn pt p' kd' mn' pt' val val') (hC : CpY n z t wh ix kd mn s s') : ∃ T' id', Fo U' p' T' rk ∧ XD U' p' kd' mn' pt' ∧ YR (xv U' T' kd' mn' pt' val') id' s' := by
  have W : VW (xv U T kd mn pt val) := xv_W F D
  obtain ⟨x1, x2, x3⟩ := hX
  obtain ⟨c1, c2, c3⟩ := hC
  have nz : ∀ x, U x → ¬ Zm n z x := fun x hx ⟨i, hi, e⟩ => (hz i hi).2 (by rw [← e]; exact hx)
  obtain ⟨T', t1, t0⟩ : ∃ f : Nat → Nat, (∀ i, i < n → f (z i) = z i) ∧ ∀ x, ¬ Zm n z x → f x = T x := ⟨fun x => @ite Nat (Zm n z x) (Classical.propDecidable _) x (T x), fun i h => if_pos ⟨i, h, rfl⟩, fun x h => if_neg h⟩
  obtain ⟨id', i1, i0⟩ : ∃ f : Nat → Nat, (∀ i, i < n → f (z i) = z i) ∧ ∀ x, ¬ Zm n z x → f x = id x := ⟨fun x => @ite Nat (Zm n z x) (Classical.propDecidable _) x (id x), fun i h => if_pos ⟨i, h, rfl⟩, fun x h => if_neg h⟩
  have tU : ∀ x, U x → T' x = T x := fun x h => t0 x (nz x h)
  have iU : ∀ x, U x → id' x = id x := fun x h => i0 x (nz x h)
  have up : ∀ x, U x → U' x := fun x h => (x1 x).2 (Or.inl h)
  have uz : ∀ i, i < n → U' (z i) := fun i h => (x1 _).2 (Or.inr ⟨i, h, rfl⟩)
  have kU : ∀ x, U x → cK (xv U' T' kd' mn' pt' val') x = cK (xv U T kd mn pt val) x := fun x h => by rw [xv_K, xv_K, tU x h, (x2 _ (fo_T F h)).2.1]
  have vU : ∀ x, U x → cV (xv U' T' kd' mn' pt' val') x = cV (xv U T kd mn pt val) x := fun x h => by rw [xv_V, xv_V, tU x h, (x2 _ (fo_T F h)).2.2.2.1]
  have mU : ∀ x, U x → cM (xv U' T' kd' mn' pt' val') x = cM (xv U T kd mn pt val) x := fun x h => by rw [xv_M, xv_M, tU x h, (x2 _ (fo_T F h)).2.1, (x2 _ (fo_T F h)).2.2.1]
  have pU : ∀ x k, U x → k < 3 → cP (xv U' T' kd' mn' pt' val') x k = cP (xv U T kd mn pt val) x k := fun x k h hk => by rw [xv_P, xv_P, tU x h, (x2 _ (fo_T F h)).2.2.2.2 k hk]
  refine ⟨T', id', fun x hx => ?_, fun x hx e => ?_, fun x hx => ?_, fun x hx hn => ?_, fun x hx => ?_, fun x y hx hy => ?_, fun x hx hn => ?_, fun x hx hk => ?_⟩
  · rcases (x1 x).1 hx with h | ⟨i, hi, rfl⟩
    · have f := F x h
      rw [(x2 x h).1, tU x h, tU _ f.2.1, (x2 _ f.2.2.1).1]
      exact ⟨f.1, up _ f.2.1, up _ f.2.2.1, f.2.2.2⟩
    · rw [(x3 i hi).1, t1 i hi, (x3 i hi).1]
      exact ⟨(hz i hi).1, uz i hi, uz i hi, rfl, rfl, fun _ => rfl, fun q => absurd rfl q⟩
  · rcases (x1 x).1 hx with h | ⟨i, hi, rfl⟩
    · have g := x2 x h
      rw [g.1] at e
      have d := D x h e
      rw [g.2.1, g.2.2.1]
      refine ⟨d.1, fun q => ⟨(d.2 q).1, fun k hk => ?_⟩⟩
      have := (d.2 q).1
      rw [g.2.2.2.2 k (by omega)]
      exact up _ ((d.2 q).2 k hk)
    · have g := x3 i hi
      have d := D (t i) (ht i hi).1 (fo_topI F (ht i hi).1 (ht i hi).2)
      rw [g.2.1]
      refine ⟨d.1, fun q => ?_⟩
      rw [(g.2.2.2 q).1]
      exact ⟨(d.2 q).1, fun k hk => by rw [(g.2.2.2 q).2 k hk]; exact uz _ (hix i hi q k hk)⟩
  · by_cases h : Zm n z x
    · obtain ⟨i, hi, rfl⟩ := h
      rw [i1 i hi]
      exact ⟨(c1 i hi).1, hx⟩
    · rw [i0 x h, (c2 x hx h).1]
      exact Y.1 x hx
  · have h : ¬ Zm n z x := fun q => hn ((x1 x).2 (Or.inr q))
    have hu : ¬ U x := fun q => hn (up x q)
    have g := c2 x hx h
    rw [i0 x h, g.2.1, g.2.2.2.2.2.1]
    exact Y.2.1 x hx hu
  · rcases (x1 x).1 hx with h | ⟨i, hi, rfl⟩
    · have g := Y.2.2.1 x h
      rw [iU x h, (c2 x (fo_lt F h) (nz x h)).2.2.2.2.2.1]
      refine ⟨g.1, g.2.1, up _ g.2.2.1, ?_⟩
      show T' (id x) = T' x
      rw [tU _ g.2.2.1, tU x h]
      exact g.2.2.2
    · rw [i1 i hi]
      exact ⟨(c1 i hi).2.1, Nat.le_refl _, uz i hi, rfl⟩
  · show id' x = id' y ↔ T' x = T' y
    rcases (x1 x).1 hx with h | ⟨i, hi, rfl⟩
    · rcases (x1 y).1 hy with h' | ⟨j, hj, rfl⟩
      · rw [iU x h, iU y h', tU x h, tU y h']
        exact Y.2.2.2.1 x y h h'
      · rw [iU x h, tU x h, i1 j hj, t1 j hj]
        exact ⟨fun q => absurd (by rw [← q]; exact (Y.2.2.1 x h).2.2.1) (hz j hj).2, fun q => absurd (by rw [← q]; exact fo_T F h) (hz j hj).2⟩
    · rcases (x1 y).1 hy with h' | ⟨j, hj, rfl⟩
      · rw [iU y h', tU y h', i1 i hi, t1 i hi]
        exact ⟨fun q => absurd (by rw [q]; exact (Y.2.2.1 y h').2.2.1) (hz i hi).2, fun q => absurd (by rw [q]; exact fo_T F h') (hz i hi).2⟩
      · rw [i1 i hi, i1 j hj, t1 i hi, t1 j hj]
  · rcases (x1 x).1 hx with h | ⟨i, hi, rfl⟩
    · have g := c2 x (fo_lt F h) (nz x h)
      rw [g.2.1] at hn
      obtain ⟨a, b, d, e, f, q⟩ := Y.2.2.2.2.1 x h hn
      have m3 := vw_M W (x := x) h
      unfold Tld
      rw [kU x h, vU x h, mU x h, g.2.1, g.2.2.1, g.2.2.2.1, g.2.2.2.2.1]
      refine ⟨a, b, d, e, f, fun k hk => ?_⟩
      obtain ⟨v, v1, v2, v3⟩ := q k hk
      refine ⟨v, by rw [g.2.2.2.2.2.2.2.2 k (by omega)]; exact v1, up v v2, ?_⟩
      rw [pU x k h (by omega)]
      show T' v = T' (cP (xv U T kd mn pt val) x k)
      rw [tU v v2, tU _ (vw_P W (x := x) h hk)]
      exact v3
    · have g := c1 i hi
      have k0 : kd (t i) ≠ 0 := fun q => hn (g.2.2.2.2.1 q)
      obtain ⟨wU, wT, wn⟩ := hwh i hi k0
      have gw := g.2.2.2.2.2.1 k0
      obtain ⟨a, b, d, e, f, q⟩ := Y.2.2.2.2.1 (wh i) wU wn
      have eK : cK (xv U T kd mn pt val) (wh i) = kd (t i) := by rw [xv_K, wT]
      have eV : cV (xv U T kd mn pt val) (wh i) = val (t i) := by rw [xv_V, wT]
      have eM : cM (xv U T kd mn pt val) (wh i) = if kd (t i) = 2 then mn (t i) else 0 := by rw [xv_M, wT]
      have xi := x3 i hi
      have eK' : cK (xv U' T' kd' mn' pt' val') (z i) = kd (t i) := by rw [xv_K, t1 i hi, xi.2.1]
      have eV' : cV (xv U' T' kd' mn' pt' val') (z i) = val (t i) := by rw [xv_V, t1 i hi, xi.2.2.1 k0]
      have eM' : cM (xv U' T' kd' mn' pt' val') (z i) = if kd (t i) = 2 then mn (t i) else 0 := by
        rw [xv_M, t1 i hi, xi.2.1]
        by_cases k2 : kd (t i) = 2
        · rw [if_pos k2, if_pos k2, (xi.2.2.2 k2).1]
        · rw [if_neg k2, if_neg k2]
      unfold Tld
      rw [eK', eV', eM', gw.1, gw.2.1, gw.2.2.1, gw.2.2.2, ← eM, f]
      rw [eK] at b d e
      rw [eV] at d e
      refine ⟨k0, b, d, e, rfl, fun k hk => ?_⟩
      by_cases k2 : kd (t i) = 2
      · rw [eM, if_pos k2] at hk
        have hj := hix i hi k2 k hk
        refine ⟨z (ix i k), g.2.2.2.2.2.2 k2 k hk, uz _ hj, ?_⟩
        show T' (z (ix i k)) = T' (pt' (3 * T' (z i) + k))
        rw [t1 i hi, (xi.2.2.2 k2).2 k hk]
      · rw [eM, if_neg k2] at hk
        omega
  · rcases (x1 x).1 hx with h | ⟨i, hi, rfl⟩
    · rw [kU x h] at hk
      obtain ⟨u, a, b, d⟩ := Y.2.2.2.2.2 x h hk
      refine ⟨u, up u a, ?_, by rw [(c2 u (fo_lt F a) (nz u a)).2.1]; exact d⟩
      show T' u = T' x
      rw [tU u a, tU x h]
      exact b
    · have k0 : kd (t i) ≠ 0 := fun q => hk (by rw [xv_K, t1 i hi, (x3 i hi).2.1]; exact q)
      refine ⟨z i, uz i hi, rfl, ?_⟩
      rw [((c1 i hi).2.2.2.2.2.1 k0).1]
      exact (hwh i hi k0).2.2
section
variable {f_used : Int64} {f_roots : Int64} {f_asked : Int64} {f_trailed : Int32} {f_bound : Int32} {f_pairs : Int32} {f_drafted : Int32} {f_noted : Int32} {f_trials : Int32} {f_mets : Int32} {f_classes : Int32} {a_up : Nat → Int32} {a_kind : Nat → Int32} {a_many : Nat → Int32} {a_parts : Nat → Int32} {a_value : Nat → Int32} {a_trail : Nat → Int32} {a_left : Nat → Int32} {a_right : Nat → Int32} {a_draft : Nat → Int32} {a_stands : Nat → Int32} {a_testX : Nat → Int32} {a_testY : Nat → Int32} {a_triggerX : Nat → Int32} {a_triggerY : Nat → Int32} {a_ends : Nat → Int32} {a_notes : Nat → Int32} {a_oldUsed : Nat → Int64} {a_oldRoots : Nat → Int64} {a_oldAsked : Nat → Int64} {a_oldStands : Nat → Int32} {a_oldTestX : Nat → Int32} {a_oldTestY : Nat → Int32} {a_oldTriggerX : Nat → Int32} {a_oldTriggerY : Nat → Int32} {a_oldEnds : Nat → Int32} {a_oldTrailed : Nat → Int32} {a_oldNoted : Nat → Int32} {a_met : Nat → Int32} {a_classOf : Nat → Int32} {a_finer : Nat → Int32} {a_image : Nat → Int32} {a_seen : Nat → Int32} {a_stack : Nat → Int32} {a_deep : Nat → Int32} {a_company : Nat → Int64} {a_greeted : Nat → Int64}
variable {p kd mn pt tr T rk id : Nat → Nat} {tn L N n : Nat} {used roots asked : Int64} {sd tx ty gx gy en nt s sv : Nat → Int32}
theorem copy_mid {used' : Int64} {p' kd' mn' pt' tr' z t wh : Nat → Nat} {tn' : Nat} {ix : Nat → Nat → Nat} {val' s' : Nat → Int32} (hM : (Mid L used roots asked p kd mn pt a_value tr tn sd tx ty gx gy en N nt a_oldUsed a_oldRoots a_oldAsked a_oldStands a_oldTestX a_oldTestY a_oldTriggerX a_oldTriggerY a_oldEnds a_oldTrailed a_oldNoted s sv)) (F : Fo (uB used) p T rk) (D : XD (uB used) p kd mn pt) (Y : YR (xv (uB used) T kd mn pt a_value) id s) (hz : ∀ i, i < n → z i < 48 ∧ ¬ uB used (z i)) (hzi : ∀ i j, i < n → j < n → z i = z j → i = j) (ht : ∀ i, i < n → uB used (t i) ∧ T (t i) = t i) (hwh : ∀ i, i < n → kd (t i) ≠ 0 → uB used (wh i) ∧ T (wh i) = t i ∧ ¬ s (48 + wh i) = 0) (hix : ∀ i, i < n → kd (t i) = 2 → ∀ k, k < mn (t i) → ix i k < n) (hX : CpX n z t ix (uB used) (uB used') p kd mn pt p' kd' mn' pt' a_value val') (hC : CpY n z t wh ix kd mn s s') (hT' : TrOK (uB used') p' kd' tr' tn') (h1 : tn ≤ tn') (h2 : ∀ j, j < tn → tr' j = tr j) (h3 : ∀ j, tn ≤ j → j < tn' → ∃ i, i < n ∧ tr' j = 100 + z i) : (Mid L used' roots asked p' kd' mn' pt' val' tr' tn' sd tx ty gx gy en N nt a_oldUsed a_oldRoots a_oldAsked a_oldStands a_oldTestX a_oldTestY a_oldTriggerX a_oldTriggerY a_oldEnds a_oldTrailed a_oldNoted s' sv) := by
  obtain ⟨⟨_, m1, m2, m3, m4, m5⟩, hT, hL⟩ := hM
  obtain ⟨T', id', F', D', Y'⟩ := copy_yr F D Y hz hzi ht hwh hix hX hC
  obtain ⟨x1, x2, x3⟩ := hX
  obtain ⟨c1, c2, c3⟩ := hC
  have up : ∀ x, uB used x → uB used' x := fun x h => (x1 x).2 (Or.inl h)
  refine ⟨⟨⟨T', rk, id', F', D', Y'⟩, ⟨fun x hx => fo_lt F' hx, fun x hx => up x (m1.2.1 x hx), fun x hx => up x (m1.2.2.1 x hx), fun x hx => ?_⟩, fun i hi => ?_, fun i hi => ?_, fun i hi => ?_, ?_⟩, hT', lev_gen hL up h1 h2 (Nat.le_refl _) (fun a ha x hx => ?_) (fun a ha x hx => ?_) (fun x hx _ => ⟨(x2 x hx).2.2.2.1, (x2 x hx).2.2.1, (x2 x hx).2.2.2.2⟩) fun _ _ _ => rfl⟩
  · by_cases h : Zm n z x
    · obtain ⟨i, hi, rfl⟩ := h
      have g := c1 i hi
      rw [g.2.2.1, g.2.2.2.1, b01_f (ts_nt fun q => (hz i hi).2 (m1.2.1 _ q)), b01_f (ts_nt fun q => (hz i hi).2 (m1.2.2.1 _ q))]
      exact ⟨rfl, rfl⟩
    · have g := c2 x hx h
      rw [g.2.2.2.2.2.2.1, g.2.2.2.2.2.2.2.1]
      exact m1.2.2.2 x hx
  · obtain ⟨a, b, d, e, f, g, i2⟩ := m2 i hi
    rw [c3 _ (by omega), c3 _ (by omega), c3 _ (by omega)]
    refine ⟨a, b, d, e, f, g, fun q => ?_⟩
    obtain ⟨⟨x, ex, hx⟩, hy⟩ := i2 q
    exact ⟨⟨x, ex, up x hx⟩, hy.imp (fun q => q) fun ⟨y, ey, hy⟩ => ⟨y, ey, up y hy⟩⟩
  · obtain ⟨a, b, d, e, f⟩ := m3 i hi
    rw [c3 _ (by omega), c3 _ (by omega)]
    exact ⟨a, b, d, e, f.imp (fun q => q) fun ⟨x, y, ex, ey, hx, hy⟩ => ⟨x, y, ex, ey, up x hx, up y hy⟩⟩
  · obtain ⟨a, b, d⟩ := m4 i hi
    rw [c3 _ (by omega)]
    exact ⟨a, b, d.imp (fun q => q) fun ⟨x, ex, hx⟩ => ⟨x, ex, up x hx⟩⟩
  · exact ⟨by rw [c3 _ (by omega)]; exact m5.1, fun j a b => by rw [c3 _ (by omega)]; exact m5.2 j a b⟩
  · by_cases q : ∃ j, a ≤ j ∧ j < tn ∧ tr j = x ∧ x < 48
    · rw [uP_t q]
      obtain ⟨j, q1, q2, q3⟩ := q
      exact uP_t ⟨j, q1, by omega, by rw [h2 j q2]; exact q3⟩
    · rw [uP_f q, uP_f, (x2 x hx).1]
      intro ⟨j, q1, q2, q3, q4⟩
      by_cases e : j < tn
      · exact q ⟨j, q1, e, by rw [← h2 j e]; exact q3, q4⟩
      · obtain ⟨i, hi, e2⟩ := h3 j (by omega) q2
        omega
  · by_cases q : ∃ j, a ≤ j ∧ j < tn ∧ tr j = 100 + x
    · rw [uK_t q]
      obtain ⟨j, q1, q2, q3⟩ := q
      exact uK_t ⟨j, q1, by omega, by rw [h2 j q2]; exact q3⟩
    · rw [uK_f q, uK_f, (x2 x hx).2.1]
      intro ⟨j, q1, q2, q3⟩
      by_cases e : j < tn
      · exact q ⟨j, q1, e, by rw [← h2 j e]; exact q3⟩
      · obtain ⟨i, hi, e2⟩ := h3 j (by omega) q2
        have : x = z i := by omega
        exact (hz i hi).2 (by rw [← this]; exact hx)
end
end
section
/-! copy: the reference -/
def fU (used : Int64) (y : Nat) : Bool := !bL used y
def Zs (used : Int64) (z : Nat → Nat) : Prop := ∀ j, j < cnB (fU used) 48 → z j < 48 ∧ ¬ uB used (z j) ∧ cnB (fU used) (z j) = j
theorem fU_t {used : Int64} {y : Nat} : fU used y = true ↔ ¬ uB used y := by
  show (!bL used y) = true ↔ ¬ bL used y = true
  cases bL used y <;> decide
theorem zs_ex (used : Int64) : ∃ z, Zs used z := by
  refine ⟨fun j => Classical.epsilon fun x => x < 48 ∧ fU used x = true ∧ cnB (fU used) x = j, fun j hj => ?_⟩
  have q := Classical.epsilon_spec (p := fun x => x < 48 ∧ fU used x = true ∧ cnB (fU used) x = j) (cnB_enum 48 j hj)
  exact ⟨q.1, fU_t.1 q.2.1, q.2.2⟩
theorem zs_u {used : Int64} {x y : Nat} (hx : ¬ uB used x) (hy : ¬ uB used y) (e : cnB (fU used) x = cnB (fU used) y) : x = y := by
  by_cases a : x < y
  · have := cnB_lt a (fU_t.2 hx)
    omega
  · by_cases b : y < x
    · have := cnB_lt b (fU_t.2 hy)
      omega
    · omega
theorem zs_i {used : Int64} {z : Nat → Nat} (h : Zs used z) {i j : Nat} (hi : i < cnB (fU used) 48) (hj : j < cnB (fU used) 48) (e : z i = z j) : i = j := by
  rw [← (h i hi).2.2, ← (h j hj).2.2, e]
def mvS (s : Nat → Int32) (a z : Nat) : Nat → Int32 :=
  let s1 := upd s (48 + z) (s (48 + a))
  let s2 := upd s1 (96 + z) (s1 (96 + a))
  let s3 := upd s2 (144 + z) (s2 (144 + a))
  let s4 := upd s3 (192 + z) (s3 (192 + a))
  let s5 := upd s4 (240 + 3 * z + 0) (s4 (240 + 3 * a + 0))
  let s6 := upd s5 (240 + 3 * z + 1) (s5 (240 + 3 * a + 1))
  upd s6 (240 + 3 * z + 2) (s6 (240 + 3 * a + 2))
theorem mvS_z {s : Nat → Int32} {a z : Nat} (ha : a < 48) (hz : z < 48) (ne : a ≠ z) : mvS s a z (48 + z) = s (48 + a) ∧ mvS s a z (96 + z) = s (96 + a) ∧ mvS s a z (144 + z) = s (144 + a) ∧ mvS s a z (192 + z) = s (192 + a) := by
  unfold mvS
  refine ⟨?_, ?_, ?_, ?_⟩
  · rw [pk_un (by omega), pk_un (by omega), pk_un (by omega), pk_un (by omega), pk_un (by omega), pk_un (by omega), pk_us]
  · rw [pk_un (by omega), pk_un (by omega), pk_un (by omega), pk_un (by omega), pk_un (by omega), pk_us, pk_un (by omega)]
  · rw [pk_un (by omega), pk_un (by omega), pk_un (by omega), pk_un (by omega), pk_us, pk_un (by omega), pk_un (by omega)]
  · rw [pk_un (by omega), pk_un (by omega), pk_un (by omega), pk_us, pk_un (by omega), pk_un (by omega), pk_un (by omega)]
theorem mvS_o {s : Nat → Int32} {a z j : Nat} (h1 : j ≠ 48 + z) (h2 : j ≠ 96 + z) (h3 : j ≠ 144 + z) (h4 : j ≠ 192 + z) (h5 : j < 240 + 3 * z ∨ 240 + 3 * z + 3 ≤ j) : mvS s a z j = s j := by
  unfold mvS
  rw [pk_un (by omega), pk_un (by omega), pk_un (by omega), pk_un h4, pk_un h3, pk_un h2, pk_un h1]
def psT (s : Nat → Int32) (b : Nat) (q : Nat → Nat) : Nat → Nat → Int32
  | 0 => s
  | k + 1 => upd (psT s b q k) (b + k) (nI (q k))
theorem psT_i {s : Nat → Int32} {b : Nat} {q : Nat → Nat} : ∀ M k, k < M → psT s b q M (b + k) = nI (q k)
  | 0, _, h => absurd h (by omega)
  | M + 1, k, h => by
    unfold psT
    by_cases e : k = M
    · rw [e, pk_us]
    · rw [pk_un (by omega)]
      exact psT_i M k (by omega)
theorem psT_o {s : Nat → Int32} {b : Nat} {q : Nat → Nat} {j : Nat} : ∀ M, (j < b ∨ b + M ≤ j) → psT s b q M j = s j
  | 0, _ => rfl
  | M + 1, h => by
    unfold psT
    rw [pk_un (by omega)]
    exact psT_o M (by omega)
section
variable {f_trials : Int32} {f_drafted : Int32} {f_found : Int32} {a_s : Nat → Int32} {a_saved : Nat → Int32} {a_draft : Nat → Int32} {a_who : Nat → Int32} {a_met : Nat → Int32} {a_stack : Nat → Int32} {a_fresh : Nat → Int32} {a_deep : Nat → Int32} {a_alike : Nat → Int64} {a_meets : Nat → Int64}
theorem yw_cp19 {post : Int32 → SY → Prop} {used : Int64} {z : Nat → Nat} {f : Nat} (hz : Zs used z) (hf : f ≤ 48) (hs1 : ∀ x, uB used x → a_s (384 + x) = 1) (hs0 : ∀ x, x < 48 → ¬ uB used x → a_s (384 + x) = 0) (H1 : f ≤ cnB (fU used) 48 → ∀ a_fresh, (∀ j, j < f → a_fresh j = nI (z j)) → ∃ n75 : Nat, wY_copy_75 post n75 0 f_trials f_drafted (nI f) a_s a_saved a_draft a_who a_met a_stack a_fresh a_deep a_alike a_meets) (H0 : cnB (fU used) 48 < f → ∀ a_fresh, post (-2) (f_trials, f_drafted, nI f, a_s, a_saved, a_draft, a_who, a_met, a_stack, a_fresh, a_deep, a_alike, a_meets)) : ∀ n x a_fresh, x ≤ 48 → 48 - x < n → cnB (fU used) x ≤ f → (∀ j, j < cnB (fU used) x → a_fresh j = nI (z j)) → wY_copy_19 post f_trials f_drafted (nI f) n (nI (cnB (fU used) x)) (nI x) a_s a_saved a_draft a_who a_met a_stack a_fresh a_deep a_alike a_meets := by
  intro n
  induction n with
  | zero => intro x _ _ h; omega
  | succ n ih =>
    intro x a_fresh hx hn hl hfr
    by_cases e : x = 48
    · subst e
      refine wh_t (a := 48) (b := 48) (by omega) ?_
      unfold wY_copy_62
      by_cases q : f ≤ cnB (fU used) 48
      · exact wh_t (a := f) (b := cnB (fU used) 48) q (H1 q a_fresh fun j hj => hfr j (by omega)) (by omega)
      · exact wh_f (a := f) (b := cnB (fU used) 48) (by omega) (H0 (by omega) a_fresh)
    · have lx : x < 48 := by omega
      have ls : cnB (fU used) (x + 1) = cnB (fU used) x + b01 (fU used x) := rfl
      have lm := cnB_mono (f := fU used) (a := x + 1) (b := 48) (by omega)
      refine wh_f (a := 48) (b := x) (by omega) ?_
      by_cases q : f ≤ cnB (fU used) x
      · refine wh_t (a := f) (b := cnB (fU used) x) q ?_ (by omega)
        unfold wY_copy_62
        exact wh_t (a := f) (b := cnB (fU used) x) q (H1 (by omega) a_fresh fun j hj => hfr j (by omega)) (by omega)
      · refine wh_f (a := f) (b := cnB (fU used) x) (by omega) ?_
        rw [aL_384, cl_n (k := 384 + x)]
        refine ⟨in_n (by omega), ?_⟩
        by_cases hu : uB used x
        · rw [hs1 x hu]
          have f0 : fU used x = false := ts_nt fun q => fU_t.1 q hu
          rw [f0, b01_f rfl] at ls
          have := ih (x + 1) a_fresh (by omega) (by omega) (by omega) fun j hj => hfr j (by omega)
          rw [ls] at this
          exact br_f (by decide) (up1 this)
        · have f1 : fU used x = true := fU_t.2 hu
          rw [f1, b01_t rfl] at ls
          have ez : z (cnB (fU used) x) = x := zs_u (hz _ (by omega)).2.1 hu (hz _ (by omega)).2.2
          have := ih (x + 1) (upd a_fresh (cnB (fU used) x) (nI x)) (by omega) (by omega) (by omega) fun j hj => by
            by_cases e2 : j = cnB (fU used) x
            · rw [e2, pk_us, ez]
            · rw [pk_un e2]; exact hfr j (by omega)
          rw [ls] at this
          rw [cl_n (k := cnB (fU used) x)]
          exact br_t (hs0 x lx hu) (up1 ⟨in_n (by omega), nm_e (up1 this)⟩)
theorem yw_move {post : SY → Prop} {a z : Nat} (ha : a < 48) (hz : z < 48) (H : post (f_trials, f_drafted, f_found, mvS a_s a z, a_saved, a_draft, a_who, a_met, a_stack, a_fresh, a_deep, a_alike, a_meets)) : wpY_move post (f_trials, f_drafted, f_found, a_s, a_saved, a_draft, a_who, a_met, a_stack, a_fresh, a_deep, a_alike, a_meets) (nI a) (nI z) := by
  unfold mvS at H
  dsimp only at H
  refine Exists.intro 5 (wh_f (a := 240) (b := 48) (by decide) ?_)
  rw [aL_48, aL_48, cl_n (k := 48 + a), cl_n (k := 48 + z)]
  refine ⟨in_n (by omega), in_n (by omega), nm_e (nmr (nI 96) (by decide) (wh_f (a := 240) (b := 96) (by decide) ?_))⟩
  rw [nI_add, nI_add, cl_n (k := 96 + a), cl_n (k := 96 + z)]
  refine ⟨in_n (by omega), in_n (by omega), nm_e (nmr (nI 144) (by decide) (wh_f (a := 240) (b := 144) (by decide) ?_))⟩
  rw [nI_add, nI_add, cl_n (k := 144 + a), cl_n (k := 144 + z)]
  refine ⟨in_n (by omega), in_n (by omega), nm_e (nmr (nI 192) (by decide) (wh_f (a := 240) (b := 192) (by decide) ?_))⟩
  rw [nI_add, nI_add, cl_n (k := 192 + a), cl_n (k := 192 + z)]
  refine ⟨in_n (by omega), in_n (by omega), nm_e (nmr (nI 240) (by decide) (wh_t (a := 240) (b := 240) (by decide) (Exists.intro 4 (wh_f (a := 3) (b := 0) (by decide) ?_))))⟩
  rw [show (0 : Int32) = nI 0 from rfl, aP, aP, cl_n (k := 240 + 3 * a + 0), cl_n (k := 240 + 3 * z + 0)]
  refine ⟨in_n (by omega), in_n (by omega), nm_e (nmr (nI 1) (by decide) (wh_f (a := 3) (b := 1) (by decide) ?_))⟩
  rw [aP, aP, cl_n (k := 240 + 3 * a + 1), cl_n (k := 240 + 3 * z + 1)]
  refine ⟨in_n (by omega), in_n (by omega), nm_e (nmr (nI 2) (by decide) (wh_f (a := 3) (b := 2) (by decide) ?_))⟩
  rw [aP, aP, cl_n (k := 240 + 3 * a + 2), cl_n (k := 240 + 3 * z + 2)]
  exact ⟨in_n (by omega), in_n (by omega), nm_e (nmr (nI 3) (by decide) (wh_t (a := 3) (b := 3) (by decide) H))⟩
variable {c : Vw} {ym : Nat → Nat} {f : Nat}
theorem yw_cp129 {post : Int32 → SY → Prop} {J75 : Int32 → Int32 → Int32 → Int32 → (Nat → Int32) → (Nat → Int32) → (Nat → Int32) → (Nat → Int32) → (Nat → Int32) → (Nat → Int32) → (Nat → Int32) → (Nat → Int32) → (Nat → Int64) → (Nat → Int64) →  Prop} {i a z0 M : Nat} {z q : Nat → Nat} {ix : Nat → Nat} {s : Nat → Int32} (W : VW c) (hA : AlOK c a_alike) (hf : f ≤ 48) (hm : Ar a_met ym f) (hU : ∀ i, i < f → cU c (ym i)) (hd : ∀ i j, i < f → j < f → Alike c (ym i) (ym j) → i = j) (hfr : ∀ j, j < f → a_fresh j = nI (z j)) (la : a < 48) (lz : z0 < 48) (ne : a ≠ z0) (m3 : M ≤ 3) (eM : s (192 + a) = nI M) (hq : ∀ k, k < M → s (240 + 3 * a + k) = nI (q k) ∧ cU c (q k)) (hix : ∀ k, k < M → ix k < f ∧ Alike c (ym (ix k)) (q k)) (H : J75 (nI (i + 1)) f_trials f_drafted (nI f) (psT s (240 + 3 * z0) (fun k => z (ix k)) M) a_saved a_draft a_who a_met a_stack a_fresh a_deep a_alike a_meets) : ∀ n k, k ≤ M → M - k < n → wY_copy_129 post J75 (nI i) (nI z0) (nI a) f_trials f_drafted (nI f) n (nI k) (psT s (240 + 3 * z0) (fun k => z (ix k)) k) a_saved a_draft a_who a_met a_stack a_fresh a_deep a_alike a_meets := by
  intro n
  induction n with
  | zero => intro k _ h; omega
  | succ n ih =>
    intro k hk hn
    unfold wY_copy_129
    rw [aL_192, cl_n (k := 192 + a), psT_o k (by omega), eM]
    refine ⟨in_n (by omega), ?_⟩
    by_cases e : k = M
    · subst e
      exact wh_t (a := k) (b := k) (by omega) (up1 H)
    · have lk : k < M := by omega
      refine wh_f (a := M) (b := k) (by omega) ?_
      rw [aP, cl_n (k := 240 + 3 * a + k), psT_o k (by omega), (hq k lk).1]
      refine ⟨in_n (by omega), yw_indexOf W hA (hq k lk).2 hf hm hU (fun j hj ha _ => ?_) fun h => absurd (hix k lk).2 (h _ (hix k lk).1)⟩
      have ej : j = ix k := hd j _ hj (hix k lk).1 (al_t W ha (al_s (hix k lk).2))
      rw [cl_n (k := j), hfr j hj, aP, cl_n (k := 240 + 3 * z0 + k), ej]
      exact ⟨in_n (by have := (hix k lk).1; omega), in_n (by omega), nm_e (up1 (ih (k + 1) (by omega) (by omega)))⟩
end
end
section
/-! copy: the reference's turns; the component fills -/
section
variable {f_trials : Int32} {f_drafted : Int32} {f_found : Int32} {a_s : Nat → Int32} {a_saved : Nat → Int32} {a_draft : Nat → Int32} {a_who : Nat → Int32} {a_met : Nat → Int32} {a_stack : Nat → Int32} {a_fresh : Nat → Int32} {a_deep : Nat → Int32} {a_alike : Nat → Int64} {a_meets : Nat → Int64}
variable {p kd mn pt T rk id z t wh ym : Nat → Nat} {n : Nat} {ix : Nat → Nat → Nat} {used : Int64} {a_value s : Nat → Int32}
theorem cpy_free {i : Nat} {s1 : Nat → Int32} (hz : ∀ i, i < n → z i < 48 ∧ ¬ uB used (z i)) (hzi : ∀ i j, i < n → j < n → z i = z j → i = j) (hm3 : ∀ i, i < n → kd (t i) = 2 → mn (t i) ≤ 3) (hi : i < n) (k0 : kd (t i) = 0) (h : CpY i z t wh ix kd mn s s1) : CpY (i + 1) z t wh ix kd mn s (useS s1 (z i)) := by
  obtain ⟨c1, c2, c3⟩ := h
  have li := (hz i hi).1
  have uz := useS_z (s := s1) li
  have oth : ∀ v, v < 48 → v ≠ z i → ∀ j, (j = v ∨ j = 48 + v ∨ j = 96 + v ∨ j = 144 + v ∨ j = 192 + v ∨ j = 384 + v ∨ j = 432 + v ∨ j = 480 + v ∨ (240 + 3 * v ≤ j ∧ j < 240 + 3 * v + 3)) → useS s1 (z i) j = s1 j := fun v hv ne j hj => useS_o (by omega) (by omega) (by omega) (by omega) (by omega)
  refine ⟨fun j hj => ?_, fun v hv hn => ?_, fun j hj => ?_⟩
  · by_cases e : j = i
    · subst e
      exact ⟨uz.1, uz.2.2.1, uz.2.2.2.1, uz.2.2.2.2, fun _ => uz.2.1, fun q => absurd k0 q, fun q => absurd k0 (by omega)⟩
    · have lj := (hz j (by omega)).1
      have ne : z j ≠ z i := fun q => e (hzi j i (by omega) hi q)
      obtain ⟨a1, a2, a3, a4, a5, a6, a7⟩ := c1 j (by omega)
      have o := oth (z j) lj ne
      rw [o (z j) (by omega), o (384 + z j) (by omega), o (432 + z j) (by omega), o (480 + z j) (by omega), o (48 + z j) (by omega), o (96 + z j) (by omega), o (144 + z j) (by omega), o (192 + z j) (by omega)]
      exact ⟨a1, a2, a3, a4, a5, a6, fun q k hk => by
        have := hm3 j (by omega) q
        rw [o (240 + 3 * z j + k) (by omega)]; exact a7 q k hk⟩
  · have ne : v ≠ z i := fun q => hn ⟨i, by omega, q⟩
    have g := c2 v hv fun ⟨j, hj, q⟩ => hn ⟨j, by omega, q⟩
    have o := oth v hv ne
    rw [o v (by omega), o (384 + v) (by omega), o (432 + v) (by omega), o (480 + v) (by omega), o (48 + v) (by omega), o (96 + v) (by omega), o (144 + v) (by omega), o (192 + v) (by omega)]
    exact ⟨g.1, g.2.1, g.2.2.1, g.2.2.2.1, g.2.2.2.2.1, g.2.2.2.2.2.1, g.2.2.2.2.2.2.1, g.2.2.2.2.2.2.2.1, fun k hk => by rw [o _ (by omega)]; exact g.2.2.2.2.2.2.2.2 k hk⟩
  · rw [useS_o (by omega) (by omega) (by omega) (by omega) (by omega)]
    exact c3 j hj
theorem cpy_told {i M : Nat} {s1 : Nat → Int32} (hz : ∀ i, i < n → z i < 48 ∧ ¬ uB used (z i)) (hzi : ∀ i j, i < n → j < n → z i = z j → i = j) (hm3 : ∀ i, i < n → kd (t i) = 2 → mn (t i) ≤ 3) (hi : i < n) (k0 : kd (t i) ≠ 0) (hw : wh i < 48) (hwn : ¬ Zm n z (wh i)) (eM : M = if kd (t i) = 2 then mn (t i) else 0) (m3 : M ≤ 3) (h : CpY i z t wh ix kd mn s s1) : CpY (i + 1) z t wh ix kd mn s (psT (mvS (useS s1 (z i)) (wh i) (z i)) (240 + 3 * z i) (fun k => z (ix i k)) M) := by
  obtain ⟨c1, c2, c3⟩ := h
  have li := (hz i hi).1
  have uz := useS_z (s := s1) li
  have new : wh i ≠ z i := fun q => hwn ⟨i, hi, q⟩
  have mz := mvS_z (s := useS s1 (z i)) hw li new
  have gw := c2 (wh i) hw fun ⟨j, hj, q⟩ => hwn ⟨j, by omega, q⟩
  have oth : ∀ v, v < 48 → v ≠ z i → ∀ j, (j = v ∨ j = 48 + v ∨ j = 96 + v ∨ j = 144 + v ∨ j = 192 + v ∨ j = 384 + v ∨ j = 432 + v ∨ j = 480 + v ∨ (240 + 3 * v ≤ j ∧ j < 240 + 3 * v + 3)) → psT (mvS (useS s1 (z i)) (wh i) (z i)) (240 + 3 * z i) (fun k => z (ix i k)) M j = s1 j := fun v hv ne j hj => by
    rw [psT_o M (by omega), mvS_o (by omega) (by omega) (by omega) (by omega) (by omega), useS_o (by omega) (by omega) (by omega) (by omega) (by omega)]
  refine ⟨fun j hj => ?_, fun v hv hn => ?_, fun j hj => ?_⟩
  · by_cases e : j = i
    · subst e
      refine ⟨?_, ?_, ?_, ?_, fun q => absurd q k0, fun _ => ?_, fun q k hk => ?_⟩
      · rw [psT_o M (by omega), mvS_o (by omega) (by omega) (by omega) (by omega) (by omega)]; exact uz.1
      · rw [psT_o M (by omega), mvS_o (by omega) (by omega) (by omega) (by omega) (by omega)]; exact uz.2.2.1
      · rw [psT_o M (by omega), mvS_o (by omega) (by omega) (by omega) (by omega) (by omega)]; exact uz.2.2.2.1
      · rw [psT_o M (by omega), mvS_o (by omega) (by omega) (by omega) (by omega) (by omega)]; exact uz.2.2.2.2
      · rw [psT_o M (by omega), psT_o M (by omega), psT_o M (by omega), psT_o M (by omega), mz.1, mz.2.1, mz.2.2.1, mz.2.2.2, useS_o (by omega) (by omega) (by omega) (by omega) (by omega), useS_o (by omega) (by omega) (by omega) (by omega) (by omega), useS_o (by omega) (by omega) (by omega) (by omega) (by omega), useS_o (by omega) (by omega) (by omega) (by omega) (by omega)]
        exact ⟨gw.2.1, gw.2.2.1, gw.2.2.2.1, gw.2.2.2.2.1⟩
      · rw [if_pos q] at eM
        exact psT_i M k (by omega)
    · have lj := (hz j (by omega)).1
      have ne : z j ≠ z i := fun q => e (hzi j i (by omega) hi q)
      obtain ⟨a1, a2, a3, a4, a5, a6, a7⟩ := c1 j (by omega)
      have o := oth (z j) lj ne
      rw [o (z j) (by omega), o (384 + z j) (by omega), o (432 + z j) (by omega), o (480 + z j) (by omega), o (48 + z j) (by omega), o (96 + z j) (by omega), o (144 + z j) (by omega), o (192 + z j) (by omega)]
      exact ⟨a1, a2, a3, a4, a5, a6, fun q k hk => by
        have := hm3 j (by omega) q
        rw [o (240 + 3 * z j + k) (by omega)]; exact a7 q k hk⟩
  · have ne : v ≠ z i := fun q => hn ⟨i, by omega, q⟩
    have g := c2 v hv fun ⟨j, hj, q⟩ => hn ⟨j, by omega, q⟩
    have o := oth v hv ne
    rw [o v (by omega), o (384 + v) (by omega), o (432 + v) (by omega), o (480 + v) (by omega), o (48 + v) (by omega), o (96 + v) (by omega), o (144 + v) (by omega), o (192 + v) (by omega)]
    exact ⟨g.1, g.2.1, g.2.2.1, g.2.2.2.1, g.2.2.2.2.1, g.2.2.2.2.2.1, g.2.2.2.2.2.2.1, g.2.2.2.2.2.2.2.1, fun k hk => by rw [o _ (by omega)]; exact g.2.2.2.2.2.2.2.2 k hk⟩
  · rw [psT_o M (by omega), mvS_o (by omega) (by omega) (by omega) (by omega) (by omega), useS_o (by omega) (by omega) (by omega) (by omega) (by omega)]
    exact c3 j hj
/-- one turn, and all of them -/
theorem ye_cp75 (F : Fo (uB used) p T rk) (D : XD (uB used) p kd mn pt) (Y : YR (xv (uB used) T kd mn pt a_value) id s) (hw : Who (xv (uB used) T kd mn pt a_value) s a_who) (hA : AlOK (xv (uB used) T kd mn pt a_value) a_alike) (hn : n ≤ 48) (hm : Ar a_met ym n) (hym : ∀ i, i < n → uB used (ym i) ∧ T (ym i) = t i) (hd : ∀ i j, i < n → j < n → Alike (xv (uB used) T kd mn pt a_value) (ym i) (ym j) → i = j) (hfr : ∀ j, j < n → a_fresh j = nI (z j)) (hz : ∀ i, i < n → z i < 48 ∧ ¬ uB used (z i)) (hzi : ∀ i j, i < n → j < n → z i = z j → i = j) (hwh : ∀ i, i < n → kd (t i) ≠ 0 → a_who (ym i) = nI (wh i) ∧ uB used (wh i) ∧ T (wh i) = t i ∧ ¬ s (48 + wh i) = 0) (hix : ∀ i, i < n → kd (t i) = 2 → ∀ k, k < mn (t i) → ix i k < n ∧ Alike (xv (uB used) T kd mn pt a_value) (ym (ix i k)) (T (pt (3 * t i + k)))) : ∀ d i a_s, i + d = n → CpY i z t wh ix kd mn s a_s → ∃ s', CpY n z t wh ix kd mn s s' ∧ ∀ post : Int32 → SY → Prop, wpY_settle (fun u => match u with
    | (f_trials, f_drafted, f_found, a_s, a_saved, a_draft, a_who, a_met, a_stack, a_fresh, a_deep, a_alike, a_meets) => post (a_fresh 0) (f_trials, f_drafted, f_found, a_s, a_saved, a_draft, a_who, a_met, a_stack, a_fresh, a_deep, a_alike, a_meets)) (f_trials, f_drafted, nI n, s', a_saved, a_draft, a_who, a_met, a_stack, a_fresh, a_deep, a_alike, a_meets) → ∃ fu, wY_copy_75 post fu (nI i) f_trials f_drafted (nI n) a_s a_saved a_draft a_who a_met a_stack a_fresh a_deep a_alike a_meets := by
  have W : VW (xv (uB used) T kd mn pt a_value) := xv_W F D
  have hT : ∀ i, i < n → uB used (t i) ∧ T (t i) = t i := fun i hi => by
    have q := hym i hi
    rw [← q.2]
    exact ⟨fo_T F q.1, fo_TT F q.1⟩
  have hm3 : ∀ i, i < n → kd (t i) = 2 → mn (t i) ≤ 3 := fun i hi q => ((D (t i) (hT i hi).1 (fo_topI F (hT i hi).1 (hT i hi).2)).2 q).1
  intro d
  induction d with
  | zero =>
    intro i a_s hi hc
    have e : i = n := by omega
    subst e
    exact ⟨a_s, hc, fun post h => ⟨1, wh_t (a := i) (b := i) (by omega) h⟩⟩
  | succ d ih =>
    intro i a_s hi hc
    have li : i < n := by omega
    have q := hym i li
    have ly := fo_lt F q.1
    have lz := (hz i li).1
    have eK : cK (xv (uB used) T kd mn pt a_value) (ym i) = kd (t i) := by rw [xv_K, q.2]
    by_cases k0 : kd (t i) = 0
    · obtain ⟨s', h1, h2⟩ := ih (i + 1) _ (by omega) (cpy_free hz hzi hm3 li k0 hc)
      refine ⟨s', h1, fun post h => ?_⟩
      obtain ⟨fu, hfu⟩ := h2 post h
      refine ⟨fu + 1, wh_f (a := n) (b := i) (by omega) ?_⟩
      rw [cl_n (k := i), hfr i li, hm i li, cl_n (k := ym i), hw.2.1 (ym i) q.1 (by rw [eK]; exact k0)]
      exact ⟨in_n (by omega), nm_e ⟨in_n (by omega), in_n ly, nm_e (yw_use lz (br_f (by decide) (up1 hfu)))⟩⟩
    · obtain ⟨w1, w2, w3, w4⟩ := hwh i li k0
      have lw := fo_lt F w2
      have nwz : ¬ Zm n z (wh i) := fun ⟨j, hj, e⟩ => (hz j hj).2 (by rw [← e]; exact w2)
      have Tw := Y.2.2.2.2.1 (wh i) w2 w4
      have eM : cM (xv (uB used) T kd mn pt a_value) (wh i) = if kd (t i) = 2 then mn (t i) else 0 := by rw [xv_M, w3]
      have m3 := vw_M W (x := wh i) w2
      obtain ⟨qq, hq⟩ := tld_q Tw
      have nz' : ¬ Zm i z (wh i) := fun ⟨j, hj, e⟩ => nwz ⟨j, by omega, e⟩
      have g := hc.2.1 (wh i) lw nz'
      have new : wh i ≠ z i := fun e => nwz ⟨i, li, e⟩
      obtain ⟨s', h1, h2⟩ := ih (i + 1) _ (by omega) (cpy_told hz hzi hm3 li k0 lw nwz eM m3 hc)
      refine ⟨s', h1, fun post h => ?_⟩
      obtain ⟨fu, hfu⟩ := h2 post h
      refine ⟨fu + 1, wh_f (a := n) (b := i) (by omega) ?_⟩
      rw [cl_n (k := i), hfr i li, hm i li, cl_n (k := ym i), w1]
      refine ⟨in_n (by omega), nm_e ⟨in_n (by omega), in_n ly, nm_e (yw_use lz (br_t (nI_le (a := 0) (b := wh i) (by omega) (by omega)) (yw_move lw lz (Exists.intro 4 ?_))))⟩⟩
      refine yw_cp129 (s := mvS (useS a_s (z i)) (wh i) (z i)) (M := cM (xv (uB used) T kd mn pt a_value) (wh i)) (z := z) (q := qq) (ix := ix i) (f := n) (ym := ym) W hA hn hm (fun j hj => (hym j hj).1) hd hfr lw lz new m3 ?_ (fun k hk => ?_) (fun k hk => ?_) hfu 4 0 (by omega) (by omega)
      · rw [mvS_o (by omega) (by omega) (by omega) (by omega) (by omega), useS_o (by omega) (by omega) (by omega) (by omega) (by omega), g.2.2.2.2.1]
        exact Tw.2.2.2.2.1
      · rw [mvS_o (by omega) (by omega) (by omega) (by omega) (by omega), useS_o (by omega) (by omega) (by omega) (by omega) (by omega), g.2.2.2.2.2.2.2.2 k (by omega)]
        exact ⟨(hq k hk).1, (hq k hk).2.1⟩
      · have k2 : kd (t i) = 2 := by
          have := vw_k2 W (x := wh i) w2 hk
          rw [xv_K, w3] at this
          exact this
        rw [eM, if_pos k2] at hk
        have a := hix i li k2 k hk
        refine ⟨a.1, al_rr W (hq k (by rw [eM, if_pos k2]; exact hk)).2.1 ?_ a.2⟩
        have := (hq k (by rw [eM, if_pos k2]; exact hk)).2.2
        rw [this, xv_P, w3]
        have pu : uB used (pt (3 * t i + k)) := ((D (t i) (hT i li).1 (fo_topI F (hT i li).1 (hT i li).2)).2 k2).2 k hk
        exact fo_TT F pu
end
end
section
/-! copy: the component fills -/
theorem nI_ex (v : Int32) : ∃ m, nI m = v := ⟨v.toUInt32.toNat, by
  show Int32.ofNat v.toUInt32.toNat = v
  have : Int32.ofNat v.toUInt32.toNat = (UInt32.ofNat v.toUInt32.toNat).toInt32 := rfl
  rw [this, UInt32.ofNat_toNat]
  rfl⟩
section
variable {f_used : Int64} {f_roots : Int64} {f_asked : Int64} {f_trailed : Int32} {f_bound : Int32} {f_pairs : Int32} {f_drafted : Int32} {f_noted : Int32} {f_trials : Int32} {f_mets : Int32} {f_classes : Int32} {a_up : Nat → Int32} {a_kind : Nat → Int32} {a_many : Nat → Int32} {a_parts : Nat → Int32} {a_value : Nat → Int32} {a_trail : Nat → Int32} {a_left : Nat → Int32} {a_right : Nat → Int32} {a_draft : Nat → Int32} {a_stands : Nat → Int32} {a_testX : Nat → Int32} {a_testY : Nat → Int32} {a_triggerX : Nat → Int32} {a_triggerY : Nat → Int32} {a_ends : Nat → Int32} {a_notes : Nat → Int32} {a_oldUsed : Nat → Int64} {a_oldRoots : Nat → Int64} {a_oldAsked : Nat → Int64} {a_oldStands : Nat → Int32} {a_oldTestX : Nat → Int32} {a_oldTestY : Nat → Int32} {a_oldTriggerX : Nat → Int32} {a_oldTriggerY : Nat → Int32} {a_oldEnds : Nat → Int32} {a_oldTrailed : Nat → Int32} {a_oldNoted : Nat → Int32} {a_met : Nat → Int32} {a_classOf : Nat → Int32} {a_finer : Nat → Int32} {a_image : Nat → Int32} {a_seen : Nat → Int32} {a_stack : Nat → Int32} {a_deep : Nat → Int32} {a_company : Nat → Int64} {a_greeted : Nat → Int64}
variable {p kd mn pt tr T rk : Nat → Nat} {tn : Nat} {used : Int64}
theorem xw_fil53 {post : SX → Prop} {t z M : Nat} {ds cq : Nat → Nat} (F : Fo (uB used) p T rk) (lt : t < 48) (lz : z < 48) (ne : t ≠ z) (k2 : kd t = 2 → M = mn t) (k0 : kd t ≠ 2 → M = 0) (kl : kd t ≤ 2) (m3 : M ≤ 3) (hp : ∀ k, k < M → uB used (pt (3 * t + k)) ∧ a_classOf (T (pt (3 * t + k))) = nI (cq k) ∧ cq k < 48 ∧ a_image (cq k) = nI (ds k) ∧ ds k < 128) (H : post (used, f_roots, f_asked, nI tn, f_bound, f_pairs, f_drafted, f_noted, f_trials, f_mets, f_classes, nA p, nA kd, nA mn, nA (pwp pt z ds M), a_value, nA tr, a_left, a_right, a_draft, a_stands, a_testX, a_testY, a_triggerX, a_triggerY, a_ends, a_notes, a_oldUsed, a_oldRoots, a_oldAsked, a_oldStands, a_oldTestX, a_oldTestY, a_oldTriggerX, a_oldTriggerY, a_oldEnds, a_oldTrailed, a_oldNoted, a_met, a_classOf, a_finer, a_image, a_seen, a_stack, a_deep, a_company, a_greeted)) : ∀ n k, k ≤ M → M - k < n → wX_fill_53 post (nI t) (nI z) used f_roots f_asked (nI tn) f_bound f_pairs f_drafted f_noted f_trials f_mets f_classes n (nI k) (nA p) (nA kd) (nA mn) (nA (pwp pt z ds k)) a_value (nA tr) a_left a_right a_draft a_stands a_testX a_testY a_triggerX a_triggerY a_ends a_notes a_oldUsed a_oldRoots a_oldAsked a_oldStands a_oldTestX a_oldTestY a_oldTriggerX a_oldTriggerY a_oldEnds a_oldTrailed a_oldNoted a_met a_classOf a_finer a_image a_seen a_stack a_deep a_company a_greeted := by
  intro n
  induction n with
  | zero => intro k _ h; omega
  | succ n ih =>
    intro k hk hn
    unfold wX_fill_53
    rw [cl_n (k := t), nA_e, nA_e]
    refine ⟨in_n lt, ?_⟩
    by_cases e : kd t = 2
    · have eM := k2 e
      by_cases e2 : k = M
      · subst e2
        exact wh_t (a := mn t) (b := k) (by omega) H
      · have lk : k < M := by omega
        obtain ⟨h1, h2, h3, h4, h5⟩ := hp k lk
        have lT := fo_lt F (fo_T F h1)
        refine wh_f (a := mn t) (b := k) (by omega) ⟨in_n lt, br_t (by rw [e]; rfl) ?_⟩
        rw [tri, tri, cl_n (k := 3 * t + k), cl_n (k := 3 * z + k), nA_e, pwp_o k (by omega)]
        refine ⟨in_n (by omega), xw_top F h1 ?_⟩
        rw [cl_n (k := T (pt (3 * t + k))), h2, cl_n (k := cq k), h4, vb_k h5, nA_u]
        exact ⟨in_n lT, in_n h3, in_n (by omega), nm_e (up1 (ih (k + 1) (by omega) (by omega)))⟩
    · have eM := k0 e
      subst eM
      have : k = 0 := by omega
      subst this
      exact br_c (fun _ => H) fun _ => ⟨in_n lt, br_f (fun q => e (nI_inj (b := 2) q)) H⟩
theorem xw_fill {post : SX → Prop} {t z M cl : Nat} {ds cq : Nat → Nat} (F : Fo (uB used) p T rk) (lt : t < 48) (lz : z < 48) (ne : t ≠ z) (k2 : kd t = 2 → M = mn t) (k0 : kd t ≠ 2 → M = 0) (kl : kd t ≤ 2) (m3 : M ≤ 3) (hcl : a_classOf t = nI cl ∧ cl < 48 ∧ a_image cl = nI z) (hp : ∀ k, k < M → uB used (pt (3 * t + k)) ∧ a_classOf (T (pt (3 * t + k))) = nI (cq k) ∧ cq k < 48 ∧ a_image (cq k) = nI (ds k) ∧ ds k < 128) (htn : tn < 128) (H0 : kd t = 0 → post (used, f_roots, f_asked, nI tn, f_bound, f_pairs, f_drafted, f_noted, f_trials, f_mets, f_classes, nA p, nA kd, nA mn, nA pt, a_value, nA tr, a_left, a_right, a_draft, a_stands, a_testX, a_testY, a_triggerX, a_triggerY, a_ends, a_notes, a_oldUsed, a_oldRoots, a_oldAsked, a_oldStands, a_oldTestX, a_oldTestY, a_oldTriggerX, a_oldTriggerY, a_oldEnds, a_oldTrailed, a_oldNoted, a_met, a_classOf, a_finer, a_image, a_seen, a_stack, a_deep, a_company, a_greeted)) (H1 : kd t ≠ 0 → ∀ m, (kd t = 2 → m = mn t) → post (used, f_roots, f_asked, nI (tn + 1), f_bound, f_pairs, f_drafted, f_noted, f_trials, f_mets, f_classes, nA p, nA (un kd z (kd t)), nA (un mn z m), nA (pwp pt z ds M), upd a_value z (a_value t), nA (un tr tn (100 + z)), a_left, a_right, a_draft, a_stands, a_testX, a_testY, a_triggerX, a_triggerY, a_ends, a_notes, a_oldUsed, a_oldRoots, a_oldAsked, a_oldStands, a_oldTestX, a_oldTestY, a_oldTriggerX, a_oldTriggerY, a_oldEnds, a_oldTrailed, a_oldNoted, a_met, a_classOf, a_finer, a_image, a_seen, a_stack, a_deep, a_company, a_greeted)) : wpX_fill post (used, f_roots, f_asked, nI tn, f_bound, f_pairs, f_drafted, f_noted, f_trials, f_mets, f_classes, nA p, nA kd, nA mn, nA pt, a_value, nA tr, a_left, a_right, a_draft, a_stands, a_testX, a_testY, a_triggerX, a_triggerY, a_ends, a_notes, a_oldUsed, a_oldRoots, a_oldAsked, a_oldStands, a_oldTestX, a_oldTestY, a_oldTriggerX, a_oldTriggerY, a_oldEnds, a_oldTrailed, a_oldNoted, a_met, a_classOf, a_finer, a_image, a_seen, a_stack, a_deep, a_company, a_greeted) (nI t) := by
  unfold wpX_fill
  dsimp only
  rw [cl_n (k := t), hcl.1, cl_n (k := cl), hcl.2.2, nA_e]
  refine ⟨in_n lt, in_n hcl.2.1, nm_e ⟨in_n lt, ?_⟩⟩
  by_cases e : kd t = 0
  · exact br_t (by rw [e]; rfl) (H0 e)
  · refine br_f (fun q => e (nI_inj (b := 0) q)) ⟨in_n lt, in_n lt, xw_set htn lz (by omega) ?_⟩
    dsimp only
    refine ⟨in_n lt, in_n lz, ?_⟩
    rw [cl_n (k := z), nA_e, un_n ne]
    obtain ⟨m, hm, hm2⟩ : ∃ m, nI m = vp_nar .byte (nI (mn t)) ∧ (kd t = 2 → m = mn t) := by
      by_cases q : kd t = 2
      · have := k2 q
        exact ⟨mn t, (vb_k (by omega)).symm, fun _ => rfl⟩
      · obtain ⟨m, hm⟩ := nI_ex (vp_nar .byte (nI (mn t)))
        exact ⟨m, hm, fun z => absurd z q⟩
    rw [← hm, nA_u, un_un]
    refine nm_e (Exists.intro (M + 1) (xw_fil53 (kd := un kd z (kd t)) (mn := un mn z m) (pt := pt) (tr := un tr tn (100 + z)) (tn := tn + 1) (ds := ds) (cq := cq) (M := M) F lt lz ne (fun q => ?_) (fun q => ?_) (by rw [un_n ne]; exact kl) m3 hp (H1 e m hm2) (M + 1) 0 (by omega) (by omega)))
    · rw [un_n ne] at q ⊢; exact k2 q
    · rw [un_n ne] at q; exact k0 q
end
def FI (n : Nat) (z t : Nat → Nat) (ix : Nat → Nat → Nat) (U U2 : Nat → Prop) (p2 : Nat → Nat) (kd mn pt tr : Nat → Nat) (tn : Nat) (val : Nat → Int32) (i : Nat) (kd' mn' pt' tr' : Nat → Nat) (tn' : Nat) (val' : Nat → Int32) : Prop :=
  (∀ x, U x → kd' x = kd x ∧ mn' x = mn x ∧ val' x = val x ∧ ∀ k, k < 3 → pt' (3 * x + k) = pt (3 * x + k)) ∧
  (∀ j, j < i → kd' (z j) = kd (t j) ∧ (kd (t j) ≠ 0 → val' (z j) = val (t j)) ∧ (kd (t j) = 2 → mn' (z j) = mn (t j) ∧ ∀ k, k < mn (t j) → pt' (3 * z j + k) = z (ix j k))) ∧
  (∀ j, i ≤ j → j < n → kd' (z j) = 0) ∧ TrOK U2 p2 kd' tr' tn' ∧ tn ≤ tn' ∧ (∀ j, j < tn → tr' j = tr j) ∧ ∀ j, tn ≤ j → j < tn' → ∃ i, i < n ∧ tr' j = 100 + z i
theorem fi_0 {n i : Nat} {z t : Nat → Nat} {ix : Nat → Nat → Nat} {U U2 : Nat → Prop} {p2 kd mn pt tr kd' mn' pt' tr' : Nat → Nat} {tn tn' : Nat} {val val' : Nat → Int32} (hi : i < n) (k0 : kd (t i) = 0) (h : FI n z t ix U U2 p2 kd mn pt tr tn val i kd' mn' pt' tr' tn' val') : FI n z t ix U U2 p2 kd mn pt tr tn val (i + 1) kd' mn' pt' tr' tn' val' := by
  obtain ⟨a, b, c, d⟩ := h
  refine ⟨a, fun j hj => ?_, fun j h1 h2 => c j (by omega) h2, d⟩
  by_cases e : j = i
  · rw [e, c i (Nat.le_refl i) hi, k0]
    exact ⟨rfl, fun q => absurd rfl q, fun q => absurd q (by decide)⟩
  · exact b j (by omega)
theorem fi_1 {n i m M : Nat} {z t : Nat → Nat} {ix : Nat → Nat → Nat} {U U2 : Nat → Prop} {p2 kd mn pt tr kd' mn' pt' tr' : Nat → Nat} {tn tn' : Nat} {val val' : Nat → Int32} (hz : ∀ i, i < n → z i < 48 ∧ ¬ U (z i)) (hz2 : ∀ i, i < n → U2 (z i)) (hzi : ∀ i j, i < n → j < n → z i = z j → i = j) (hm3 : ∀ i, i < n → kd (t i) = 2 → mn (t i) ≤ 3) (htU : ∀ i, i < n → U (t i)) (hi : i < n) (k0 : kd (t i) ≠ 0) (hm : kd (t i) = 2 → m = mn (t i)) (eM : kd (t i) = 2 → M = mn (t i)) (m3 : M ≤ 3) (h : FI n z t ix U U2 p2 kd mn pt tr tn val i kd' mn' pt' tr' tn' val') : FI n z t ix U U2 p2 kd mn pt tr tn val (i + 1) (un kd' (z i) (kd (t i))) (un mn' (z i) m) (pwp pt' (z i) (ix i · |> z) M) (un tr' tn' (100 + z i)) (tn' + 1) (upd val' (z i) (val (t i))) := by
  obtain ⟨a, b, c, d, e, f, g⟩ := h
  have nU : ∀ x, U x → x ≠ z i := fun x hx q => (hz i hi).2 (by rw [← q]; exact hx)
  refine ⟨fun x hx => ?_, fun j hj => ?_, fun j h1 h2 => ?_, tr_set d (hz2 i hi) (hz i hi).1 (c i (Nat.le_refl i) hi) k0, by omega, fun j hj => by rw [un_n (by omega)]; exact f j hj, fun j h1 h2 => ?_⟩
  · have q := a x hx
    have ne := nU x hx
    rw [un_n ne, un_n ne, pk_un ne]
    exact ⟨q.1, q.2.1, q.2.2.1, fun k hk => by rw [pwp_o M (by omega)]; exact q.2.2.2 k hk⟩
  · by_cases q : j = i
    · subst q
      rw [un_s, un_s, pk_us]
      exact ⟨rfl, fun _ => rfl, fun q => ⟨hm q, fun k hk => pwp_i M (by rw [eM q]; exact hk)⟩⟩
    · have ne : z j ≠ z i := fun w => q (hzi j i (by omega) hi w)
      have r := b j (by omega)
      rw [un_n ne, un_n ne, pk_un ne]
      refine ⟨r.1, r.2.1, fun w => ⟨(r.2.2 w).1, fun k hk => ?_⟩⟩
      have := hm3 j (by omega) w
      rw [pwp_o M (by omega)]
      exact (r.2.2 w).2 k hk
  · have ne : z j ≠ z i := fun w => by have := hzi j i h2 hi w; omega
    rw [un_n ne]
    exact c j (by omega) h2
  · by_cases q : j = tn'
    · exact ⟨i, hi, by rw [q, un_s]⟩
    · rw [un_n q]; exact g j h1 (by omega)
section
variable {f_used : Int64} {f_roots : Int64} {f_asked : Int64} {f_trailed : Int32} {f_bound : Int32} {f_pairs : Int32} {f_drafted : Int32} {f_noted : Int32} {f_trials : Int32} {f_mets : Int32} {f_classes : Int32} {a_up : Nat → Int32} {a_kind : Nat → Int32} {a_many : Nat → Int32} {a_parts : Nat → Int32} {a_value : Nat → Int32} {a_trail : Nat → Int32} {a_left : Nat → Int32} {a_right : Nat → Int32} {a_draft : Nat → Int32} {a_stands : Nat → Int32} {a_testX : Nat → Int32} {a_testY : Nat → Int32} {a_triggerX : Nat → Int32} {a_triggerY : Nat → Int32} {a_ends : Nat → Int32} {a_notes : Nat → Int32} {a_oldUsed : Nat → Int64} {a_oldRoots : Nat → Int64} {a_oldAsked : Nat → Int64} {a_oldStands : Nat → Int32} {a_oldTestX : Nat → Int32} {a_oldTestY : Nat → Int32} {a_oldTriggerX : Nat → Int32} {a_oldTriggerY : Nat → Int32} {a_oldEnds : Nat → Int32} {a_oldTrailed : Nat → Int32} {a_oldNoted : Nat → Int32} {a_met : Nat → Int32} {a_classOf : Nat → Int32} {a_finer : Nat → Int32} {a_image : Nat → Int32} {a_seen : Nat → Int32} {a_stack : Nat → Int32} {a_deep : Nat → Int32} {a_company : Nat → Int64} {a_greeted : Nat → Int64}
variable {p kd mn pt tr T rk z t co : Nat → Nat} {tn n : Nat} {used : Int64} {ix : Nat → Nat → Nat}
theorem xw_cp208 {post : Int32 → SX → Prop} {U : Nat → Prop} {kd0 mn0 pt0 tr0 : Nat → Nat} {tn0 x : Nat} {val0 : Nat → Int32} (F : Fo (uB used) p T rk) (hup : ∀ x, U x → uB used x) (hn : n ≤ 48) (hn0 : 0 < n) (hx : U x) (ex : T x = t 0) (hz : ∀ i, i < n → z i < 48 ∧ ¬ U (z i)) (hz2 : ∀ i, i < n → uB used (z i)) (hzi : ∀ i j, i < n → j < n → z i = z j → i = j) (htU : ∀ i, i < n → U (t i)) (hd : ∀ i, i < n → kd0 (t i) ≤ 2 ∧ (kd0 (t i) = 2 → mn0 (t i) ≤ 3 ∧ ∀ k, k < mn0 (t i) → U (pt0 (3 * t i + k)) ∧ ix i k < n ∧ a_classOf (T (pt0 (3 * t i + k))) = nI (co (t (ix i k))))) (hcl : ∀ i, i < n → a_classOf (t i) = nI (co (t i)) ∧ co (t i) < 48) (him : ∀ i, i < n → a_image (co (t i)) = nI (z i)) (ha : Ar a_met t n) (H : ∀ kd mn pt tr tn a_value, FI n z t ix U (uB used) p kd0 mn0 pt0 tr0 tn0 val0 n kd mn pt tr tn a_value → wpX_again (fun u => match u with
    | (f_used, f_roots, f_asked, f_trailed, f_bound, f_pairs, f_drafted, f_noted, f_trials, f_mets, f_classes, a_up, a_kind, a_many, a_parts, a_value, a_trail, a_left, a_right, a_draft, a_stands, a_testX, a_testY, a_triggerX, a_triggerY, a_ends, a_notes, a_oldUsed, a_oldRoots, a_oldAsked, a_oldStands, a_oldTestX, a_oldTestY, a_oldTriggerX, a_oldTriggerY, a_oldEnds, a_oldTrailed, a_oldNoted, a_met, a_classOf, a_finer, a_image, a_seen, a_stack, a_deep, a_company, a_greeted) => post (nI (z 0)) (f_used, f_roots, f_asked, f_trailed, f_bound, f_pairs, f_drafted, f_noted, f_trials, f_mets, f_classes, a_up, a_kind, a_many, a_parts, a_value, a_trail, a_left, a_right, a_draft, a_stands, a_testX, a_testY, a_triggerX, a_triggerY, a_ends, a_notes, a_oldUsed, a_oldRoots, a_oldAsked, a_oldStands, a_oldTestX, a_oldTestY, a_oldTriggerX, a_oldTriggerY, a_oldEnds, a_oldTrailed, a_oldNoted, a_met, a_classOf, a_finer, a_image, a_seen, a_stack, a_deep, a_company, a_greeted)) (used, f_roots, f_asked, nI tn, f_bound, f_pairs, f_drafted, f_noted, f_trials, f_mets, f_classes, nA p, nA kd, nA mn, nA pt, a_value, nA tr, a_left, a_right, a_draft, a_stands, a_testX, a_testY, a_triggerX, a_triggerY, a_ends, a_notes, a_oldUsed, a_oldRoots, a_oldAsked, a_oldStands, a_oldTestX, a_oldTestY, a_oldTriggerX, a_oldTriggerY, a_oldEnds, a_oldTrailed, a_oldNoted, a_met, a_classOf, a_finer, a_image, a_seen, a_stack, a_deep, a_company, a_greeted)) : ∀ f i kd mn pt tr tn a_value, i ≤ n → n - i < f → FI n z t ix U (uB used) p kd0 mn0 pt0 tr0 tn0 val0 i kd mn pt tr tn a_value → wX_copy_208 post (nI x) (nI n) f (nI i) used f_roots f_asked (nI tn) f_bound f_pairs f_drafted f_noted f_trials f_mets f_classes (nA p) (nA kd) (nA mn) (nA pt) a_value (nA tr) a_left a_right a_draft a_stands a_testX a_testY a_triggerX a_triggerY a_ends a_notes a_oldUsed a_oldRoots a_oldAsked a_oldStands a_oldTestX a_oldTestY a_oldTriggerX a_oldTriggerY a_oldEnds a_oldTrailed a_oldNoted a_met a_classOf a_finer a_image a_seen a_stack a_deep a_company a_greeted := by
  intro f
  induction f with
  | zero => intro i _ _ _ _ _ _ _ h; omega
  | succ f ih =>
    intro i kd mn pt tr tn a_value hi hf h
    by_cases e : i = n
    · have e2 := e.symm
      subst e2
      have lT := fo_lt F (fo_T F (hup x hx))
      refine wh_t (a := n) (b := n) (by omega) (xw_top F (hup x hx) ?_)
      rw [cl_n (k := T x), ex, (hcl 0 hn0).1, cl_n (k := co (t 0)) (by have := (hcl 0 hn0).2; omega), him 0 hn0]
      rw [ex] at lT
      exact ⟨in_n lT, in_n (hcl 0 hn0).2, nm_e (H kd mn pt tr tn a_value h)⟩
    · have li : i < n := by omega
      have lt := fo_lt F (hup _ (htU i li))
      have lz := (hz i li).1
      have ne : t i ≠ z i := fun q => (hz i li).2 (by rw [← q]; exact htU i li)
      have a := h.1 (t i) (htU i li)
      have d := hd i li
      have hM3 : (if kd0 (t i) = 2 then mn0 (t i) else 0) ≤ 3 := by
        by_cases q : kd0 (t i) = 2
        · rw [if_pos q]; exact (d.2 q).1
        · rw [if_neg q]; omega
      refine wh_f (a := n) (b := i) (by omega) ⟨in_n (by omega), ?_⟩
      rw [cl_n (k := i), ha i li]
      refine xw_fill (M := if kd0 (t i) = 2 then mn0 (t i) else 0) (cl := co (t i)) (ds := fun k => z (ix i k)) (cq := fun k => co (t (ix i k))) F lt lz ne (fun q => ?_) (fun q => ?_) (by rw [a.1]; exact d.1) hM3 ⟨(hcl i li).1, (hcl i li).2, him i li⟩ (fun k hk => ?_) (by have := tr_le h.2.2.2.1; omega) (fun q => up1 (ih (i + 1) kd mn pt tr tn a_value (by omega) (by omega) (fi_0 li (by rw [← a.1]; exact q) h))) (fun q m hm => up1 (ih (i + 1) _ _ _ _ _ _ (by omega) (by omega) ?_))
      · rw [a.1] at q; rw [if_pos q, a.2.1]
      · rw [a.1] at q; rw [if_neg q]
      · have k2 : kd0 (t i) = 2 := by
          by_cases q : kd0 (t i) = 2
          · exact q
          · rw [if_neg q] at hk; omega
        rw [if_pos k2] at hk
        have g := (d.2 k2).2 k hk
        have m3 := (d.2 k2).1
        rw [a.2.2.2 k (by omega)]
        exact ⟨hup _ g.1, g.2.2, (hcl _ g.2.1).2, him _ g.2.1, by have := (hz _ g.2.1).1; show z (ix i k) < 128; omega⟩
      · rw [a.1] at q hm ⊢
        rw [a.2.2.1]
        rw [a.2.1] at hm
        exact fi_1 hz hz2 hzi (fun j hj w => ((hd j hj).2 w).1) htU li q hm (fun w => if_pos w) hM3 h
end
end
section
/-! copy: both sides step by step -/
theorem co_al {c : Vw} (W : VW c) {x m nc : Nat} {mt co : Nat → Nat} (hc : CLS c x m mt nc co) {u v : Nat} (hu : cU c u) (hv : cU c v) (ru : Rch c x (cT c u)) (rv : Rch c x (cT c v)) : co (cT c u) = co (cT c v) ↔ Alike c u v := by
  obtain ⟨i, hi, ei⟩ := hc.1.2.2.2.2 _ ru
  obtain ⟨j, hj, ej⟩ := hc.1.2.2.2.2 _ rv
  have := hc.2.2.2.2 i j hi hj
  rw [ei, ej] at this
  rw [this]
  exact ⟨fun q => al_l W hu (vw_TT W hu).symm (al_rr W hv (vw_TT W hv) q), fun q => al_l W (vw_T W hu) (vw_TT W hu) (al_rr W (vw_T W hv) (vw_TT W hv).symm q)⟩
theorem co_lt {c : Vw} {x m nc : Nat} {mt co : Nat → Nat} (hc : CLS c x m mt nc co) {u : Nat} (ru : Rch c x u) : co u < nc := by
  obtain ⟨i, hi, ei⟩ := hc.1.2.2.2.2 _ ru
  rw [← ei]
  exact hc.2.1 i hi
theorem ygi_n {c : Vw} (W : VW c) {x m nc f h : Nat} {mt co ym st : Nat → Nat} (hc : CLS c x m mt nc co) (g : YGI c x f ym h st) : f ≤ nc :=
  inj_le f nc (fun j => co (cT c (ym j))) (fun j hj => co_lt hc (g.1 j hj).2) fun i j hi hj e => g.2.1 i j hi hj ((co_al W hc (g.1 i hi).1 (g.1 j hj).1 (g.1 i hi).2 (g.1 j hj).2).1 e)
def TK (i : Nat) (z : Nat → Nat) (used used' : Int64) (p kd p' kd' tr : Nat → Nat) (tn : Nat) : Prop := (∀ x, uB used' x ↔ (uB used x ∨ Zm i z x)) ∧ (∀ x, uB used x → p' x = p x ∧ kd' x = kd x) ∧ (∀ j, j < i → p' (z j) = z j ∧ kd' (z j) = 0) ∧ TrOK (uB used') p' kd' tr tn
theorem fo_tk {i : Nat} {z p kd p' kd' tr T rk : Nat → Nat} {used used' : Int64} {tn : Nat} (F : Fo (uB used) p T rk) (hz : ∀ j, j < i → z j < 48 ∧ ¬ uB used (z j)) (h : TK i z used used' p kd p' kd' tr tn) : ∃ T', Fo (uB used') p' T' rk ∧ ∀ x, uB used x → T' x = T x := by
  obtain ⟨x1, x2, x3, _⟩ := h
  have nz : ∀ x, uB used x → ¬ Zm i z x := fun x hx ⟨j, hj, e⟩ => (hz j hj).2 (by rw [← e]; exact hx)
  obtain ⟨T', t1, t0⟩ : ∃ f : Nat → Nat, (∀ j, j < i → f (z j) = z j) ∧ ∀ x, ¬ Zm i z x → f x = T x := ⟨fun x => @ite Nat (Zm i z x) (Classical.propDecidable _) x (T x), fun j h => if_pos ⟨j, h, rfl⟩, fun x h => if_neg h⟩
  have tU : ∀ x, uB used x → T' x = T x := fun x h => t0 x (nz x h)
  have up : ∀ x, uB used x → uB used' x := fun x h => (x1 x).2 (Or.inl h)
  have uz : ∀ j, j < i → uB used' (z j) := fun j h => (x1 _).2 (Or.inr ⟨j, h, rfl⟩)
  refine ⟨T', fun x hx => ?_, tU⟩
  rcases (x1 x).1 hx with h | ⟨j, hj, rfl⟩
  · have f := F x h
    rw [(x2 x h).1, tU x h, tU _ f.2.1, (x2 _ f.2.2.1).1]
    exact ⟨f.1, up _ f.2.1, up _ f.2.2.1, f.2.2.2⟩
  · rw [(x3 j hj).1, t1 j hj, (x3 j hj).1]
    exact ⟨(hz j hj).1, uz j hj, uz j hj, rfl, rfl, fun _ => rfl, fun q => absurd rfl q⟩
theorem tk_z {i v : Nat} {z p kd p' kd' tr : Nat → Nat} {used used' : Int64} {tn : Nat} (hz : Zs used z) (hi : i < cnB (fU used) 48) (h : TK i z used used' p kd p' kd' tr tn) (h1 : ∀ y, y < v → bL used' y = true) (h2 : v < 48 → bL used' v = false) : v = z i := by
  have zi := hz i hi
  have nz : ¬ uB used' (z i) := fun q => by
    rcases (h.1 _).1 q with q | ⟨j, hj, q⟩
    · exact zi.2.1 q
    · have := zs_i hz hi (by omega) q
      omega
  have le : v ≤ z i := by
    by_cases q : v ≤ z i
    · exact q
    · exact absurd (h1 (z i) (by omega)) nz
  have nv : ¬ uB used' v := fun q => by
    have := h2 (by omega)
    have q : bL used' v = true := q
    rw [this] at q
    exact absurd q (by decide)
  have nu : ¬ uB used v := fun q => nv ((h.1 v).2 (Or.inl q))
  have lc := cnB_mono (f := fU used) le
  rw [zi.2.2] at lc
  by_cases e : cnB (fU used) v = i
  · exact zs_u nu zi.2.1 (by rw [e, zi.2.2])
  · have zc := hz (cnB (fU used) v) (by omega)
    have : v = z (cnB (fU used) v) := zs_u nu zc.2.1 zc.2.2.symm
    exact absurd ((h.1 v).2 (Or.inr ⟨_, by omega, this⟩)) nv
theorem tk_s {i : Nat} {z p kd p' kd' tr : Nat → Nat} {used used' : Int64} {tn : Nat} (hz : Zs used z) (hi : i < cnB (fU used) 48) (h : TK i z used used' p kd p' kd' tr tn) : TK (i + 1) z used (used' ||| ((1 : Int64) <<< ((nI (z i)).toInt64 &&& 63))) p kd (un p' (z i) (z i)) (un kd' (z i) 0) tr tn := by
  have zi := hz i hi
  have nz : ¬ uB used' (z i) := fun q => by
    rcases (h.1 _).1 q with q | ⟨j, hj, q⟩
    · exact zi.2.1 q
    · have := zs_i hz hi (by omega) q
      omega
  have hu : ∀ x, uB (used' ||| ((1 : Int64) <<< ((nI (z i)).toInt64 &&& 63))) x ↔ uB used' x ∨ x = z i := fun x => uB_take zi.1
  obtain ⟨a, b, c, d⟩ := h
  have ne : ∀ x, uB used' x → x ≠ z i := fun x hx q => nz (by rw [← q]; exact hx)
  refine ⟨fun x => ?_, fun x hx => ?_, fun j hj => ?_, fun j hj => ?_, d.2⟩
  · rw [hu, a]
    constructor
    · rintro ((q | ⟨j, hj, q⟩) | q)
      · exact Or.inl q
      · exact Or.inr ⟨j, by omega, q⟩
      · exact Or.inr ⟨i, by omega, q⟩
    · rintro (q | ⟨j, hj, q⟩)
      · exact Or.inl (Or.inl q)
      · by_cases e : j = i
        · exact Or.inr (by rw [q, e])
        · exact Or.inl (Or.inr ⟨j, by omega, q⟩)
  · have := ne x ((a x).2 (Or.inl hx))
    rw [un_n this, un_n this]
    exact b x hx
  · by_cases e : j = i
    · rw [e, un_s, un_s]; exact ⟨rfl, rfl⟩
    · have := ne (z j) ((a _).2 (Or.inr ⟨j, by omega, rfl⟩))
      rw [un_n this, un_n this]
      exact c j (by omega)
  · rcases d.1 j hj with ⟨q1, q2, q3⟩ | ⟨v, q1, q2, q3, q4⟩
    · exact Or.inl ⟨q1, (hu _).2 (Or.inl q2), by rw [un_n (ne _ q2)]; exact q3⟩
    · exact Or.inr ⟨v, q1, q2, (hu _).2 (Or.inl q3), by rw [un_n (ne _ q3)]; exact q4⟩
section
variable {f_trials : Int32} {f_drafted : Int32} {f_found : Int32} {a_s : Nat → Int32} {a_saved : Nat → Int32} {a_draft : Nat → Int32} {a_who : Nat → Int32} {a_met : Nat → Int32} {a_stack : Nat → Int32} {a_fresh : Nat → Int32} {a_deep : Nat → Int32} {a_alike : Nat → Int64} {a_meets : Nat → Int64}
/-- what the reference does behind its gathering -/
def YC (Q : Int32 → SY → Prop) (u : SY) : Prop := match u with
  | (f_trials, f_drafted, f_found, a_s, a_saved, a_draft, a_who, a_met, a_stack, a_fresh, a_deep, a_alike, a_meets) => ∃ n19 : Nat, wY_copy_19 Q f_trials f_drafted f_found n19 0 0 a_s a_saved a_draft a_who a_met a_stack a_fresh a_deep a_alike a_meets
end
section
variable {f_used : Int64} {f_roots : Int64} {f_asked : Int64} {f_trailed : Int32} {f_bound : Int32} {f_pairs : Int32} {f_drafted : Int32} {f_noted : Int32} {f_trials : Int32} {f_mets : Int32} {f_classes : Int32} {a_up : Nat → Int32} {a_kind : Nat → Int32} {a_many : Nat → Int32} {a_parts : Nat → Int32} {a_value : Nat → Int32} {a_trail : Nat → Int32} {a_left : Nat → Int32} {a_right : Nat → Int32} {a_draft : Nat → Int32} {a_stands : Nat → Int32} {a_testX : Nat → Int32} {a_testY : Nat → Int32} {a_triggerX : Nat → Int32} {a_triggerY : Nat → Int32} {a_ends : Nat → Int32} {a_notes : Nat → Int32} {a_oldUsed : Nat → Int64} {a_oldRoots : Nat → Int64} {a_oldAsked : Nat → Int64} {a_oldStands : Nat → Int32} {a_oldTestX : Nat → Int32} {a_oldTestY : Nat → Int32} {a_oldTriggerX : Nat → Int32} {a_oldTriggerY : Nat → Int32} {a_oldEnds : Nat → Int32} {a_oldTrailed : Nat → Int32} {a_oldNoted : Nat → Int32} {a_met : Nat → Int32} {a_classOf : Nat → Int32} {a_finer : Nat → Int32} {a_image : Nat → Int32} {a_seen : Nat → Int32} {a_stack : Nat → Int32} {a_deep : Nat → Int32} {a_company : Nat → Int64} {a_greeted : Nat → Int64}
variable {p kd mn pt tr T rk id z mt co : Nat → Nat} {tn x m nc : Nat} {used : Int64} {s w sv : Nat → Int32} {A : Nat → Int64}
variable {yf1 yf2 : Int32} {y1 y4 y5 : Nat → Int32} {y6 : Nat → Int64}
theorem xw_cp159 {post : Int32 → SX → Prop} {J73 : Int32 → Int32 → Int64 → Int64 → Int64 → Int32 → Int32 → Int32 → Int32 → Int32 → Int32 → Int32 → Int32 → (Nat → Int32) → (Nat → Int32) → (Nat → Int32) → (Nat → Int32) → (Nat → Int32) → (Nat → Int32) → (Nat → Int32) → (Nat → Int32) → (Nat → Int32) → (Nat → Int32) → (Nat → Int32) → (Nat → Int32) → (Nat → Int32) → (Nat → Int32) → (Nat → Int32) → (Nat → Int32) → (Nat → Int64) → (Nat → Int64) → (Nat → Int64) → (Nat → Int32) → (Nat → Int32) → (Nat → Int32) → (Nat → Int32) → (Nat → Int32) → (Nat → Int32) → (Nat → Int32) → (Nat → Int32) → (Nat → Int32) → (Nat → Int32) → (Nat → Int32) → (Nat → Int32) → (Nat → Int32) → (Nat → Int32) → (Nat → Int32) → (Nat → Int64) → (Nat → Int64) →  Prop} {x1 x3 : Int32} {t h M : Nat} (ht : t < 48) (k2 : kd t = 2) (hM : M ≤ 3) (hh : h + M ≤ 160) (hpt : ∀ j, j < M → pt (3 * t + j) < 48) (HJ : J73 (nI (h + M)) x3 used f_roots f_asked (nI tn) f_bound f_pairs f_drafted f_noted f_trials f_mets f_classes (nA p) (nA kd) (nA mn) (nA pt) a_value (nA tr) a_left a_right a_draft a_stands a_testX a_testY a_triggerX a_triggerY a_ends a_notes a_oldUsed a_oldRoots a_oldAsked a_oldStands a_oldTestX a_oldTestY a_oldTriggerX a_oldTriggerY a_oldEnds a_oldTrailed a_oldNoted a_met a_classOf a_finer a_image a_seen (psF a_stack h (fun j => pt (3 * t + j)) M M) a_deep a_company a_greeted) : ∀ n c, c ≤ M → M - c < n → wX_copy_159 post J73 x1 x3 (nI t) used f_roots f_asked (nI tn) f_bound f_pairs f_drafted f_noted f_trials f_mets f_classes n (nI (h + c)) (xi M c) (nA p) (nA kd) (nA mn) (nA pt) a_value (nA tr) a_left a_right a_draft a_stands a_testX a_testY a_triggerX a_triggerY a_ends a_notes a_oldUsed a_oldRoots a_oldAsked a_oldStands a_oldTestX a_oldTestY a_oldTriggerX a_oldTriggerY a_oldEnds a_oldTrailed a_oldNoted a_met a_classOf a_finer a_image a_seen (psF a_stack h (fun j => pt (3 * t + j)) M c) a_deep a_company a_greeted := by
  intro n
  induction n with
  | zero => intro c _ h; omega
  | succ n ih =>
    intro c hc hn
    by_cases e : c < M
    · rw [xi_lt e]
      have q := hpt (M - 1 - c) (by omega)
      refine br_f (nI_nn (by omega)) ⟨in_n ht, br_t (by rw [cl_n (k := t), nA_e, k2]; rfl) (up1 ?_)⟩
      rw [tri, cl_n (k := 3 * t + (M - 1 - c)), cl_n (k := h + c), nA_e, vb_k (by omega)]
      refine ⟨in_n (by omega), in_n (by omega), nmr _ psF_s (nmr (xi M (c + 1)) (xi_s e) (ih (c + 1) (by omega) (by omega)))⟩
    · have : c = M := by omega
      subst this
      rw [xi_ge e]
      exact br_t m1_neg HJ
theorem xw_cp159' {post : Int32 → SX → Prop} {J73 : Int32 → Int32 → Int64 → Int64 → Int64 → Int32 → Int32 → Int32 → Int32 → Int32 → Int32 → Int32 → Int32 → (Nat → Int32) → (Nat → Int32) → (Nat → Int32) → (Nat → Int32) → (Nat → Int32) → (Nat → Int32) → (Nat → Int32) → (Nat → Int32) → (Nat → Int32) → (Nat → Int32) → (Nat → Int32) → (Nat → Int32) → (Nat → Int32) → (Nat → Int32) → (Nat → Int32) → (Nat → Int32) → (Nat → Int64) → (Nat → Int64) → (Nat → Int64) → (Nat → Int32) → (Nat → Int32) → (Nat → Int32) → (Nat → Int32) → (Nat → Int32) → (Nat → Int32) → (Nat → Int32) → (Nat → Int32) → (Nat → Int32) → (Nat → Int32) → (Nat → Int32) → (Nat → Int32) → (Nat → Int32) → (Nat → Int32) → (Nat → Int32) → (Nat → Int64) → (Nat → Int64) →  Prop} {x1 x3 : Int32} {t h M : Nat} (ht : t < 48) (kt : kd t ≤ 2) (hM : M = if kd t = 2 then mn t else 0) (hM3 : M ≤ 3) (hh : h + M ≤ 160) (hpt : ∀ j, j < M → pt (3 * t + j) < 48) (HJ : J73 (nI (h + M)) x3 used f_roots f_asked (nI tn) f_bound f_pairs f_drafted f_noted f_trials f_mets f_classes (nA p) (nA kd) (nA mn) (nA pt) a_value (nA tr) a_left a_right a_draft a_stands a_testX a_testY a_triggerX a_triggerY a_ends a_notes a_oldUsed a_oldRoots a_oldAsked a_oldStands a_oldTestX a_oldTestY a_oldTriggerX a_oldTriggerY a_oldEnds a_oldTrailed a_oldNoted a_met a_classOf a_finer a_image a_seen (psF a_stack h (fun j => pt (3 * t + j)) M M) a_deep a_company a_greeted) : ∃ n, wX_copy_159 post J73 x1 x3 (nI t) used f_roots f_asked (nI tn) f_bound f_pairs f_drafted f_noted f_trials f_mets f_classes n (nI h) (nI (mn t) - 1) (nA p) (nA kd) (nA mn) (nA pt) a_value (nA tr) a_left a_right a_draft a_stands a_testX a_testY a_triggerX a_triggerY a_ends a_notes a_oldUsed a_oldRoots a_oldAsked a_oldStands a_oldTestX a_oldTestY a_oldTriggerX a_oldTriggerY a_oldEnds a_oldTrailed a_oldNoted a_met a_classOf a_finer a_image a_seen a_stack a_deep a_company a_greeted := by
  by_cases k2 : kd t = 2
  · rw [if_pos k2] at hM
    rw [← hM, xi_0]
    have : wX_copy_159 post J73 x1 x3 (nI t) used f_roots f_asked (nI tn) f_bound f_pairs f_drafted f_noted f_trials f_mets f_classes (M + 1) (nI (h + 0)) (xi M 0) (nA p) (nA kd) (nA mn) (nA pt) a_value (nA tr) a_left a_right a_draft a_stands a_testX a_testY a_triggerX a_triggerY a_ends a_notes a_oldUsed a_oldRoots a_oldAsked a_oldStands a_oldTestX a_oldTestY a_oldTriggerX a_oldTriggerY a_oldEnds a_oldTrailed a_oldNoted a_met a_classOf a_finer a_image a_seen (psF a_stack h (fun j => pt (3 * t + j)) M 0) a_deep a_company a_greeted := xw_cp159 ht k2 hM3 hh hpt HJ (M + 1) 0 (by omega) (by omega)
    rw [psF_0] at this
    exact ⟨M + 1, this⟩
  · rw [if_neg k2] at hM
    subst hM
    rw [psF_0] at HJ
    refine ⟨1, br_c (fun _ => HJ) fun _ => ⟨in_n ht, br_f (fun z => k2 ?_) HJ⟩⟩
    rw [cl_n (k := t), nA_e] at z
    exact nI_inj (b := 2) z
theorem ls_cp73 {GY : (Int32 → SY → Prop) → Prop} {post : Int32 → SX → Prop} (F : Fo (uB used) p T rk) (D : XD (uB used) p kd mn pt) (Y : YR (xv (uB used) T kd mn pt a_value) id s) (hw : Who (xv (uB used) T kd mn pt a_value) s w) (hA : AlOK (xv (uB used) T kd mn pt a_value) A) (hx : uB used x) (hc : CLS (xv (uB used) T kd mn pt a_value) x m mt nc co) (hcl : ∀ i, i < m → a_classOf (mt i) = nI (co (mt i))) (hz : Zs used z) (hnU : nc ≤ cnB (fU used) 48)
    (H : ∀ used' p' kd' ym a_met a_image a_stack b y2, TK nc z used used' p kd p' kd' tr tn → YGOK (xv (uB used) T kd mn pt a_value) x nc ym → 0 < nc → T (ym 0) = T x → Ar y2 ym nc → Ar a_met (fun j => T (ym j)) nc → (∀ j, j < nc → a_image (co (T (ym j))) = nI (z j)) → (∀ Q, YC Q (yf1, yf2, nI nc, s, sv, y1, w, y2, b, y4, y5, A, y6) → GY Q) → ∃ n, wX_copy_208 post (nI x) (nI nc) n 0 used' f_roots f_asked (nI tn) f_bound f_pairs f_drafted f_noted f_trials f_mets f_classes (nA p') (nA kd') (nA mn) (nA pt) a_value (nA tr) a_left a_right a_draft a_stands a_testX a_testY a_triggerX a_triggerY a_ends a_notes a_oldUsed a_oldRoots a_oldAsked a_oldStands a_oldTestX a_oldTestY a_oldTriggerX a_oldTriggerY a_oldEnds a_oldTrailed a_oldNoted a_met a_classOf a_finer a_image a_seen a_stack a_deep a_company a_greeted) :
    ∀ μ h i used' p' kd' ym st a_met a_image a_stack b y2, h + 4 * (48 - i) ≤ μ → h ≤ 1 + 2 * i → TK i z used used' p kd p' kd' tr tn → YGI (xv (uB used) T kd mn pt a_value) x i ym h st → Ar y2 ym i → Ar b st h → Sk (uB used) T a_stack b h → Ar a_met (fun j => T (ym j)) i → (∀ q, q < nc → (∃ j, j < i ∧ co (T (ym j)) = q ∧ a_image q = nI (z j)) ∨ (a_image q = -1 ∧ ∀ j, j < i → co (T (ym j)) ≠ q)) → ((i = 0 ∧ h = 1 ∧ st 0 = x) ∨ (0 < i ∧ T (ym 0) = T x)) → (∀ Q, (∃ n, wY_gather_21 (YC Q) yf1 yf2 n (nI h) (nI i) s sv y1 w y2 b y4 y5 A y6) → GY Q) → ∃ n, wX_copy_73 post (nI x) n (nI h) (nI i) used' f_roots f_asked (nI tn) f_bound f_pairs f_drafted f_noted f_trials f_mets f_classes (nA p') (nA kd') (nA mn) (nA pt) a_value (nA tr) a_left a_right a_draft a_stands a_testX a_testY a_triggerX a_triggerY a_ends a_notes a_oldUsed a_oldRoots a_oldAsked a_oldStands a_oldTestX a_oldTestY a_oldTriggerX a_oldTriggerY a_oldEnds a_oldTrailed a_oldNoted a_met a_classOf a_finer a_image a_seen a_stack a_deep a_company a_greeted := by
  have W : VW (xv (uB used) T kd mn pt a_value) := xv_W F D
  have fin : ∀ i used' p' kd' ym st a_met a_image a_stack b y2, TK i z used used' p kd p' kd' tr tn → YGI (xv (uB used) T kd mn pt a_value) x i ym 0 st → Ar y2 ym i → Ar a_met (fun j => T (ym j)) i → (∀ q, q < nc → (∃ j, j < i ∧ co (T (ym j)) = q ∧ a_image q = nI (z j)) ∨ (a_image q = -1 ∧ ∀ j, j < i → co (T (ym j)) ≠ q)) → (0 < i ∧ T (ym 0) = T x) → (∀ Q, (∃ n, wY_gather_21 (YC Q) yf1 yf2 n (nI 0) (nI i) s sv y1 w y2 b y4 y5 A y6) → GY Q) → ∃ n, wX_copy_73 post (nI x) n (nI 0) (nI i) used' f_roots f_asked (nI tn) f_bound f_pairs f_drafted f_noted f_trials f_mets f_classes (nA p') (nA kd') (nA mn) (nA pt) a_value (nA tr) a_left a_right a_draft a_stands a_testX a_testY a_triggerX a_triggerY a_ends a_notes a_oldUsed a_oldRoots a_oldAsked a_oldStands a_oldTestX a_oldTestY a_oldTriggerX a_oldTriggerY a_oldEnds a_oldTrailed a_oldNoted a_met a_classOf a_finer a_image a_seen a_stack a_deep a_company a_greeted := by
    intro i used' p' kd' ym st a_met a_image a_stack b y2 tk g hm ha hi h0 HY
    have ok := ygi_end W (x := x) hx g
    have en := cls_eq W (x := x) hx hc ok
    subst en
    refine ⟨1, wh_t (a := 0) (b := 0) (by omega) (H used' p' kd' ym a_met a_image a_stack b y2 tk ok h0.1 h0.2 hm ha (fun j hj => ?_) fun Q hQ => HY Q ⟨1, wh_t (a := 0) (b := 0) (by omega) hQ⟩)⟩
    have rj := g.1 j hj
    rcases hi _ (co_lt hc rj.2) with ⟨j', hj', e, q⟩ | ⟨_, q⟩
    · have rj' := g.1 j' hj'
      have : j' = j := g.2.1 j' j hj' hj ((co_al W hc rj'.1 rj.1 rj'.2 rj.2).1 e)
      rw [this] at q
      exact q
    · exact absurd rfl (q j hj)
  intro μ
  induction μ with
  | zero =>
    intro h i used' p' kd' ym st a_met a_image a_stack b y2 hμ hh tk g hm hb hs ha hi h0 HY
    have f48 := ygi_le W g
    have : h = 0 := by omega
    subst this
    exact fin i used' p' kd' ym st a_met a_image a_stack b y2 tk g hm ha hi (h0.elim (fun q => absurd q.2.1 (by decide)) fun q => q) HY
  | succ μ ih =>
    intro h i used' p' kd' ym st a_met a_image a_stack b y2 hμ hh tk g hm hb hs ha hi h0 HY
    have f48 := ygi_le W g
    cases h with
    | zero => exact fin i used' p' kd' ym st a_met a_image a_stack b y2 tk g hm ha hi (h0.elim (fun q => absurd q.2.1 (by decide)) fun q => q) HY
    | succ h =>
      obtain ⟨xx, yy, ex, ey, ux, uy, eT⟩ := hs h (by omega)
      have gh := g.2.2.1 h (by omega)
      have gU : uB used (st h) := gh.1
      have eyy : yy = st h := nI_inj (ey.symm.trans (hb h (by omega))) (by have := fo_lt F uy; omega) (by have := fo_lt F gU; omega)
      subst eyy
      have m3 := vw_M W gh.1
      have inc := ygi_n W hc g
      have hzj : ∀ j, j < i → z j < 48 ∧ ¬ uB used (z j) := fun j hj => ⟨(hz j (by omega)).1, (hz j (by omega)).2.1⟩
      obtain ⟨T', F', eT'⟩ := fo_tk F hzj tk
      have up : ∀ x, uB used x → uB used' x := fun x h => (tk.1 x).2 (Or.inl h)
      have lt := fo_lt F (fo_T F ux)
      have rT : Rch (xv (uB used) T kd mn pt a_value) x (T (st h)) := gh.2
      have cx := co_lt hc rT
      obtain ⟨mi, lmi, emi⟩ := hc.1.2.2.2.2 _ rT
      have ncm := hc.2.2.1
      have m48 := hc.1.2.1
      have ecl : a_classOf (T (st h)) = nI (co (T (st h))) := by rw [← emi]; exact hcl mi lmi
      have lt2 : T (st h) < 48 := fo_lt F (fo_T F gU)
      by_cases e : ∃ j, j < i ∧ Alike (xv (uB used) T kd mn pt a_value) (ym j) (st h)
      · obtain ⟨n, hn⟩ := ih h i used' p' kd' ym st a_met a_image a_stack b y2 (by omega) (by omega) tk (ygi_skip W g e) hm (ar_le hb (by omega)) (sk_le hs (by omega)) ha hi (h0.elim (fun q => by
            obtain ⟨j, hj, _⟩ := e
            have := q.1
            omega) fun q => Or.inr q) fun Q hQ => HY Q (yg_skip W hA gh.1 f48 (by omega) hm (fun j hj => (g.1 j hj).1) (hb h (by omega)) e hQ)
        refine ⟨n + 1, wh_f (a := h + 1) (b := 0) (by omega) (nmr (nI h) (pk_m1 h) ⟨in_n (by omega), ?_⟩)⟩
        rw [cl_n (k := h), ex]
        refine xw_top F' (up _ ux) ?_
        rw [eT' xx ux, eT, cl_n (k := T (st h)), ecl]
        refine ⟨in_n lt2, nm_e ?_⟩
        rw [cl_n (k := co (T (st h)))]
        refine ⟨in_n (by omega), ?_⟩
        rcases hi _ cx with ⟨j, hj, _, q⟩ | ⟨_, q⟩
        · rw [q]
          exact br_f (nI_nn (by have := (hzj j hj).1; omega)) hn
        · obtain ⟨j, hj, al⟩ := e
          have rj := g.1 j hj
          exact absurd ((co_al W hc rj.1 gh.1 rj.2 gh.2).2 al) (q j hj)
      · have img : a_image (co (T (st h))) = -1 ∧ ∀ j, j < i → co (T (ym j)) ≠ co (T (st h)) := by
          rcases hi _ cx with ⟨j, hj, q, _⟩ | q
          · have rj := g.1 j hj
            exact absurd ⟨j, hj, (co_al W hc rj.1 gh.1 rj.2 gh.2).1 q⟩ e
          · exact q
        have eP : ∀ k, cP (xv (uB used) T kd mn pt a_value) (st h) k = pt (3 * T (st h) + k) := fun k => rfl
        have eM : cM (xv (uB used) T kd mn pt a_value) (st h) = if kd (T (st h)) = 2 then mn (T (st h)) else 0 := rfl
        have g1 := ygi_new W (st' := fun j => if j < h then st j else cP (xv (uB used) T kd mn pt a_value) (st h) (cM (xv (uB used) T kd mn pt a_value) (st h) - 1 - (j - h))) g e (fun j hj => if_pos hj) fun i hi => by
          show cU (xv (uB used) T kd mn pt a_value) (if h + i < h then st (h + i) else cP (xv (uB used) T kd mn pt a_value) (st h) (cM (xv (uB used) T kd mn pt a_value) (st h) - 1 - (h + i - h))) ∧ cT (xv (uB used) T kd mn pt a_value) (if h + i < h then st (h + i) else cP (xv (uB used) T kd mn pt a_value) (st h) (cM (xv (uB used) T kd mn pt a_value) (st h) - 1 - (h + i - h))) = _
          rw [if_neg (by omega), show h + i - h = i by omega]
          exact ⟨vw_P W gh.1 (by omega), rfl⟩
        have i48 := ygi_le W g1
        have inc1 := ygi_n W hc g1
        have iU : i < cnB (fU used) 48 := by omega
        have lzi := (hz i iU).1
        obtain ⟨q, hq, hpush⟩ := yg_new (f_trials := yf1) (f_drafted := yf2) (a_saved := sv) (a_draft := y1) (a_fresh := y4) (a_deep := y5) (a_meets := y6) (a_met := y2) (a_stack := b) W Y hw hA gh.1 (by omega) (by omega) (by omega) hm (fun j hj => (g.1 j hj).1) (hb h (by omega)) e
        have dt := D (T (st h)) (fo_T F gU) (fo_pT F gU)
        refine Exists.elim (ih (h + cM (xv (uB used) T kd mn pt a_value) (st h)) (i + 1) _ _ _ (un ym i (st h)) (fun j => if j < h then st j else q (cM (xv (uB used) T kd mn pt a_value) (st h) - 1 - (j - h))) (upd a_met i (nI (T (st h)))) (upd a_image (co (T (st h))) (nI (z i))) (psF a_stack h (fun j => pt (3 * T (st h) + j)) (cM (xv (uB used) T kd mn pt a_value) (st h)) (cM (xv (uB used) T kd mn pt a_value) (st h))) (psF b h q (cM (xv (uB used) T kd mn pt a_value) (st h)) (cM (xv (uB used) T kd mn pt a_value) (st h))) (upd y2 i (nI (st h))) (by omega) (by omega) (tk_s hz iU tk) (ygi_new W g e (fun j hj => if_pos hj) fun i hi => ?_) (ar_push hm) (fun j hj => ?_) (sk_push (sk_le hs (by omega)) fun j hj => ⟨vw_P W gh.1 hj, (hq j hj).1, (hq j hj).2.symm⟩) (fun j hj => ?_) (fun r hr => ?_) (Or.inr ⟨by omega, ?_⟩) fun Q hQ => HY Q (hpush _ hQ)) fun n hn => ?_
        · show cU (xv (uB used) T kd mn pt a_value) (if h + i < h then st (h + i) else q (cM (xv (uB used) T kd mn pt a_value) (st h) - 1 - (h + i - h))) ∧ cT (xv (uB used) T kd mn pt a_value) (if h + i < h then st (h + i) else q (cM (xv (uB used) T kd mn pt a_value) (st h) - 1 - (h + i - h))) = _
          rw [if_neg (by omega), show h + i - h = i by omega]
          exact hq _ (by omega)
        · show psF b h q (cM (xv (uB used) T kd mn pt a_value) (st h)) (cM (xv (uB used) T kd mn pt a_value) (st h)) j = nI (if j < h then st j else q (cM (xv (uB used) T kd mn pt a_value) (st h) - 1 - (j - h)))
          by_cases z : j < h
          · rw [psF_lo z, if_pos z]; exact hb j (by omega)
          · obtain ⟨i, rfl⟩ : ∃ i, j = h + i := ⟨j - h, by omega⟩
            rw [psF_hi (by omega), if_neg z, show h + i - h = i by omega]
        · show upd a_met i (nI (T (st h))) j = nI (T (un ym i (st h) j))
          by_cases w : j = i
          · rw [w, pk_us, un_s]
          · rw [pk_un w, un_n w]; exact ha j (by omega)
        · by_cases w : r = co (T (st h))
          · exact Or.inl ⟨i, by omega, by rw [un_s, w], by rw [w, pk_us]⟩
          · rw [pk_un w]
            refine (hi r hr).imp (fun ⟨j, hj, w1, w2⟩ => ⟨j, by omega, by rw [un_n (by omega)]; exact w1, w2⟩) fun ⟨w1, w2⟩ => ⟨w1, fun j hj => ?_⟩
            by_cases w3 : j = i
            · rw [w3, un_s]; exact fun w4 => w w4.symm
            · rw [un_n w3]; exact w2 j (by omega)
        · rcases h0 with ⟨w1, w2, w3⟩ | ⟨w1, w2⟩
          · have : h = 0 := by omega
            subst this
            rw [w1, un_s, w3]
          · rw [un_n (by omega)]; exact w2
        · refine ⟨n + 1, wh_f (a := h + 1) (b := 0) (by omega) (nmr (nI h) (pk_m1 h) ⟨in_n (by omega), ?_⟩)⟩
          rw [cl_n (k := h), ex]
          refine xw_top F' (up _ ux) ?_
          rw [eT' xx ux, eT, cl_n (k := T (st h)), ecl]
          refine ⟨in_n lt2, nm_e ?_⟩
          rw [cl_n (k := co (T (st h))), img.1]
          refine ⟨in_n (by omega), br_t m1_neg (xw_spare fun v lv l1 l2 => ?_)⟩
          have ev := tk_z hz iU tk l1 l2
          subst ev
          refine xw_take lzi ?_
          dsimp only
          rw [vb_2 (by omega), cl_n (k := i), vb_2 (by omega)]
          refine ⟨in_n (by omega), nm_e (up1 ⟨in_n (by omega), nm_e ⟨in_n lt2, ?_⟩⟩)⟩
          have nzt : T (st h) ≠ z i := fun w => (hz i iU).2.1 (by rw [← w]; exact fo_T F gU)
          have kdt : un kd' (z i) 0 (T (st h)) = kd (T (st h)) := by rw [un_n nzt]; exact (tk.2.1 _ (fo_T F gU)).2
          exact nm_e (xw_cp159' (kd := un kd' (z i) 0) (M := cM (xv (uB used) T kd mn pt a_value) (st h)) lt2 (by rw [kdt]; exact dt.1) (by rw [kdt]; exact eM) m3 (by omega) (fun j hj => fo_lt F (vw_P W gh.1 hj)) hn)
end
end
section
/-! copy -/
theorem cnB_not (f : Nat → Bool) : ∀ n, cnB f n + cnB (fun y => !f y) n = n
  | 0 => rfl
  | n + 1 => by
    have h1 : cnB f (n + 1) = cnB f n + b01 (f n) := rfl
    have h2 : cnB (fun y => !f y) (n + 1) = cnB (fun y => !f y) n + b01 (!f n) := rfl
    have := cnB_not f n
    have e : b01 (f n) + b01 (!f n) = 1 := by cases f n <;> rfl
    omega
section
variable {f_used : Int64} {f_roots : Int64} {f_asked : Int64} {f_trailed : Int32} {f_bound : Int32} {f_pairs : Int32} {f_drafted : Int32} {f_noted : Int32} {f_trials : Int32} {f_mets : Int32} {f_classes : Int32} {a_up : Nat → Int32} {a_kind : Nat → Int32} {a_many : Nat → Int32} {a_parts : Nat → Int32} {a_value : Nat → Int32} {a_trail : Nat → Int32} {a_left : Nat → Int32} {a_right : Nat → Int32} {a_draft : Nat → Int32} {a_stands : Nat → Int32} {a_testX : Nat → Int32} {a_testY : Nat → Int32} {a_triggerX : Nat → Int32} {a_triggerY : Nat → Int32} {a_ends : Nat → Int32} {a_notes : Nat → Int32} {a_oldUsed : Nat → Int64} {a_oldRoots : Nat → Int64} {a_oldAsked : Nat → Int64} {a_oldStands : Nat → Int32} {a_oldTestX : Nat → Int32} {a_oldTestY : Nat → Int32} {a_oldTriggerX : Nat → Int32} {a_oldTriggerY : Nat → Int32} {a_oldEnds : Nat → Int32} {a_oldTrailed : Nat → Int32} {a_oldNoted : Nat → Int32} {a_met : Nat → Int32} {a_classOf : Nat → Int32} {a_finer : Nat → Int32} {a_image : Nat → Int32} {a_seen : Nat → Int32} {a_stack : Nat → Int32} {a_deep : Nat → Int32} {a_company : Nat → Int64} {a_greeted : Nat → Int64}
theorem xw_cp37 {post : Int32 → SX → Prop} {x nc : Nat} (lx : x < 48) (hnc : nc ≤ 48) (H : ∀ a_image, (∀ q, q < nc → a_image q = -1) → ∃ n73 : Nat, wX_copy_73 post (nI x) n73 (nI 1) (nI 0) f_used f_roots f_asked f_trailed f_bound f_pairs f_drafted f_noted f_trials f_mets (nI nc) a_up a_kind a_many a_parts a_value a_trail a_left a_right a_draft a_stands a_testX a_testY a_triggerX a_triggerY a_ends a_notes a_oldUsed a_oldRoots a_oldAsked a_oldStands a_oldTestX a_oldTestY a_oldTriggerX a_oldTriggerY a_oldEnds a_oldTrailed a_oldNoted a_met a_classOf a_finer a_image a_seen (upd a_stack 0 (nI x)) a_deep a_company a_greeted) : ∀ n k a_image, k ≤ nc → nc - k < n → (∀ q, q < k → a_image q = -1) → wX_copy_37 post (nI x) f_used f_roots f_asked f_trailed f_bound f_pairs f_drafted f_noted f_trials f_mets (nI nc) n (nI k) a_up a_kind a_many a_parts a_value a_trail a_left a_right a_draft a_stands a_testX a_testY a_triggerX a_triggerY a_ends a_notes a_oldUsed a_oldRoots a_oldAsked a_oldStands a_oldTestX a_oldTestY a_oldTriggerX a_oldTriggerY a_oldEnds a_oldTrailed a_oldNoted a_met a_classOf a_finer a_image a_seen a_stack a_deep a_company a_greeted := by
  intro n
  induction n with
  | zero => intro k _ _ h; omega
  | succ n ih =>
    intro k a_image hk hn h
    by_cases e : k = nc
    · refine wh_t (a := nc) (b := k) (by omega) (nmr (nI 1) (by decide) (nmr (upd a_stack 0 (nI x)) (by rw [vb_2 (by omega)]) (H a_image fun q hq => h q (by omega))))
    · refine wh_f (a := nc) (b := k) (by omega) ?_
      rw [cl_n (k := k), vb_m1]
      refine ⟨in_n (by omega), nm_e (up1 (ih (k + 1) _ (by omega) (by omega) fun q hq => ?_))⟩
      by_cases z : q = k
      · rw [z, pk_us]
      · rw [pk_un z]; exact h q (by omega)
end
section
variable {f_trials : Int32} {f_drafted : Int32} {f_found : Int32} {a_s : Nat → Int32} {a_saved : Nat → Int32} {a_draft : Nat → Int32} {a_who : Nat → Int32} {a_met : Nat → Int32} {a_stack : Nat → Int32} {a_fresh : Nat → Int32} {a_deep : Nat → Int32} {a_alike : Nat → Int64} {a_meets : Nat → Int64}
theorem ye_cp19 {used : Int64} {z : Nat → Nat} {f : Nat} (hz : Zs used z) (hf : f ≤ cnB (fU used) 48) (hs1 : ∀ x, uB used x → a_s (384 + x) = 1) (hs0 : ∀ x, x < 48 → ¬ uB used x → a_s (384 + x) = 0) : ∀ d x a_fresh, x + d = 48 → cnB (fU used) x ≤ f → (∀ j, j < cnB (fU used) x → a_fresh j = nI (z j)) → ∃ fr : Nat → Int32, (∀ j, j < f → fr j = nI (z j)) ∧ ∀ post : Int32 → SY → Prop, (∃ n75 : Nat, wY_copy_75 post n75 (nI 0) f_trials f_drafted (nI f) a_s a_saved a_draft a_who a_met a_stack fr a_deep a_alike a_meets) → ∃ n, wY_copy_19 post f_trials f_drafted (nI f) n (nI (cnB (fU used) x)) (nI x) a_s a_saved a_draft a_who a_met a_stack a_fresh a_deep a_alike a_meets := by
  have l48 := cnB_le (fU used) 48
  intro d
  induction d with
  | zero =>
    intro x a_fresh hx hl hfr
    have e : x = 48 := by omega
    subst e
    refine ⟨a_fresh, fun j hj => hfr j (by omega), fun post h => ⟨1, wh_t (a := 48) (b := 48) (by omega) ?_⟩⟩
    unfold wY_copy_62
    exact wh_t (a := f) (b := cnB (fU used) 48) hf h (by omega)
  | succ d ih =>
    intro x a_fresh hx hl hfr
    have lx : x < 48 := by omega
    have ls : cnB (fU used) (x + 1) = cnB (fU used) x + b01 (fU used x) := rfl
    have lm := cnB_mono (f := fU used) (a := x + 1) (b := 48) (by omega)
    by_cases q : f ≤ cnB (fU used) x
    · refine ⟨a_fresh, fun j hj => hfr j (by omega), fun post h => ⟨1, wh_f (a := 48) (b := x) (by omega) (wh_t (a := f) (b := cnB (fU used) x) q ?_ (by omega))⟩⟩
      unfold wY_copy_62
      exact wh_t (a := f) (b := cnB (fU used) x) q h (by omega)
    · by_cases hu : uB used x
      · have f0 : fU used x = false := ts_nt fun q => fU_t.1 q hu
        rw [f0, b01_f rfl] at ls
        obtain ⟨fr, g1, g2⟩ := ih (x + 1) a_fresh (by omega) (by omega) fun j hj => hfr j (by omega)
        refine ⟨fr, g1, fun post h => ?_⟩
        obtain ⟨n, hn⟩ := g2 post h
        rw [ls] at hn
        refine ⟨n + 1, wh_f (a := 48) (b := x) (by omega) (wh_f (a := f) (b := cnB (fU used) x) (by omega) ?_)⟩
        rw [aL_384, cl_n (k := 384 + x), hs1 x hu]
        exact ⟨in_n (by omega), br_f (by decide) (up1 hn)⟩
      · have f1 : fU used x = true := fU_t.2 hu
        rw [f1, b01_t rfl] at ls
        have ez : z (cnB (fU used) x) = x := zs_u (hz _ (by omega)).2.1 hu (hz _ (by omega)).2.2
        obtain ⟨fr, g1, g2⟩ := ih (x + 1) (upd a_fresh (cnB (fU used) x) (nI x)) (by omega) (by omega) fun j hj => by
          by_cases e2 : j = cnB (fU used) x
          · rw [e2, pk_us, ez]
          · rw [pk_un e2]; exact hfr j (by omega)
        refine ⟨fr, g1, fun post h => ?_⟩
        obtain ⟨n, hn⟩ := g2 post h
        rw [ls] at hn
        refine ⟨n + 1, wh_f (a := 48) (b := x) (by omega) (wh_f (a := f) (b := cnB (fU used) x) (by omega) ?_)⟩
        rw [aL_384, cl_n (k := 384 + x), cl_n (k := cnB (fU used) x)]
        exact ⟨in_n (by omega), br_t (hs0 x lx hu) (up1 ⟨in_n (by omega), nm_e (up1 hn)⟩)⟩
end
theorem i_vc_copy {k : Nat} {u : SX} {v : SY} (I : i_Rel k u v) (hk : k + 4 ≤ 2048) (v1 : Int32) : wpX_copy (fun r u' => wpY_copy (fun r' v' => r' = r ∧ i_Rel (k + 4) u' v') v v1) u v1 := by
  refine rel_el (P := fun u v => wpX_copy (fun r u' => wpY_copy (fun r' v' => r' = r ∧ i_Rel (k + 4) u' v') v v1) u v1) ?_ I
  intro f_bound f_mets f_classes a_value a_left a_right a_draft a_oldUsed a_oldRoots a_oldAsked a_oldStands a_oldTestX a_oldTestY a_oldTriggerX a_oldTriggerY a_oldEnds a_oldTrailed a_oldNoted a_met a_classOf a_finer a_image a_seen a_stack a_deep a_company a_greeted used roots asked p kd mn pt tr tn sd tx ty gx gy en N nt L dn dr yf3 s sv y1 w y2 y3 y4 y5 A y6 hM ⟨h1, h2, h3, h4, h5⟩
  have I' : i_Rel (k + 4) (used, roots, asked, nI tn, f_bound, 0, nI dn, nI N, nI L, f_mets, f_classes, nA p, nA kd, nA mn, nA pt, a_value, nA tr, a_left, a_right, a_draft, sd, tx, ty, gx, gy, en, nt, a_oldUsed, a_oldRoots, a_oldAsked, a_oldStands, a_oldTestX, a_oldTestY, a_oldTriggerX, a_oldTriggerY, a_oldEnds, a_oldTrailed, a_oldNoted, a_met, a_classOf, a_finer, a_image, a_seen, a_stack, a_deep, a_company, a_greeted) (nI L, nI dn, yf3, s, sv, y1, w, y2, y3, y4, y5, A, y6) := rel_mk hM ⟨h1, h2, by omega, h4, h5⟩
  unfold wpX_copy
  rcases us_or (uB used) v1 with ⟨x, lx, hx, rfl⟩ | hx
  · refine xu_t hM hx (br_f (by decide) ?_)
    have hM' := hM
    obtain ⟨⟨⟨T, rk, id, F, D, Y⟩, m1, m2, m3, m4, m5⟩, hT, hL⟩ := hM'
    have W : VW (xv (uB used) T kd mn pt a_value) := xv_W F D
    refine xw_classify F D hx fun m mt nc co a_met a_seen a_stack a_classOf a_finer hc ha hco => xw_count _ ?_
    have ncm := hc.2.2.1
    have m48 := hc.1.2.1
    have epc : pc used = cnB (bL used) 48 := cnB_cut (f := bL used) (a := 48) 16 fun i a b => ts_nt fun z => by have := m1.1 i z; omega
    have enu : cnB (bL used) 48 + cnB (fU used) 48 = 48 := cnB_not (bL used) 48
    have e48 : (48 : Int32) - nI (pc used) = nI (cnB (fU used) 48) := by
      rw [show (48 : Int32) = nI 48 from rfl, epc, pk_sub (by omega), show 48 - cnB (bL used) 48 = cnB (fU used) 48 by omega]
    have hs1 : ∀ x, uB used x → s (384 + x) = 1 := fun x hx => (Y.2.2.1 x hx).1
    have hs0 : ∀ x, x < 48 → ¬ uB used x → s (384 + x) = 0 := fun x hx hn => (Y.2.1 x hx hn).2.2
    obtain ⟨z, hz⟩ := zs_ex used
    rw [e48]
    by_cases hnU : nc ≤ cnB (fU used) 48
    · refine wh_t (a := nc) (b := cnB (fU used) 48) hnU (Exists.intro (nc + 1) (xw_cp37 lx (by omega) (fun a_image him0 => ?_) (nc + 1) 0 a_image (by omega) (by omega) fun q hq => absurd hq (by omega))) (by omega)
      obtain ⟨w', A', hw, hA, hrel⟩ := ye_relate (f_trials := nI L) (f_drafted := nI dn) (f_found := yf3) (a_saved := sv) (a_draft := y1) (a_who := w) (a_met := y2) (a_stack := y3) (a_fresh := y4) (a_deep := y5) (a_alike := A) (a_meets := y6) W Y
      refine ls_cp73 (GY := fun Q => wpY_copy Q (nI L, nI dn, yf3, s, sv, y1, w, y2, y3, y4, y5, A, y6) (nI x)) (w := w') (A := A') (sv := sv) (yf1 := nI L) (yf2 := nI dn) (y1 := y1) (y4 := y4) (y5 := y5) (y6 := y6) (z := z) F D Y hw hA hx hc hco hz hnU (fun used' p' kd' ym a_met a_image a_stack b yy2 tk ok hn0 e0 hm ham him HYf => ?_) 193 1 0 used p kd (fun _ => 0) (fun _ => x) a_met a_image (upd a_stack 0 (nI x)) (upd y3 0 (nI x)) y2 (by omega) (by omega) ⟨fun v => ⟨Or.inl, fun q => q.elim (fun q => q) fun ⟨j, hj, _⟩ => absurd hj (by omega)⟩, fun _ _ => ⟨rfl, rfl⟩, fun j hj => absurd hj (by omega), hT⟩ ⟨fun i hi => absurd hi (by omega), fun i j hi => absurd hi (by omega), fun j hj => ⟨hx, rc_0 _ _⟩, fun i hi => absurd hi (by omega), Or.inr ⟨0, by omega, al_r (c := (xv (uB used) T kd mn pt a_value)) hx⟩⟩ ar_0 (fun i hi => by rw [show i = 0 by omega, pk_us]) (fun j hj => by rw [show j = 0 by omega, pk_us, pk_us]; exact ⟨x, x, rfl, rfl, hx, hx, rfl⟩) ar_0 (fun q hq => Or.inr ⟨him0 q hq, fun j hj => absurd hj (by omega)⟩) (Or.inl ⟨rfl, rfl, rfl⟩) (fun Q hQ => ?_)
      · have hym : ∀ i, i < nc → uB used (ym i) ∧ T (ym i) = T (ym i) := fun i hi => ⟨(ok.2.1 i hi).1, rfl⟩
        have htT : ∀ i, i < nc → uB used (T (ym i)) ∧ T (T (ym i)) = T (ym i) := fun i hi => ⟨fo_T F (hym i hi).1, fo_TT F (hym i hi).1⟩
        have hzz : ∀ i, i < nc → z i < 48 ∧ ¬ uB used (z i) := fun i hi => ⟨(hz i (by omega)).1, (hz i (by omega)).2.1⟩
        have hzi : ∀ i j, i < nc → j < nc → z i = z j → i = j := fun i j hi hj e => zs_i hz (by omega) (by omega) e
        obtain ⟨wh, hwh⟩ : ∃ wh : Nat → Nat, ∀ i, i < nc → kd (T (ym i)) ≠ 0 → w' (ym i) = nI (wh i) ∧ uB used (wh i) ∧ T (wh i) = T (ym i) ∧ ¬ s (48 + wh i) = 0 := ⟨fun i => Classical.epsilon fun u => w' (ym i) = nI u ∧ uB used u ∧ T u = T (ym i) ∧ ¬ s (48 + u) = 0, fun i hi k0 => Classical.epsilon_spec (p := fun u => w' (ym i) = nI u ∧ uB used u ∧ T u = T (ym i) ∧ ¬ s (48 + u) = 0) (hw.1 (ym i) (hym i hi).1 k0)⟩
        have hdt : ∀ i, i < nc → kd (T (ym i)) ≤ 2 ∧ (kd (T (ym i)) = 2 → mn (T (ym i)) ≤ 3 ∧ ∀ k, k < mn (T (ym i)) → uB used (pt (3 * T (ym i) + k))) := fun i hi => D _ (htT i hi).1 (fo_topI F (htT i hi).1 (htT i hi).2)
        have hr : ∀ i, i < nc → kd (T (ym i)) = 2 → ∀ k, k < mn (T (ym i)) → Rch (xv (uB used) T kd mn pt a_value) x (T (pt (3 * T (ym i) + k))) := fun i hi k2 k hk => by
          have this : Rch (xv (uB used) T kd mn pt a_value) x (T (pt (3 * T (T (ym i)) + k))) := rc_s (ok.2.1 i hi).2 (k := k) (by rw [xv_M2 (by rw [(htT i hi).2]; exact k2), (htT i hi).2]; exact hk)
          rw [(htT i hi).2] at this
          exact this
        obtain ⟨ix, hix⟩ : ∃ ix : Nat → Nat → Nat, ∀ i, i < nc → kd (T (ym i)) = 2 → ∀ k, k < mn (T (ym i)) → ix i k < nc ∧ Alike (xv (uB used) T kd mn pt a_value) (ym (ix i k)) (T (pt (3 * T (ym i) + k))) := ⟨fun i k => Classical.epsilon fun j => j < nc ∧ Alike (xv (uB used) T kd mn pt a_value) (ym j) (T (pt (3 * T (ym i) + k))), fun i hi k2 k hk => Classical.epsilon_spec (p := fun j => j < nc ∧ Alike (xv (uB used) T kd mn pt a_value) (ym j) (T (pt (3 * T (ym i) + k)))) (ok.2.2.2 _ (hr i hi k2 k hk))⟩
        obtain ⟨fr, hfr, h19⟩ := ye_cp19 (f_trials := nI L) (f_drafted := nI dn) (a_saved := sv) (a_draft := y1) (a_who := w') (a_met := yy2) (a_stack := b) (a_deep := y5) (a_alike := A') (a_meets := y6) hz hnU hs1 hs0 48 0 y4 (by omega) (Nat.zero_le _) fun j hj => absurd hj (by rw [show cnB (fU used) 0 = 0 from rfl]; omega)
        obtain ⟨s', hs', h75⟩ := ye_cp75 (f_trials := nI L) (f_drafted := nI dn) (a_saved := sv) (a_draft := y1) (a_who := w') (a_met := yy2) (a_stack := b) (a_fresh := fr) (a_deep := y5) (a_alike := A') (a_meets := y6) (z := z) (t := fun i => T (ym i)) (wh := wh) (ix := ix) F D Y hw hA (by omega) hm hym (fun i j hi hj => ok.2.2.1 i j hi hj) hfr hzz hzi hwh hix nc 0 s (by omega) ⟨fun i hi => absurd hi (by omega), fun v hv _ => ⟨rfl, rfl, rfl, rfl, rfl, rfl, rfl, rfl, fun _ _ => rfl⟩, fun _ _ => rfl⟩
        obtain ⟨T', F', eT'⟩ := fo_tk F hzz tk
        have up : ∀ x, uB used x → uB used' x := fun x h => (tk.1 x).2 (Or.inl h)
        have hcl : ∀ v, Rch (xv (uB used) T kd mn pt a_value) x v → a_classOf v = nI (co v) := fun v hv => by
          obtain ⟨i, hi, e⟩ := hc.1.2.2.2.2 v hv
          rw [← e]; exact hco i hi
        refine Exists.intro (nc + 1) (xw_cp208 (z := z) (t := fun i => T (ym i)) (ix := ix) (co := co) (U := uB used) (kd0 := kd) (mn0 := mn) (pt0 := pt) (tr0 := tr) (tn0 := tn) (val0 := a_value) F' up (by omega) hn0 hx (by rw [eT' x hx]; exact e0.symm) hzz (fun i hi => (tk.1 _).2 (Or.inr ⟨i, hi, rfl⟩)) hzi (fun i hi => (htT i hi).1) (fun i hi => ⟨(hdt i hi).1, fun k2 => ⟨((hdt i hi).2 k2).1, fun k hk => ⟨((hdt i hi).2 k2).2 k hk, (hix i hi k2 k hk).1, ?_⟩⟩⟩) (fun i hi => ⟨hcl _ (ok.2.1 i hi).2, by have this : co (T (ym i)) < nc := co_lt hc (ok.2.1 i hi).2; omega⟩) him ham (fun kd2 mn2 pt2 tr2 tn2 val2 hFI => ?_) (nc + 1) 0 kd' mn pt tr tn a_value (by omega) (by omega) ⟨fun v hv => ⟨(tk.2.1 v hv).2, rfl, rfl, fun _ _ => rfl⟩, fun j hj => absurd hj (by omega), fun j _ hj => (tk.2.2.1 j hj).2, tk.2.2.2, Nat.le_refl _, fun _ _ => rfl, fun j a b => absurd a (by omega)⟩)
        · have pu := ((hdt i hi).2 k2).2 k hk
          have g := hix i hi k2 k hk
          have rp := hr i hi k2 k hk
          rw [eT' _ pu, hcl _ rp]
          have := (co_al W hc (u := ym (ix i k)) (v := T (pt (3 * T (ym i) + k))) (ok.2.1 _ g.1).1 (fo_T F pu) (ok.2.1 _ g.1).2 (by rw [xv_T, fo_TT F pu]; exact rp)).2 g.2
          rw [xv_T, xv_T, fo_TT F pu] at this
          rw [this]
        · have hM2 := copy_mid (n := nc) (z := z) (t := fun i => T (ym i)) (wh := wh) (ix := ix) (used' := used') (p' := p') (kd' := kd2) (mn' := mn2) (pt' := pt2) (tr' := tr2) (tn' := tn2) (val' := val2) (s' := s') hM F D Y hzz hzi htT (fun i hi k0 => (hwh i hi k0).2) (fun i hi k2 k hk => (hix i hi k2 k hk).1) ⟨tk.1, fun v hv => ⟨(tk.2.1 v hv).1, hFI.1 v hv⟩, fun i hi => ⟨(tk.2.2.1 i hi).1, hFI.2.1 i hi⟩⟩ hs' hFI.2.2.2.1 hFI.2.2.2.2.1 hFI.2.2.2.2.2.1 hFI.2.2.2.2.2.2
          refine xy_again (yf1 := nI L) (yf2 := nI dn) (yf3 := nI nc) (y1 := y1) (y2 := yy2) (y3 := b) (y4 := fr) (y5 := y5) (y6 := y6) (w := w') (A := A') (GY := fun post => ∀ Q : Int32 → SY → Prop, (fun v' : SY => match v' with
            | (f_trials, f_drafted, f_found, a_s, a_saved, a_draft, a_who, a_met, a_stack, a_fresh, a_deep, a_alike, a_meets) => Q (a_fresh 0) (f_trials, f_drafted, f_found, a_s, a_saved, a_draft, a_who, a_met, a_stack, a_fresh, a_deep, a_alike, a_meets)) = post → wpY_copy Q (nI L, nI dn, yf3, s, sv, y1, w, y2, y3, y4, y5, A, y6) (nI x)) hM2 h1 (by omega) (fun post hp Q e => ?_) ?_
          · subst e
            exact HYf Q (h19 Q (h75 Q hp))
          · intro f_bound a_left a_right p tr tn gx sd N' nt s w A g1 g2 g3 g4
            refine g4 (fun v' : SY => match v' with
              | (f_trials, f_drafted, f_found, a_s, a_saved, a_draft, a_who, a_met, a_stack, a_fresh, a_deep, a_alike, a_meets) => a_fresh 0 = nI (z 0) ∧ i_Rel (k + 4) _ (f_trials, f_drafted, f_found, a_s, a_saved, a_draft, a_who, a_met, a_stack, a_fresh, a_deep, a_alike, a_meets)) ⟨hfr 0 hn0, rel_mk g3 ⟨h1, g2, by omega, h4, h5⟩⟩ _ rfl
      · unfold wpY_copy
        refine yu_t hM hx (br_f (by decide) (hrel _ (nmr (nI 1) (by decide) (nm_e hQ))))
    · refine wh_f (a := nc) (b := cnB (fU used) 48) (by omega) ?_
      unfold wpY_copy
      refine yu_t hM hx (br_f (by decide) (yw_gather W Y (x := x) hx fun w A f ym y2 y3 _ _ ok _ => Exists.intro 49 ?_))
      have ef := cls_eq W (x := x) hx hc ok
      subst ef
      exact yw_cp19 hz ok.1 hs1 hs0 (fun q => absurd q hnU) (fun _ y4 => ⟨rfl, rel_mk hM ⟨h1, h2, by omega, h4, h5⟩⟩) 49 0 y4 (by omega) (by omega) (Nat.zero_le _) fun j hj => absurd hj (by rw [show cnB (fU used) 0 = 0 from rfl]; omega)
  · unfold wpY_copy
    exact xu_f hx (br_t rfl (yu_f hM hx (br_t rfl ⟨rfl, I'⟩)))
end
