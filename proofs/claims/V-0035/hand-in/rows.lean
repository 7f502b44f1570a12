section
/-! rows of kit/rows (starting texts): stores, naturals, branches, bits -/
theorem pk_us {f : Nat → Int32} {k : Nat} {x : Int32} : upd f k x k = x := if_pos rfl
theorem pk_un {f : Nat → Int32} {k j : Nat} {x : Int32} (h : j ≠ k) : upd f k x j = f j := if_neg h
theorem pk_sub {a b : Nat} (h : b ≤ a) : nI a - nI b = nI (a - b) := by
  obtain ⟨c, rfl⟩ : ∃ c, a = c + b := ⟨a - b, by omega⟩
  rw [← nI_add, Int32.add_sub_cancel, Nat.add_sub_cancel]
theorem pk_m1 (n : Nat) : nI (n + 1) + (-1) = nI n := by
  rw [← nI_1, Int32.add_assoc, show (1 : Int32) + (-1) = 0 from rfl, Int32.add_zero]
theorem pk_mul (a b : Nat) : nI a * nI b = nI (a * b) := (Int32.ofNat_mul a b).symm
theorem pk_ix (x : Int32) {n : Nat} (hn : n < 2 ^ 31) : x < 0 ∨ nI n ≤ x ∨ ∃ j : Nat, j < n ∧ x = nI j := by
  by_cases h : x < 0
  · exact Or.inl h
  · obtain ⟨j, hj, rfl⟩ := nI_of h
    by_cases h2 : j < n
    · exact Or.inr (Or.inr ⟨j, h2, rfl⟩)
    · exact Or.inr (Or.inl (nI_le (by omega) hj))
theorem pk_le {x y : Int32} {A B : Prop} (a b : Nat) (f : a ≤ b → A) (g : b < a → B) (hx : x = nI a := by rfl) (hy : y = nI b := by rfl) (ha : a < 2 ^ 31 := by omega) (hb : b < 2 ^ 31 := by omega) : (x ≤ y → A) ∧ (¬ x ≤ y → B) := by
  subst hx hy
  rw [nI_leI ha hb]
  exact ⟨f, fun z => g (by omega)⟩
theorem pk_lt {x y : Int32} {A B : Prop} (a b : Nat) (f : a < b → A) (g : b ≤ a → B) (hx : x = nI a := by rfl) (hy : y = nI b := by rfl) (ha : a < 2 ^ 31 := by omega) (hb : b < 2 ^ 31 := by omega) : (x < y → A) ∧ (¬ x < y → B) := by
  subst hx hy
  rw [nI_ltI ha hb]
  exact ⟨f, fun z => g (by omega)⟩
theorem pk_eq {x y : Int32} {A B : Prop} (a b : Nat) (f : a = b → A) (g : a ≠ b → B) (hx : x = nI a := by rfl) (hy : y = nI b := by rfl) (ha : a < 2 ^ 31 := by omega) (hb : b < 2 ^ 31 := by omega) : (x = y → A) ∧ (¬ x = y → B) := by
  subst hx hy
  rw [nI_eq ha hb]
  exact ⟨f, g⟩
theorem pk_in {x : Int32} (n N : Nat) (h : n < N) (hx : x = nI n := by rfl) (hN : N < 2 ^ 31 := by omega) : vp_in x N := by
  subst hx
  exact vp_in_nI h hN
theorem pk_cl {x : Int32} (n : Nat) (hx : x = nI n := by rfl) (h : n < 2 ^ 31 := by omega) : x.toNatClampNeg = n := by
  subst hx
  exact nI_clamp h
theorem pk_tn {n : Nat} (h : n < 2 ^ 32) : (nI n).toBitVec.toNat = n := Nat.mod_eq_of_lt h
theorem pk_ushr (x s : Int32) (k : Nat) (hs : ((s.toUInt32 &&& Int32.toUInt32 31).toBitVec % 32).toNat = k) : (x.toUInt32 >>> (s.toUInt32 &&& Int32.toUInt32 31)).toInt32.toBitVec.toNat = x.toBitVec.toNat / 2 ^ k := by
  have e : (x.toUInt32 >>> (s.toUInt32 &&& Int32.toUInt32 31)).toInt32.toBitVec = x.toBitVec >>> k := by
    rw [← hs]
    exact UInt32.toBitVec_shiftRight _ _
  rw [e, BitVec.toNat_ushiftRight, Nat.shiftRight_eq_div_pow]
theorem pk_ushrN {n : Nat} (hn : n < 2 ^ 32) (s : Int32) (k : Nat) (hs : ((s.toUInt32 &&& Int32.toUInt32 31).toBitVec % 32).toNat = k) : ((nI n).toUInt32 >>> (s.toUInt32 &&& Int32.toUInt32 31)).toInt32 = nI (n / 2 ^ k) := by
  apply Int32.toBitVec_inj.mp
  apply BitVec.eq_of_toNat_eq
  rw [pk_ushr _ s k hs, pk_tn hn, pk_tn (Nat.lt_of_le_of_lt (Nat.div_le_self _ _) hn)]
def bt (x : Int32) (i : Nat) : Bool := x.toBitVec.getLsbD i
theorem b_ext {x y : Int32} (h : ∀ i, i < 32 → bt x i = bt y i) : x = y := Int32.toBitVec_inj.mp (BitVec.eq_of_getLsbD_eq (fun i hi => h i hi))
theorem b_or (x y : Int32) (i : Nat) : bt (x ||| y) i = (bt x i || bt y i) := by unfold bt; rw [Int32.toBitVec_or, BitVec.getLsbD_or]
theorem b_and (x y : Int32) (i : Nat) : bt (x &&& y) i = (bt x i && bt y i) := by unfold bt; rw [Int32.toBitVec_and, BitVec.getLsbD_and]
theorem b_xor (x y : Int32) (i : Nat) : bt (x ^^^ y) i = (bt x i ^^ bt y i) := by unfold bt; rw [Int32.toBitVec_xor, BitVec.getLsbD_xor]
theorem b_big {x : Int32} {i : Nat} (h : 32 ≤ i) : bt x i = false := BitVec.getLsbD_of_ge _ _ h
theorem b_m1 : ∀ i, i < 32 → bt (-1) i = true := by decide +kernel
theorem b_0 (i : Nat) : bt 0 i = false := BitVec.getLsbD_zero
theorem s_l : ∀ n, n < 32 → ((nI n &&& 31).toBitVec.smod 32).toNat = n := by decide +kernel
theorem s_u : ∀ n, n < 32 → (((nI n).toUInt32 &&& Int32.toUInt32 31).toBitVec % 32).toNat = n := by decide +kernel
theorem b_shl (n : Nat) (hn : n < 32) (x : Int32) {i : Nat} (hi : i < 32) : bt (x <<< (nI n &&& 31)) i = (decide (n ≤ i) && bt x (i - n)) := by
  unfold bt
  rw [Int32.toBitVec_shiftLeft]
  show (x.toBitVec <<< ((nI n &&& 31).toBitVec.smod 32).toNat).getLsbD i = _
  rw [s_l n hn, BitVec.getLsbD_shiftLeft]
  rcases Nat.lt_or_ge i n with h | h
  · simp [h, Nat.not_le.mpr h]
  · simp [hi, h, Nat.not_lt.mpr h]
theorem b_ushr (n : Nat) (hn : n < 32) (x : Int32) (i : Nat) : bt ((x.toUInt32 >>> ((nI n).toUInt32 &&& Int32.toUInt32 31)).toInt32) i = bt x (n + i) := by
  show (x.toUInt32 >>> ((nI n).toUInt32 &&& Int32.toUInt32 31)).toBitVec.getLsbD i = x.toUInt32.toBitVec.getLsbD (n + i)
  rw [UInt32.toBitVec_shiftRight]
  show (x.toUInt32.toBitVec >>> (((nI n).toUInt32 &&& Int32.toUInt32 31).toBitVec % 32).toNat).getLsbD i = _
  rw [s_u n hn, BitVec.getLsbD_ushiftRight]
end
section
/-! numbers -/
theorem zl_sub1 (x : Int32) : x + (-1) = x - 1 := by rw [Int32.sub_eq_add_neg]
theorem zl_m64 (t : Nat) : nI t * 64 = nI (64 * t) := by rw [Nat.mul_comm]; exact pk_mul t 64
theorem zl_2m (a : Nat) : 2 * nI a = nI (2 * a) := pk_mul 2 a
theorem zl_neg1 : nI 0 - 1 = -1 := by decide +kernel
theorem zl_neg : (nI 0 - 1 : Int32) < 0 := by decide +kernel
theorem zl_m1neg : (-1 : Int32) < 0 := by decide +kernel
theorem zl_m1nn : ¬ (0 : Int32) ≤ -1 := by decide +kernel
theorem zl_nIm1 {n : Nat} (h : n < 2 ^ 31) : ¬ nI n = -1 := fun e => nI_pos h (e ▸ zl_m1neg)
theorem zl_half {a b : Nat} (h : a + b < 2 ^ 31) : ((nI a + nI b).toUInt32 >>> ((1 : Int32).toUInt32 &&& Int32.toUInt32 31)).toInt32 = nI ((a + b) / 2) := by
  rw [nI_add, pk_ushrN (by omega) 1 1 (by decide)]
theorem zl_nb0 : vp_nar .boolean 0 = 0 := rfl
theorem zl_nb1 : vp_nar .boolean 1 = 1 := rfl
theorem zl_one : (1 : Int32) = nI 1 := rfl
theorem zl_10 : ¬ (1 : Int32) = 0 := by decide +kernel
/-! lists in arrays -/
def zl_At (a : Nat → Int32) (b : Nat) (f : Nat → Nat) : List Nat → Prop
  | [] => True
  | x :: l => a b = nI (f x) ∧ zl_At a (b + 1) f l
theorem zl_at_nil {a : Nat → Int32} {b : Nat} {f : Nat → Nat} : zl_At a b f [] := trivial
theorem zl_at_app {a : Nat → Int32} {f : Nat → Nat} {l2 : List Nat} : ∀ {l1 : List Nat} {b : Nat}, zl_At a b f (l1 ++ l2) ↔ zl_At a b f l1 ∧ zl_At a (b + l1.length) f l2
  | [], b => ⟨fun h => ⟨trivial, h⟩, fun h => h.2⟩
  | x :: l, b => by
    have ih := zl_at_app (a := a) (f := f) (l2 := l2) (l1 := l) (b := b + 1)
    have e : b + (x :: l).length = b + 1 + l.length := by simp only [List.length_cons]; omega
    rw [e]
    exact ⟨fun h => ⟨⟨h.1, (ih.mp h.2).1⟩, (ih.mp h.2).2⟩, fun h => ⟨h.1.1, ih.mpr ⟨h.1.2, h.2⟩⟩⟩
theorem zl_at_fr {a a' : Nat → Int32} {f : Nat → Nat} : ∀ {l : List Nat} {b : Nat}, (∀ j, b ≤ j → j < b + l.length → a' j = a j) → zl_At a b f l → zl_At a' b f l
  | [], b, _, _ => trivial
  | x :: l, b, h, k => ⟨(h b (Nat.le_refl b) (by simp only [List.length_cons]; omega)).trans k.1, zl_at_fr (fun j h1 h2 => h j (by omega) (by simp only [List.length_cons]; omega)) k.2⟩
theorem zl_at_f {a : Nat → Int32} {f f' : Nat → Nat} : ∀ {l : List Nat} {b : Nat}, (∀ x, x ∈ l → f' x = f x) → zl_At a b f l → zl_At a b f' l
  | [], b, _, _ => trivial
  | x :: l, b, h, k => ⟨k.1.trans (congrArg nI (h x List.mem_cons_self).symm), zl_at_f (fun y hy => h y (List.mem_cons_of_mem x hy)) k.2⟩
theorem zl_at_mid {a : Nat → Int32} {f : Nat → Nat} {l1 l2 : List Nat} {b x : Nat} (h : zl_At a b f (l1 ++ x :: l2)) : a (b + l1.length) = nI (f x) := (zl_at_app.mp h).2.1
theorem zl_at_ix {a : Nat → Int32} {f : Nat → Nat} : ∀ {l : List Nat} {b i : Nat} (h : i < l.length), zl_At a b f l → a (b + i) = nI (f l[i])
  | [], b, i, h, _ => absurd h (Nat.not_lt_zero i)
  | x :: l, b, 0, h, k => k.1
  | x :: l, b, i + 1, h, k => by
    have := zl_at_ix (a := a) (f := f) (l := l) (b := b + 1) (i := i) (Nat.lt_of_succ_lt_succ h) k.2
    rw [show b + (i + 1) = b + 1 + i by omega]
    exact this
theorem zl_at_mem {a : Nat → Int32} {f : Nat → Nat} {l : List Nat} {b x : Nat} (h : zl_At a b f l) (hx : x ∈ l) : ∃ j, b ≤ j ∧ j < b + l.length ∧ a j = nI (f x) := by
  obtain ⟨l1, l2, rfl⟩ := List.append_of_mem hx
  exact ⟨b + l1.length, by omega, by simp only [List.length_append, List.length_cons]; omega, zl_at_mid h⟩
theorem zl_at_snoc {a : Nat → Int32} {f : Nat → Nat} {l : List Nat} {b x v : Nat} (h : zl_At a b f l) (e : f x = v) : zl_At (upd a (b + l.length) (nI v)) b f (l ++ [x]) :=
  zl_at_app.mpr ⟨zl_at_fr (fun j h1 h2 => pk_un (by omega)) h, ⟨by rw [pk_us, e], trivial⟩⟩
theorem zl_snoc (l : List Nat) : l = [] ∨ ∃ l' x, l = l' ++ [x] := by
  rcases List.eq_nil_or_concat l with h | ⟨l', x, h⟩
  · exact Or.inl h
  · exact Or.inr ⟨l', x, by rw [h, List.concat_eq_append]⟩
theorem zl_card {l1 l2 : List Nat} (h1 : l1.Nodup) (h2 : l2.Nodup) (h : ∀ n, n ∈ l1 ↔ n ∈ l2) : l1.length = l2.length :=
  Nat.le_antisymm (h1.length_le_of_subset (fun _ hx => (h _).mp hx)) (h2.length_le_of_subset (fun _ hx => (h _).mpr hx))
def zl_uL (L : Nat → List Nat) (t : Nat) (M : List Nat) : Nat → List Nat := fun j => if j = t then M else L j
theorem zl_uLs {L : Nat → List Nat} {t : Nat} {M : List Nat} : zl_uL L t M t = M := if_pos rfl
theorem zl_uLn {L : Nat → List Nat} {t j : Nat} {M : List Nat} (h : j ≠ t) : zl_uL L t M j = L j := if_neg h
def zl_un (f : Nat → Nat) (k v : Nat) : Nat → Nat := fun j => if j = k then v else f j
theorem zl_uns {f : Nat → Nat} {k v : Nat} : zl_un f k v k = v := if_pos rfl
theorem zl_unn {f : Nat → Nat} {k v j : Nat} (h : j ≠ k) : zl_un f k v j = f j := if_neg h
/-! the greatest of a property, 0 if none -/
def zg_M (P : Nat → Prop) (b : Nat) : Prop := (b = 0 ∨ P b) ∧ ∀ n, P n → n ≤ b
theorem zg_Mu {P : Nat → Prop} {b c : Nat} (h : zg_M P b) (k : zg_M P c) : b = c := by
  have h1 : b ≤ c := by
    rcases h.1 with e | e
    · omega
    · exact k.2 b e
  have h2 : c ≤ b := by
    rcases k.1 with e | e
    · omega
    · exact h.2 c e
  omega
theorem zg_Mc {P Q : Nat → Prop} {b : Nat} (h : zg_M P b) (e : ∀ n, P n ↔ Q n) : zg_M Q b :=
  ⟨h.1.elim Or.inl (fun z => Or.inr ((e b).mp z)), fun n z => h.2 n ((e n).mpr z)⟩
theorem zg_M0 {P : Nat → Prop} (h : ∀ n, P n → False) : zg_M P 0 := ⟨Or.inl rfl, fun n z => (h n z).elim⟩
/-! the decider -/
def zg_dc (al : Nat → Bool) (lo hi : Nat → Nat) (k : Nat) : Nat → Nat
  | 0 => 0
  | m + 1 => if al (m + 1) = true ∧ lo (m + 1) ≤ k ∧ k ≤ hi (m + 1) then m + 1 else zg_dc al lo hi k m
def zg_cv (al : Nat → Bool) (lo hi : Nat → Nat) (k m : Nat) (n : Nat) : Prop := al n = true ∧ lo n ≤ k ∧ k ≤ hi n ∧ n ≤ m
theorem zg_dcM (al : Nat → Bool) (lo hi : Nat → Nat) (k : Nat) : ∀ m, zg_M (zg_cv al lo hi k m) (zg_dc al lo hi k m)
  | 0 => ⟨Or.inl rfl, fun n h => h.2.2.2⟩
  | m + 1 => by
    have ih := zg_dcM al lo hi k m
    rw [zg_dc]
    by_cases c : al (m + 1) = true ∧ lo (m + 1) ≤ k ∧ k ≤ hi (m + 1)
    · rw [if_pos c]
      exact ⟨Or.inr ⟨c.1, c.2.1, c.2.2, Nat.le_refl _⟩, fun n h => h.2.2.2⟩
    · rw [if_neg c]
      refine ⟨ih.1.elim Or.inl (fun z => Or.inr ⟨z.1, z.2.1, z.2.2.1, Nat.le_succ_of_le z.2.2.2⟩), fun n h => ?_⟩
      have hn : n ≠ m + 1 := fun e => c (e ▸ ⟨h.1, h.2.1, h.2.2.1⟩)
      exact ih.2 n ⟨h.1, h.2.1, h.2.2.1, by have := h.2.2.2; omega⟩
theorem zg_dc_le (al : Nat → Bool) (lo hi : Nat → Nat) (k m : Nat) : zg_dc al lo hi k m ≤ m := by
  rcases (zg_dcM al lo hi k m).1 with h | h
  · omega
  · exact h.2.2.2
theorem zg_dcC {al al' : Nat → Bool} {lo hi lo' hi' : Nat → Nat} {k : Nat} {m : Nat} (h : ∀ n, n ≤ m → al' n = al n ∧ (al n = true → lo' n = lo n ∧ hi' n = hi n)) : zg_dc al' lo' hi' k m = zg_dc al lo hi k m := by
  refine zg_Mu (zg_dcM al' lo' hi' k m) (zg_Mc (zg_dcM al lo hi k m) (fun n => ⟨fun z => ?_, fun z => ?_⟩))
  · obtain ⟨e, q⟩ := h n z.2.2.2
    obtain ⟨q1, q2⟩ := q z.1
    exact ⟨e.trans z.1, by rw [q1]; exact z.2.1, by rw [q2]; exact z.2.2.1, z.2.2.2⟩
  · obtain ⟨e, q⟩ := h n z.2.2.2
    have a : al n = true := e.symm.trans z.1
    obtain ⟨q1, q2⟩ := q a
    exact ⟨a, by rw [← q1]; exact z.2.1, by rw [← q2]; exact z.2.2.1, z.2.2.2⟩
/-- a slot or a place as the code answers it -/
def zg_sI (f : Nat → Nat) (n : Nat) : Int32 := if n = 0 then -1 else nI (f n)
theorem zg_sI0 {f : Nat → Nat} : zg_sI f 0 = -1 := if_pos rfl
theorem zg_sIs {f : Nat → Nat} {n : Nat} (h : n ≠ 0) : zg_sI f n = nI (f n) := if_neg h
/-- the value of key k at moment m -/
def zg_vl (al : Nat → Bool) (kd lo hi : Nat → Nat) (va : Nat → Int32) (k m : Nat) : Int32 :=
  if zg_dc al lo hi k m = 0 then -1 else if kd (zg_dc al lo hi k m) = 1 then va (zg_dc al lo hi k m) else -1
/-! the order of the tables, the order of the deals -/
def zo (kd lo : Nat → Nat) (a b : Nat) : Prop := if kd a = 3 then b < a else (lo a < lo b ∨ (lo a = lo b ∧ b < a))
theorem zo_3 {kd lo : Nat → Nat} {a b : Nat} (h : kd a = 3) : zo kd lo a b ↔ b < a := by unfold zo; rw [if_pos h]
theorem zo_n {kd lo : Nat → Nat} {a b : Nat} (h : ¬ kd a = 3) : zo kd lo a b ↔ (lo a < lo b ∨ (lo a = lo b ∧ b < a)) := by unfold zo; rw [if_neg h]
theorem zo_tr {kd lo : Nat → Nat} {a b c : Nat} (e : kd a = 3 ↔ kd b = 3) (h1 : zo kd lo a b) (h2 : zo kd lo b c) : zo kd lo a c := by
  by_cases k : kd a = 3
  · rw [zo_3 k] at h1 ⊢
    rw [zo_3 (e.mp k)] at h2
    omega
  · rw [zo_n k] at h1 ⊢
    rw [zo_n (fun z => k (e.mpr z))] at h2
    omega
theorem zo_ir {kd lo : Nat → Nat} {a : Nat} : ¬ zo kd lo a a := by
  by_cases k : kd a = 3
  · rw [zo_3 k]; omega
  · rw [zo_n k]; omega
theorem zo_tot {kd lo : Nat → Nat} {a b : Nat} (e : kd a = 3 ↔ kd b = 3) (n : a ≠ b) (h : ¬ zo kd lo a b) : zo kd lo b a := by
  by_cases k : kd a = 3
  · rw [zo_3 k] at h
    rw [zo_3 (e.mp k)]
    omega
  · rw [zo_n k] at h
    rw [zo_n (fun z => k (e.mpr z))]
    omega
theorem zo_nodup {kd lo : Nat → Nat} {l : List Nat} (h : l.Pairwise (zo kd lo)) : l.Nodup := List.nodup_iff_pairwise_ne.mpr (h.imp (fun {a b} (z : zo kd lo a b) (e : a = b) => zo_ir (lo := lo) (kd := kd) (a := b) (by rw [e] at z; exact z)))
def zd (kd lo : Nat → Nat) (a b : Nat) : Prop := (¬ kd a = 3 ∧ kd b = 3) ∨ ((kd a = 3 ↔ kd b = 3) ∧ zo kd lo b a)
theorem zd_ir {kd lo : Nat → Nat} {a : Nat} : ¬ zd kd lo a a := by
  intro h
  rcases h with h | h
  · exact h.1 h.2
  · exact zo_ir h.2
theorem zd_nodup {kd lo : Nat → Nat} {l : List Nat} (h : l.Pairwise (zd kd lo)) : l.Nodup := List.nodup_iff_pairwise_ne.mpr (h.imp (fun {a b} (z : zd kd lo a b) (e : a = b) => zd_ir (lo := lo) (kd := kd) (a := b) (by rw [e] at z; exact z)))
theorem zd_tr {kd lo : Nat → Nat} {a b c : Nat} (h1 : zd kd lo a b) (h2 : zd kd lo b c) : zd kd lo a c := by
  rcases h1 with ⟨p, q⟩ | ⟨p, q⟩
  · rcases h2 with ⟨r, s⟩ | ⟨r, s⟩
    · exact absurd q r
    · exact Or.inl ⟨p, r.mp q⟩
  · rcases h2 with ⟨r, s⟩ | ⟨r, s⟩
    · exact Or.inl ⟨fun z => r (p.mp z), s⟩
    · exact Or.inr ⟨p.trans r, zo_tr r.symm s q⟩
theorem zd_tot {kd lo : Nat → Nat} {a b : Nat} (n : a ≠ b) (h : ¬ zd kd lo a b) : zd kd lo b a := by
  by_cases ka : kd a = 3
  · by_cases kb : kd b = 3
    · refine Or.inr ⟨⟨fun _ => ka, fun _ => kb⟩, ?_⟩
      have e : kd b = 3 ↔ kd a = 3 := ⟨fun _ => ka, fun _ => kb⟩
      exact zo_tot e (fun z => n z.symm) (fun z => h (Or.inr ⟨e.symm, z⟩))
    · exact Or.inl ⟨kb, ka⟩
  · by_cases kb : kd b = 3
    · exact absurd (Or.inl ⟨ka, kb⟩) h
    · have e : kd b = 3 ↔ kd a = 3 := ⟨fun z => absurd z kb, fun z => absurd z ka⟩
      exact Or.inr ⟨e, zo_tot e (fun z => n z.symm) (fun z => h (Or.inr ⟨e.symm, z⟩))⟩
/-- all that is fixed of record n: where it lies, what it holds, its bounds -/
def zg_R (kd lo hi : Nat → Nat) (va : Nat → Int32) (f : Nat → Nat) (S K L H V : Nat → Int32) (n : Nat) : Prop :=
  (f n < 64 ∧ S (f n) = nI n ∧ K (f n) = nI (kd n) ∧ L (f n) = nI (lo n) ∧ H (f n) = nI (hi n) ∧ V (f n) = va n) ∧
  (1 ≤ n ∧ n ≤ 600 ∧ 1 ≤ kd n ∧ kd n ≤ 3 ∧ lo n ≤ hi n ∧ hi n < 24 ∧ (kd n ≠ 3 → lo n = hi n) ∧ ¬ va n < 0)
theorem zg_inj {kd lo hi : Nat → Nat} {va : Nat → Int32} {f : Nat → Nat} {S K L H V : Nat → Int32} {a b : Nat} (ha : zg_R kd lo hi va f S K L H V a) (hb : zg_R kd lo hi va f S K L H V b) (e : f a = f b) : a = b := by
  have h1 := ha.1.2.1
  have h2 := hb.1.2.1
  rw [e, h2] at h1
  have b1 := ha.2.2.1
  have b2 := hb.2.2.1
  exact ((nI_eq (by omega) (by omega)).mp h1).symm
/-- the table of record n -/
def zt_tb (kd lv : Nat → Nat) (n : Nat) : Nat := 2 * lv n + (if kd n = 3 then 1 else 0)
theorem zt_tb3 {kd lv : Nat → Nat} {n : Nat} (h : kd n = 3) : zt_tb kd lv n = 2 * lv n + 1 := by unfold zt_tb; rw [if_pos h]
theorem zt_tbn {kd lv : Nat → Nat} {n : Nat} (h : ¬ kd n = 3) : zt_tb kd lv n = 2 * lv n := by unfold zt_tb; rw [if_neg h]; rfl
/-! the mask of a record -/
theorem zl_mk1 : ∀ w, w < 25 → ∀ k, k < 32 → bt (((1 : Int32) <<< (nI w &&& 31)) - 1) k = decide (k < w) := by decide +kernel
theorem zl_mask {l h k : Nat} {m : Int32} (hl : l ≤ h) (hh : h < 24) (hk : k < 24) : bt (m ||| ((((1 : Int32) <<< ((nI h - nI l + 1) &&& 31)) - 1) <<< (nI l &&& 31))) k = true ↔ bt m k = true ∨ (l ≤ k ∧ k ≤ h) := by
  rw [pk_sub hl, nI_1, b_or, b_shl l (by omega) _ (by omega), Bool.or_eq_true, Bool.and_eq_true, decide_eq_true_eq]
  by_cases c : l ≤ k
  · rw [zl_mk1 (h - l + 1) (by omega) (k - l) (by omega), decide_eq_true_eq]
    constructor
    · rintro (z | z)
      · exact Or.inl z
      · exact Or.inr ⟨c, by omega⟩
    · rintro (z | z)
      · exact Or.inl z
      · exact Or.inr ⟨c, by omega⟩
  · exact ⟨fun z => z.elim Or.inl (fun y => absurd y.1 c), fun z => z.elim Or.inl (fun y => absurd y.1 c)⟩
theorem zl_bit (m : Int32) {k : Nat} (hk : k < 24) : ((m.toUInt32 >>> ((nI k).toUInt32 &&& Int32.toUInt32 31)).toInt32 &&& 1) = 0 ↔ ¬ bt m k = true := by
  have e : ∀ i, bt ((m.toUInt32 >>> ((nI k).toUInt32 &&& Int32.toUInt32 31)).toInt32 &&& 1) i = (bt m (k + i) && bt 1 i) := fun i => by
    rw [b_and, b_ushr k (by omega)]
  have h1 : ∀ i, i < 32 → bt 1 i = decide (i = 0) := by decide +kernel
  constructor
  · intro z q
    have := e 0
    rw [z, b_0, Nat.add_zero, q, h1 0 (by omega)] at this
    exact absurd this (by decide)
  · intro q
    apply b_ext
    intro i hi
    rw [e i, b_0, h1 i hi]
    by_cases c : i = 0
    · subst c
      rw [Nat.add_zero, Bool.eq_false_iff.mpr q]
      rfl
    · rw [decide_eq_false c, Bool.and_false]
/-! many stores of one value -/
def zl_set (f : Nat → Nat) (l : List Nat) (v : Int32) (a : Nat → Int32) : Nat → Int32 := fun s => if s ∈ l.map f then v else a s
theorem zl_set_in {f : Nat → Nat} {l : List Nat} {v : Int32} {a : Nat → Int32} {x : Nat} (h : x ∈ l) : zl_set f l v a (f x) = v := if_pos (List.mem_map.mpr ⟨x, h, rfl⟩)
theorem zl_set_out {f : Nat → Nat} {l : List Nat} {v : Int32} {a : Nat → Int32} {s : Nat} (h : ∀ x, x ∈ l → f x ≠ s) : zl_set f l v a s = a s := if_neg (fun z => by
  obtain ⟨x, hx, e⟩ := List.mem_map.mp z
  exact h x hx e)
theorem zl_set_nil {f : Nat → Nat} {v : Int32} {a : Nat → Int32} : zl_set f [] v a = a := funext fun s => zl_set_out (fun x hx => absurd hx List.not_mem_nil)
theorem zl_set_cons {f : Nat → Nat} {l : List Nat} {v : Int32} {a : Nat → Int32} {x : Nat} : zl_set f (x :: l) v a = zl_set f l v (upd a (f x) v) := by
  funext s
  unfold zl_set upd
  by_cases c : s ∈ l.map f
  · rw [if_pos c, if_pos (by rw [List.map_cons]; exact List.mem_cons_of_mem _ c)]
  · rw [if_neg c]
    by_cases d : s = f x
    · rw [if_pos d, if_pos (by rw [List.map_cons, d]; exact List.mem_cons_self)]
    · rw [if_neg d, if_neg (by rw [List.map_cons, List.mem_cons]; exact fun z => z.elim d c)]
theorem zl_set_snoc {f : Nat → Nat} {l : List Nat} {v : Int32} {a : Nat → Int32} {x : Nat} : zl_set f (l ++ [x]) v a = zl_set f l v (upd a (f x) v) := by
  rw [← zl_set_cons]
  funext s
  unfold zl_set
  have e : (s ∈ (l ++ [x]).map f) = (s ∈ (x :: l).map f) := by
    simp only [List.map_append, List.map_cons, List.map_nil, List.mem_append, List.mem_cons, List.not_mem_nil, or_false]
    exact propext Or.comm
  simp only [e]
end
section
section
variable {xkc xml xhl xnl xla xfl xfc xhe xbc xjr xjl xjt xjo xjh xjs xic xsa xse xta xoc xgc : Int32} {rS rK rL rH rV rE rI rP fS bS tB tS fi bA sO sM iO iM iL iH iP iK jI jO gu oP : Nat → Int32} {al : Nat → Bool} {kd lo hi lv ip : Nat → Nat} {va : Nat → Int32} {sl : Nat → Nat} {L : Nat → List Nat}
/-! X: one comparison -/
theorem zx_sb {post : Int32 → Prop} {a b : Nat} (ha : zg_R kd lo hi va sl rS rK rL rH rV a) (hb : zg_R kd lo hi va sl rS rK rL rH rV b) (h1 : zo kd lo a b → post 1) (h0 : ¬ zo kd lo a b → post 0) : wpX_sortsBefore post (xkc, xml, xhl, xnl, xla, xfl, xfc, xhe, xbc, xjr, xjl, xjt, xjo, xjh, xjs, xic, xsa, xse, xta, xoc, xgc, rS, rK, rL, rH, rV, rE, rI, rP, fS, bS, tB, tS, fi, bA, sO, sM, iO, iM, iL, iH, iP, iK, jI, jO, gu, oP) (nI (sl a)) (nI (sl b)) := by
  obtain ⟨⟨a1, a2, a3, a4, -, -⟩, a5, a6, a7, a8, a9, a10, -⟩ := ha
  obtain ⟨⟨b1, b2, b3, b4, -, -⟩, b5, b6, b7, b8, b9, b10, -⟩ := hb
  have ca : (nI (sl a)).toNatClampNeg = sl a := nI_clamp (by omega)
  have cb : (nI (sl b)).toNatClampNeg = sl b := nI_clamp (by omega)
  have wa : vp_in (nI (sl a)) 64 := vp_in_nI a1 (by omega)
  have wb : vp_in (nI (sl b)) 64 := vp_in_nI b1 (by omega)
  have k : (b < a → post 1) → (¬ b < a → post 0) → wX_sortsBefore_46 post (nI (sl a)) (nI (sl b)) xkc xml xhl xnl xla xfl xfc xhe xbc xjr xjl xjt xjo xjh xjs xic xsa xse xta xoc xgc rS rK rL rH rV rE rI rP fS bS tB tS fi bA sO sM iO iM iL iH iP iK jI jO gu oP := by
    intro p q
    unfold wX_sortsBefore_46
    rw [ca, cb, a2, b2]
    exact ⟨wa, wb, pk_le a b (fun z => q (by omega)) (fun z => p z)⟩
  unfold wpX_sortsBefore
  dsimp only
  rw [ca, cb, a3, a4, b4]
  exact ⟨wa, pk_eq (kd a) 3 (fun e => k (fun z => h1 ((zo_3 e).mpr z)) (fun z => h0 (fun y => z ((zo_3 e).mp y)))) (fun e => ⟨wa, wb, pk_eq (lo a) (lo b) (fun el => k (fun z => h1 ((zo_n e).mpr (Or.inr ⟨el, z⟩))) (fun z => h0 (fun y => by have := (zo_n e).mp y; omega))) (fun el => ⟨wa, wb, pk_le (lo b) (lo a) (fun z => h0 (fun y => by have := (zo_n e).mp y; omega)) (fun z => h1 ((zo_n e).mpr (Or.inl z)))⟩)⟩)⟩
/-! X: rebuildFilter -/
theorem zx_rf_l {post : SX → Prop} {t : Nat} (ht : t < 10) : ∀ (l : List Nat) (i : Nat) (m : Int32) (n : Nat), l.length < n → tS t = nI (i + l.length) → i + l.length ≤ 64 → zl_At tB (64 * t + i) sl l → (∀ x, x ∈ l → zg_R kd lo hi va sl rS rK rL rH rV x) →
    (∀ m' : Int32, (∀ k, k < 24 → (bt m' k = true ↔ bt m k = true ∨ ∃ x, x ∈ l ∧ lo x ≤ k ∧ k ≤ hi x)) → post (xkc, xml, xhl, xnl, xla, xfl, xfc, xhe, xbc, xjr, xjl, xjt, xjo, xjh, xjs, xic, xsa, xse, xta, xoc, xgc, rS, rK, rL, rH, rV, rE, rI, rP, fS, bS, tB, tS, upd fi t m', bA, sO, sM, iO, iM, iL, iH, iP, iK, jI, jO, gu, oP)) → wX_rebuildFilter_10 post (nI t) (nI (64 * t)) xkc xml xhl xnl xla xfl xfc xhe xbc xjr xjl xjt xjo xjh xjs xic xsa xse xta xoc xgc rS rK rL rH rV rE rI rP fS bS tB tS fi bA sO sM iO iM iL iH iP iK jI jO gu oP n m (nI i) := by
  intro l
  have wt : vp_in (nI t) 10 := vp_in_nI ht (by omega)
  induction l with
  | nil =>
    intro i m n hn hs hb ha hr h
    simp only [List.length_nil] at hn hs hb
    obtain ⟨n, rfl⟩ : ∃ q, n = q + 1 := ⟨n - 1, by omega⟩
    rw [wX_rebuildFilter_10]
    dsimp only
    rw [nI_clamp (by omega : t < 2 ^ 31)]
    refine ⟨wt, br_t ?_ ⟨wt, nm_e (h m (fun k hk => ⟨Or.inl, fun z => z.elim id (fun ⟨x, hx, _⟩ => absurd hx List.not_mem_nil)⟩))⟩⟩
    rw [hs]
    exact nI_le (by omega) (by omega)
  | cons x l ih =>
    intro i m n hn hs hb ha hr h
    simp only [List.length_cons] at hn hs hb
    obtain ⟨n, rfl⟩ : ∃ q, n = q + 1 := ⟨n - 1, by omega⟩
    obtain ⟨⟨a1, a2, a3, a4, a45, -⟩, a5, a6, a7, a8, a9, a10, -⟩ := hr x List.mem_cons_self
    have cx : (nI (sl x)).toNatClampNeg = sl x := nI_clamp (by omega)
    have wx : vp_in (nI (sl x)) 64 := vp_in_nI a1 (by omega)
    rw [wX_rebuildFilter_10]
    dsimp only
    rw [nI_clamp (by omega : t < 2 ^ 31), nI_add (64 * t) i, nI_clamp (by omega : 64 * t + i < 2 ^ 31), ha.1, hs]
    refine ⟨wt, br_f (nI_ge (by omega) (by omega)) ⟨vp_in_nI (by omega) (by omega), nm_e ?_⟩⟩
    rw [cx, a4, a45]
    refine ⟨wx, wx, nm_e ⟨wx, nm_e (nm_r (nI_1 i) ?_)⟩⟩
    refine ih (i + 1) _ n (by omega) (hs.trans (congrArg nI (by omega))) (by omega) ha.2 (fun y hy => hr y (List.mem_cons_of_mem x hy)) (fun m' hm' => h m' (fun k hk => ?_))
    rw [hm' k hk, zl_mask a9 a10 hk]
    constructor
    · rintro ((z | z) | ⟨y, hy, z⟩)
      · exact Or.inl z
      · exact Or.inr ⟨x, List.mem_cons_self, z⟩
      · exact Or.inr ⟨y, List.mem_cons_of_mem x hy, z⟩
    · rintro (z | ⟨y, hy, z⟩)
      · exact Or.inl (Or.inl z)
      · rcases List.mem_cons.mp hy with e | e
        · subst e; exact Or.inl (Or.inr z)
        · exact Or.inr ⟨y, e, z⟩
theorem zx_rf {post : SX → Prop} {t : Nat} {l : List Nat} (ht : t < 10) (hs : tS t = nI l.length) (hb : l.length ≤ 64) (ha : zl_At tB (64 * t) sl l) (hr : ∀ x, x ∈ l → zg_R kd lo hi va sl rS rK rL rH rV x)
    (h : ∀ m' : Int32, (∀ k, k < 24 → (bt m' k = true ↔ ∃ x, x ∈ l ∧ lo x ≤ k ∧ k ≤ hi x)) → post (xkc, xml, xhl, xnl, xla, xfl, xfc, xhe, xbc, xjr, xjl, xjt, xjo, xjh, xjs, xic, xsa, xse, xta, xoc, xgc, rS, rK, rL, rH, rV, rE, rI, rP, fS, bS, tB, tS, upd fi t m', bA, sO, sM, iO, iM, iL, iH, iP, iK, jI, jO, gu, oP)) : wpX_rebuildFilter post (xkc, xml, xhl, xnl, xla, xfl, xfc, xhe, xbc, xjr, xjl, xjt, xjo, xjh, xjs, xic, xsa, xse, xta, xoc, xgc, rS, rK, rL, rH, rV, rE, rI, rP, fS, bS, tB, tS, fi, bA, sO, sM, iO, iM, iL, iH, iP, iK, jI, jO, gu, oP) (nI t) := by
  unfold wpX_rebuildFilter
  dsimp only
  refine nm_r (zl_m64 t) ⟨l.length + 1, ?_⟩
  refine zx_rf_l ht l 0 0 (l.length + 1) (by omega) (hs.trans (congrArg nI (by omega))) (by omega) ha hr (fun m' hm' => h m' (fun k hk => (hm' k hk).trans ⟨fun z => z.elim (fun y => absurd y ?_) id, Or.inr⟩))
  rw [b_0]
  exact Bool.false_ne_true
/-! the ten tables -/
end
def zt_T1 (kd lo hi sl : Nat → Nat) (t : Nat) (l : List Nat) (tB tS fi : Nat → Int32) : Prop :=
  zl_At tB (64 * t) sl l ∧ tS t = nI l.length ∧ l.length ≤ 64 ∧ l.Pairwise (zo kd lo) ∧ (∀ k, k < 24 → (bt (fi t) k = true ↔ ∃ x, x ∈ l ∧ lo x ≤ k ∧ k ≤ hi x)) ∧ (∀ x, x ∈ l → (kd x = 3 ↔ t % 2 = 1))
def zt_Tab (kd lo hi sl : Nat → Nat) (L : Nat → List Nat) (tB tS fi : Nat → Int32) : Prop := ∀ t, t < 10 → zt_T1 kd lo hi sl t (L t) tB tS fi
def zt_Mem (al : Nat → Bool) (kd lv : Nat → Nat) (L : Nat → List Nat) : Prop := ∀ t n, n ∈ L t ↔ al n = true ∧ zt_tb kd lv n = t
theorem zt_up {kd lo hi sl : Nat → Nat} {L : Nat → List Nat} {tB tS fi tB' : Nat → Int32} {t : Nat} {M : List Nat} {m : Int32} (hT : zt_Tab kd lo hi sl L tB tS fi)
    (hA : zl_At tB' (64 * t) sl M) (hf : ∀ q, q < 64 * t ∨ 64 * t + 64 ≤ q → tB' q = tB q) (hl : M.length ≤ 64) (hp : M.Pairwise (zo kd lo)) (hm : ∀ k, k < 24 → (bt m k = true ↔ ∃ x, x ∈ M ∧ lo x ≤ k ∧ k ≤ hi x)) (hk : ∀ x, x ∈ M → (kd x = 3 ↔ t % 2 = 1)) :
    zt_Tab kd lo hi sl (zl_uL L t M) tB' (upd tS t (nI M.length)) (upd fi t m) := by
  intro s hs
  by_cases e : s = t
  · subst e
    rw [zl_uLs]
    refine ⟨hA, pk_us, hl, hp, ?_, hk⟩
    rw [pk_us]
    exact hm
  · rw [zl_uLn e]
    obtain ⟨q1, q2, q3, q4, q5, q6⟩ := hT s hs
    refine ⟨zl_at_fr (fun j h1 h2 => hf j (by omega)) q1, (pk_un e).trans q2, q3, q4, ?_, q6⟩
    rw [pk_un e]
    exact q5
section
variable {xkc xml xhl xnl xla xfl xfc xhe xbc xjr xjl xjt xjo xjh xjs xic xsa xse xta xoc xgc : Int32} {rS rK rL rH rV rE rI rP fS bS tB tS fi bA sO sM iO iM iL iH iP iK jI jO gu oP : Nat → Int32} {al : Nat → Bool} {kd lo hi lv ip : Nat → Nat} {va : Nat → Int32} {sl : Nat → Nat} {L : Nat → List Nat}
/-! X: mergeBatch -/
theorem zx_79b {post : SX → Prop} {J : _} {t j w v : Nat} {x3 x4 : Int32} (hj : j < 64) (hw : 64 * t + w < 640) (hb : bA j = nI v) (k : J x4 (nI (j + 1)) (nI w - 1) rS rK rL rH rV rE rI rP fS bS (upd tB (64 * t + w) (nI v)) tS fi bA sO sM iO iM iL iH iP iK jI jO gu oP) :
    wX_mergeBatch_79 post J (nI t) (nI (64 * t)) x3 x4 (nI j) (nI w) 0 xkc xml xhl xnl xla xfl xfc xhe xbc xjr xjl xjt xjo xjh xjs xic xsa xse xta xoc xgc rS rK rL rH rV rE rI rP fS bS tB tS fi bA sO sM iO iM iL iH iP iK jI jO gu oP := by
  unfold wX_mergeBatch_79
  rw [nI_add (64 * t) w, nI_clamp (by omega : 64 * t + w < 2 ^ 31), nI_clamp (by omega : j < 2 ^ 31), hb]
  exact br_t rfl ⟨vp_in_nI hj (by omega), vp_in_nI hw (by omega), nm_e (nm_r (nI_1 j) (nm_r (zl_sub1 _) k))⟩
theorem zx_79o {post : SX → Prop} {J : _} {t i w v : Nat} {x3 x5 : Int32} (hi' : 64 * t + i < 640) (hw : 64 * t + w < 640) (hb : tB (64 * t + i) = nI v) (k : J (nI i - 1) x5 (nI w - 1) rS rK rL rH rV rE rI rP fS bS (upd tB (64 * t + w) (nI v)) tS fi bA sO sM iO iM iL iH iP iK jI jO gu oP) :
    wX_mergeBatch_79 post J (nI t) (nI (64 * t)) x3 (nI i) x5 (nI w) 1 xkc xml xhl xnl xla xfl xfc xhe xbc xjr xjl xjt xjo xjh xjs xic xsa xse xta xoc xgc rS rK rL rH rV rE rI rP fS bS tB tS fi bA sO sM iO iM iL iH iP iK jI jO gu oP := by
  unfold wX_mergeBatch_79
  rw [nI_add (64 * t) w, nI_clamp (by omega : 64 * t + w < 2 ^ 31), nI_add (64 * t) i, nI_clamp (by omega : 64 * t + i < 2 ^ 31), hb]
  exact br_f zl_10 ⟨vp_in_nI hi' (by omega), vp_in_nI hw (by omega), nm_e (nm_r (zl_sub1 _) (nm_r (zl_sub1 _) k))⟩
theorem zx_mb_l {post : SX → Prop} {t tot : Nat} {c : Prop} (ht : t < 10) (htot : tot ≤ 64) : ∀ (n : Nat) (L1 B1 W : List Nat) (j : Nat) (tB : Nat → Int32), L1.length + B1.length < n → L1.length + B1.length + W.length = tot → j + B1.length ≤ 64 → xbc = nI (j + B1.length) → zl_At tB (64 * t) sl L1 → zl_At bA j sl B1 → zl_At tB (64 * t + (L1.length + B1.length)) sl W → (∀ x, x ∈ L1 ∨ x ∈ B1 → zg_R kd lo hi va sl rS rK rL rH rV x ∧ (kd x = 3 ↔ c)) → (L1 ++ W).Pairwise (zo kd lo) → B1.Pairwise (fun a b => zo kd lo b a) → (∀ b w, b ∈ B1 → w ∈ W → zo kd lo b w) → (∀ a, a ∈ L1 → a ∈ B1 → False) →
    (∀ (tB' : Nat → Int32) (M : List Nat), zl_At tB' (64 * t) sl M → M.length = tot → M.Pairwise (zo kd lo) → (∀ x, x ∈ M ↔ x ∈ L1 ∨ x ∈ B1 ∨ x ∈ W) → (∀ q, q < 64 * t ∨ 64 * t + tot ≤ q → tB' q = tB q) → wX_mergeBatch_133 post (nI t) (nI tot) xkc xml xhl xnl xla xfl xfc xhe xbc xjr xjl xjt xjo xjh xjs xic xsa xse xta xoc xgc rS rK rL rH rV rE rI rP fS bS tB' tS fi bA sO sM iO iM iL iH iP iK jI jO gu oP) →
    wX_mergeBatch_35 post (nI t) (nI (64 * t)) (nI tot) xkc xml xhl xnl xla xfl xfc xhe xbc xjr xjl xjt xjo xjh xjs xic xsa xse xta xoc xgc n (nI L1.length - 1) (nI j) (nI (L1.length + B1.length) - 1) rS rK rL rH rV rE rI rP fS bS tB tS fi bA sO sM iO iM iL iH iP iK jI jO gu oP := by
  intro n
  induction n with
  | zero => intro L1 B1 W j tB hn; omega
  | succ n ih =>
    intro L1 B1 W j tB hn hl hj hbc hL hB hW hR hP hQ hBW hD h
    rw [wX_mergeBatch_35]
    dsimp only
    cases B1 with
    | nil =>
      have hfin := h tB (L1 ++ W) (zl_at_app.mpr ⟨hL, hW⟩) (by rw [List.length_append]; exact hl) hP (fun x => by simp) (fun _ _ => rfl)
      refine br_c (fun _ => hfin) (fun _ => br_t ?_ hfin)
      rw [hbc]
      exact nI_le (Nat.le_refl j) (by simp only [List.length_nil] at hj; omega)
    | cons b B =>
      have e6 : nI (L1.length + (b :: B).length) - 1 = nI (L1.length + B.length) := nI_pred _
      simp only [List.length_cons] at hn hl hj
      rw [e6]
      have wj : vp_in (nI j) 64 := vp_in_nI (by omega) (by omega)
      have cj : (nI j).toNatClampNeg = j := nI_clamp (by omega)
      have hB1 : bA j = nI (sl b) := hB.1
      have hQ2 : ∀ b', b' ∈ B → zo kd lo b' b := fun b' hb' => (List.pairwise_cons.mp hQ).1 b' hb'
      refine br_f (nI_pos (by omega)) (br_f (by rw [hbc]; exact nI_ge (by simp only [List.length_cons]; omega) (by simp only [List.length_cons]; omega)) ?_)
      rcases zl_snoc L1 with rfl | ⟨L', a, rfl⟩
      · refine br_t zl_neg (zx_79b (by omega) (by simp only [List.length_nil] at hl ⊢; omega) hB1 ?_)
        refine ih [] B (b :: W) (j + 1) _ (by simp only [List.length_nil] at hn ⊢; omega) (by simp only [List.length_nil, List.length_cons] at hl ⊢; omega) (by omega) (hbc.trans (congrArg nI (by simp only [List.length_cons]; omega))) trivial hB.2 ⟨pk_us, zl_at_fr (fun q h1 h2 => pk_un (by omega)) hW⟩ (fun x hx => hR x (hx.elim Or.inl (fun z => Or.inr (List.mem_cons_of_mem b z)))) ?_ (List.pairwise_cons.mp hQ).2 ?_ (fun a ha _ => absurd ha List.not_mem_nil) ?_
        · exact List.pairwise_cons.mpr ⟨fun w hw => hBW b w List.mem_cons_self hw, hP⟩
        · intro b' w hb' hw
          rcases List.mem_cons.mp hw with e | e
          · rw [e]; exact hQ2 b' hb'
          · exact hBW b' w (List.mem_cons_of_mem b hb') e
        · intro tB' M m1 m2 m3 m4 m5
          refine h tB' M m1 m2 m3 (fun x => (m4 x).trans ?_) (fun q hq => (m5 q hq).trans (pk_un ?_))
          · simp only [List.mem_cons, List.not_mem_nil, false_or]
            constructor
            · rintro (z | z | z)
              · exact Or.inl (Or.inr z)
              · exact Or.inl (Or.inl z)
              · exact Or.inr z
            · rintro ((z | z) | z)
              · exact Or.inr (Or.inl z)
              · exact Or.inl z
              · exact Or.inr (Or.inr z)
          · simp only [List.length_nil] at hl ⊢
            omega
      · have e4 : nI (L' ++ [a]).length - 1 = nI L'.length := by rw [List.length_append]; exact nI_pred _
        simp only [List.length_append, List.length_cons, List.length_nil] at hn hl
        have eL : (L' ++ [a]).length = L'.length + 1 := by rw [List.length_append]; rfl
        have hLa : tB (64 * t + L'.length) = nI (sl a) := zl_at_mid hL
        have hRa := hR a (Or.inl (List.mem_append.mpr (Or.inr List.mem_cons_self)))
        have hRb := hR b (Or.inr List.mem_cons_self)
        have hP2 : (L' ++ (a :: W)).Pairwise (zo kd lo) := by rw [List.append_cons]; exact hP
        have hab : a ≠ b := fun e => hD a (List.mem_append.mpr (Or.inr List.mem_cons_self)) (e ▸ List.mem_cons_self)
        rw [e4]
        refine br_f (nI_pos (by omega)) ⟨wj, by rw [nI_add]; exact vp_in_nI (by omega) (by omega), ?_⟩
        rw [cj, hB1, nI_add (64 * t) L'.length, nI_clamp (by omega : 64 * t + L'.length < 2 ^ 31), hLa]
        refine zx_sb hRb.1 hRa.1 (fun z => ?_) (fun z => ?_)
        · refine zx_79o (by omega) (by rw [eL]; omega) hLa ?_
          have e5 : L'.length + (B.length + 1) = (L' ++ [a]).length + B.length := by rw [eL]; omega
          rw [← e5]
          refine ih L' (b :: B) (a :: W) j _ (by simp only [List.length_cons]; omega) (by simp only [List.length_cons]; omega) (by simp only [List.length_cons]; omega) hbc (zl_at_fr (fun q h1 h2 => pk_un (by omega)) (zl_at_app.mp hL).1) hB ⟨?_, ?_⟩ (fun x hx => hR x (hx.elim (fun y => Or.inl (List.mem_append.mpr (Or.inl y))) Or.inr)) hP2 hQ ?_ (fun x h1 h2 => hD x (List.mem_append.mpr (Or.inl h1)) h2) ?_
          · exact pk_us
          · refine zl_at_fr (fun q h1 h2 => pk_un (by simp only [List.length_cons] at h1; omega)) ?_
            have e7 : 64 * t + (L'.length + (b :: B).length) + 1 = 64 * t + ((L' ++ [a]).length + (b :: B).length) := by rw [eL]; omega
            rw [e7]
            exact hW
          · intro b' w hb' hw
            rcases List.mem_cons.mp hw with e | e
            · rw [e]
              rcases List.mem_cons.mp hb' with e' | e'
              · rw [e']; exact z
              · exact zo_tr ((hR b' (Or.inr hb')).2.trans hRb.2.symm) (hQ2 b' e') z
            · exact hBW b' w hb' e
          · intro tB' M m1 m2 m3 m4 m5
            refine h tB' M m1 m2 m3 (fun x => (m4 x).trans ?_) (fun q hq => (m5 q hq).trans (pk_un (by omega)))
            simp only [List.mem_cons, List.mem_append, List.not_mem_nil, or_false]
            constructor
            · rintro (z | z | z | z)
              · exact Or.inl (Or.inl z)
              · exact Or.inr (Or.inl z)
              · exact Or.inl (Or.inr z)
              · exact Or.inr (Or.inr z)
            · rintro ((z | z) | z | z)
              · exact Or.inl z
              · exact Or.inr (Or.inr (Or.inl z))
              · exact Or.inr (Or.inl z)
              · exact Or.inr (Or.inr (Or.inr z))
        · have zab : zo kd lo a b := zo_tot (hRb.2.trans hRa.2.symm) (fun e => hab e.symm) z
          refine zx_79b (by omega) (by rw [eL]; omega) hB1 ?_
          rw [← e4]
          refine ih (L' ++ [a]) B (b :: W) (j + 1) _ (by rw [eL]; omega) (by rw [eL]; simp only [List.length_cons]; omega) (by omega) (hbc.trans (congrArg nI (by simp only [List.length_cons]; omega))) (zl_at_fr (fun q h1 h2 => pk_un (by omega)) hL) hB.2 ⟨pk_us, zl_at_fr (fun q h1 h2 => pk_un (by omega)) hW⟩ (fun x hx => hR x (hx.elim Or.inl (fun z => Or.inr (List.mem_cons_of_mem b z)))) ?_ (List.pairwise_cons.mp hQ).2 ?_ (fun x h1 h2 => hD x h1 (List.mem_cons_of_mem b h2)) ?_
          · rw [List.pairwise_append] at hP ⊢
            refine ⟨hP.1, List.pairwise_cons.mpr ⟨fun w hw => hBW b w List.mem_cons_self hw, hP.2.1⟩, fun x hx w hw => ?_⟩
            rcases List.mem_cons.mp hw with e | e
            · rw [e]
              rcases List.mem_append.mp hx with e' | e'
              · have hxa : zo kd lo x a := (List.pairwise_append.mp hP.1).2.2 x e' a List.mem_cons_self
                exact zo_tr ((hR x (Or.inl hx)).2.trans hRa.2.symm) hxa zab
              · rw [List.mem_singleton.mp e']; exact zab
            · exact hP.2.2 x hx w e
          · intro b' w hb' hw
            rcases List.mem_cons.mp hw with e | e
            · rw [e]; exact hQ2 b' hb'
            · exact hBW b' w (List.mem_cons_of_mem b hb') e
          · intro tB' M m1 m2 m3 m4 m5
            refine h tB' M m1 m2 m3 (fun x => (m4 x).trans ?_) (fun q hq => (m5 q hq).trans (pk_un (by rw [eL]; omega)))
            simp only [List.mem_cons]
            constructor
            · rintro (z | z | z | z)
              · exact Or.inl z
              · exact Or.inr (Or.inl (Or.inr z))
              · exact Or.inr (Or.inl (Or.inl z))
              · exact Or.inr (Or.inr z)
            · rintro (z | (z | z) | z)
              · exact Or.inl z
              · exact Or.inr (Or.inr (Or.inl z))
              · exact Or.inr (Or.inl z)
              · exact Or.inr (Or.inr (Or.inr z))
theorem zx_mb {post : SX → Prop} {t : Nat} {B : List Nat} (hT : zt_Tab kd lo hi sl L tB tS fi) (ht : t < 10) (hB : zl_At bA 0 sl B) (hbc : xbc = nI B.length) (hBp : B.Pairwise (fun a b => zo kd lo b a)) (hR : ∀ x, x ∈ L t ∨ x ∈ B → zg_R kd lo hi va sl rS rK rL rH rV x) (hk : ∀ x, x ∈ B → (kd x = 3 ↔ t % 2 = 1)) (hD : ∀ a, a ∈ L t → a ∈ B → False) (hn : (L t).length + B.length ≤ 64)
    (h : ∀ (tB' tS' fi' : Nat → Int32) (M : List Nat), zt_Tab kd lo hi sl (zl_uL L t M) tB' tS' fi' → (∀ x, x ∈ M ↔ x ∈ L t ∨ x ∈ B) → post (xkc, xml, xhl, xnl, xla, xfl, xfc, xhe, xbc, xjr, xjl, xjt, xjo, xjh, xjs, xic, xsa, xse, xta, xoc, xgc, rS, rK, rL, rH, rV, rE, rI, rP, fS, bS, tB', tS', fi', bA, sO, sM, iO, iM, iL, iH, iP, iK, jI, jO, gu, oP)) : wpX_mergeBatch post (xkc, xml, xhl, xnl, xla, xfl, xfc, xhe, xbc, xjr, xjl, xjt, xjo, xjh, xjs, xic, xsa, xse, xta, xoc, xgc, rS, rK, rL, rH, rV, rE, rI, rP, fS, bS, tB, tS, fi, bA, sO, sM, iO, iM, iL, iH, iP, iK, jI, jO, gu, oP) (nI t) := by
  obtain ⟨q1, q2, q3, q4, q5, q6⟩ := hT t ht
  have wt : vp_in (nI t) 10 := vp_in_nI ht (by omega)
  have ct : (nI t).toNatClampNeg = t := nI_clamp (by omega)
  unfold wpX_mergeBatch
  dsimp only
  subst hbc
  rw [ct, q2]
  refine nm_r (zl_m64 t) ⟨wt, nm_r (nI_add _ _) ⟨wt, nm_e (nm_e ⟨(L t).length + B.length + 1, ?_⟩)⟩⟩
  refine zx_mb_l (hi := hi) (va := va) (sl := sl) (kd := kd) (lo := lo) (c := t % 2 = 1) ht hn ((L t).length + B.length + 1) (L t) B [] 0 tB (by omega) (by rw [List.length_nil]; omega) (by omega) (congrArg nI (by omega)) q1 hB trivial (fun x hx => ⟨hR x hx, hx.elim (q6 x) (hk x)⟩) (by rw [List.append_nil]; exact q4) hBp (fun b w _ hw => absurd hw List.not_mem_nil) hD ?_
  intro tB' M m1 m2 m3 m4 m5
  have m4' : ∀ x, x ∈ M ↔ x ∈ L t ∨ x ∈ B := fun x => (m4 x).trans (by simp only [List.not_mem_nil, or_false])
  unfold wX_mergeBatch_133
  rw [ct, ← m2]
  refine ⟨wt, nm_e (zx_rf (l := M) (hi := hi) (va := va) (sl := sl) (kd := kd) (lo := lo) ht pk_us (by omega) m1 (fun x hx => hR x ((m4' x).mp hx)) (fun m' hm' => ?_))⟩
  exact h tB' _ _ M (zt_up hT m1 (fun q hq => m5 q (by omega)) (by omega) m3 hm' (fun x hx => ((m4' x).mp hx).elim (q6 x) (hk x))) m4'
end
end
section
section
variable {xkc xml xhl xnl xla xfl xfc xhe xbc xjr xjl xjt xjo xjh xjs xic xsa xse xta xoc xgc : Int32} {rS rK rL rH rV rE rI rP fS bS tB tS fi bA sO sM iO iM iL iH iP iK jI jO gu oP : Nat → Int32} {al : Nat → Bool} {kd lo hi lv ip : Nat → Nat} {va : Nat → Int32} {sl : Nat → Nat} {L : Nat → List Nat}
/-! X: stripInputs -/
theorem zx_st_l {post : SX → Prop} {t : Nat} (ht : t < 10) : ∀ (l K : List Nat) (i n : Nat) (tB : Nat → Int32), l.length < n → K.length ≤ i → tS t = nI (i + l.length) → i + l.length ≤ 64 → zl_At tB (64 * t) sl K → zl_At tB (64 * t + i) sl l → (∀ x, x ∈ K → zg_R kd lo hi va sl rS rK rL rH rV x) → (∀ x, x ∈ l → zg_R kd lo hi va sl rS rK rL rH rV x ∧ rI (sl x) = nI (ip x) ∧ ip x ≤ 1) →
    (∀ (tB' : Nat → Int32) (m' : Int32), zl_At tB' (64 * t) sl (K ++ l.filter (fun x => ip x == 0)) → (∀ q, q < 64 * t ∨ 64 * t + 64 ≤ q → tB' q = tB q) → (∀ k, k < 24 → (bt m' k = true ↔ ∃ x, x ∈ K ++ l.filter (fun x => ip x == 0) ∧ lo x ≤ k ∧ k ≤ hi x)) → post (xkc, xml, xhl, xnl, xla, xfl, xfc, xhe, xbc, xjr, xjl, xjt, xjo, xjh, xjs, xic, xsa, xse, xta, xoc, xgc, rS, rK, rL, rH, rV, rE, rI, rP, fS, bS, tB', upd tS t (nI (K ++ l.filter (fun x => ip x == 0)).length), upd fi t m', bA, sO, sM, iO, iM, iL, iH, iP, iK, jI, jO, gu, oP)) →
    wX_stripInputs_10 post (nI t) (nI (64 * t)) xkc xml xhl xnl xla xfl xfc xhe xbc xjr xjl xjt xjo xjh xjs xic xsa xse xta xoc xgc n (nI K.length) (nI i) rS rK rL rH rV rE rI rP fS bS tB tS fi bA sO sM iO iM iL iH iP iK jI jO gu oP := by
  have wt : vp_in (nI t) 10 := vp_in_nI ht (by omega)
  have ct : (nI t).toNatClampNeg = t := nI_clamp (by omega)
  intro l
  induction l with
  | nil =>
    intro K i n tB hn hK hs hb hA ha hR hr h
    simp only [List.length_nil] at hn hs hb
    obtain ⟨n, rfl⟩ : ∃ q, n = q + 1 := ⟨n - 1, by omega⟩
    rw [wX_stripInputs_10]
    dsimp only
    rw [ct]
    have e0 : K ++ List.filter (fun x => ip x == 0) [] = K := by rw [List.filter_nil, List.append_nil]
    rw [e0] at h
    refine ⟨wt, br_t ?_ ⟨wt, nm_e (zx_rf (l := K) (hi := hi) (va := va) (sl := sl) (kd := kd) (lo := lo) ht pk_us (by omega) hA hR (fun m' hm' => h tB m' hA (fun _ _ => rfl) hm'))⟩⟩
    rw [hs]
    exact nI_le (by omega) (by omega)
  | cons x l ih =>
    intro K i n tB hn hK hs hb hA ha hR hr h
    simp only [List.length_cons] at hn hs hb
    obtain ⟨n, rfl⟩ : ∃ q, n = q + 1 := ⟨n - 1, by omega⟩
    obtain ⟨hrx, hix, hx1⟩ := hr x List.mem_cons_self
    have cx : (nI (sl x)).toNatClampNeg = sl x := nI_clamp (by have := hrx.1.1; omega)
    have wx : vp_in (nI (sl x)) 64 := vp_in_nI hrx.1.1 (by omega)
    rw [wX_stripInputs_10]
    dsimp only
    rw [ct, nI_add (64 * t) i, nI_clamp (by omega : 64 * t + i < 2 ^ 31), ha.1, hs]
    refine ⟨wt, br_f (nI_ge (by omega) (by omega)) ⟨vp_in_nI (by omega) (by omega), nm_e ?_⟩⟩
    rw [cx, hix, nI_add (64 * t) K.length, nI_clamp (by omega : 64 * t + K.length < 2 ^ 31)]
    refine ⟨wx, pk_eq (ip x) 0 (fun e => ⟨vp_in_nI (by omega) (by omega), nm_e (nm_r (nI_1 _) (nm_r (nI_1 i) ?_))⟩) (fun e => nm_r (nI_1 i) ?_)⟩
    · have eK : (K ++ [x]).length = K.length + 1 := by rw [List.length_append]; rfl
      have ef : K ++ List.filter (fun x => ip x == 0) (x :: l) = (K ++ [x]) ++ List.filter (fun x => ip x == 0) l := by
        rw [List.filter_cons_of_pos (by simp [e]), List.append_assoc]; rfl
      rw [ef] at h
      have key := ih (K ++ [x]) (i + 1) n (upd tB (64 * t + K.length) (nI (sl x))) (by omega) (by rw [eK]; omega) (hs.trans (congrArg nI (by omega))) (by omega) (zl_at_snoc hA rfl) (zl_at_fr (fun q h1 h2 => pk_un (by omega)) ha.2) (fun y hy => (List.mem_append.mp hy).elim (hR y) (fun z => by rw [List.mem_singleton.mp z]; exact hrx)) (fun y hy => hr y (List.mem_cons_of_mem x hy)) (fun tB' m' h1 h2 h3 => h tB' m' h1 (fun q hq => (h2 q hq).trans (pk_un (by omega))) h3)
      rw [eK] at key
      exact key
    · have ef : K ++ List.filter (fun x => ip x == 0) (x :: l) = K ++ List.filter (fun x => ip x == 0) l := by
        rw [List.filter_cons_of_neg (by simp [e])]
      rw [ef] at h
      exact ih K (i + 1) n tB (by omega) (by omega) (hs.trans (congrArg nI (by omega))) (by omega) hA ha.2 hR (fun y hy => hr y (List.mem_cons_of_mem x hy)) h
theorem zx_strip {post : SX → Prop} {t : Nat} (hT : zt_Tab kd lo hi sl L tB tS fi) (ht : t < 10) (hR : ∀ x, x ∈ L t → zg_R kd lo hi va sl rS rK rL rH rV x ∧ rI (sl x) = nI (ip x) ∧ ip x ≤ 1)
    (h : ∀ (tB' tS' fi' : Nat → Int32), zt_Tab kd lo hi sl (zl_uL L t ((L t).filter (fun x => ip x == 0))) tB' tS' fi' → post (xkc, xml, xhl, xnl, xla, xfl, xfc, xhe, xbc, xjr, xjl, xjt, xjo, xjh, xjs, xic, xsa, xse, xta, xoc, xgc, rS, rK, rL, rH, rV, rE, rI, rP, fS, bS, tB', tS', fi', bA, sO, sM, iO, iM, iL, iH, iP, iK, jI, jO, gu, oP)) : wpX_stripInputs post (xkc, xml, xhl, xnl, xla, xfl, xfc, xhe, xbc, xjr, xjl, xjt, xjo, xjh, xjs, xic, xsa, xse, xta, xoc, xgc, rS, rK, rL, rH, rV, rE, rI, rP, fS, bS, tB, tS, fi, bA, sO, sM, iO, iM, iL, iH, iP, iK, jI, jO, gu, oP) (nI t) := by
  obtain ⟨q1, q2, q3, q4, q5, q6⟩ := hT t ht
  unfold wpX_stripInputs
  dsimp only
  refine nm_r (zl_m64 t) ⟨(L t).length + 1, ?_⟩
  refine zx_st_l (hi := hi) (va := va) (sl := sl) (kd := kd) (lo := lo) (ip := ip) ht (L t) [] 0 _ tB (by omega) (by rw [List.length_nil]; omega) (q2.trans (congrArg nI (by omega))) (by omega) trivial q1 (fun x hx => absurd hx List.not_mem_nil) hR (fun tB' m' h1 h2 h3 => ?_)
  rw [List.nil_append] at h1 h3 ⊢
  exact h tB' _ _ (zt_up hT h1 h2 (Nat.le_trans (List.length_filter_le _ _) q3) (q4.filter _) h3 (fun x hx => q6 x (List.mem_filter.mp hx).1))
end
def zt_sk (kd lv : Nat → Nat) (t : Nat) : Nat → Nat := fun n => if zt_tb kd lv n = t then 1 else lv n
def zt_fl (lv : Nat → Nat) : Nat → Nat := fun n => if lv n = 0 then 1 else lv n
theorem zt_sk_y {kd lv : Nat → Nat} {t n : Nat} (h : zt_tb kd lv n = t) : zt_sk kd lv t n = 1 := if_pos h
theorem zt_sk_n {kd lv : Nat → Nat} {t n : Nat} (h : ¬ zt_tb kd lv n = t) : zt_sk kd lv t n = lv n := if_neg h
theorem zt_sk_tb {kd lv : Nat → Nat} {t n : Nat} (ht : t < 2) : (zt_tb kd lv n = t → zt_tb kd (zt_sk kd lv t) n = t + 2) ∧ (¬ zt_tb kd lv n = t → zt_tb kd (zt_sk kd lv t) n = zt_tb kd lv n) := by
  constructor
  · intro h
    by_cases k : kd n = 3
    · rw [zt_tb3 k, zt_sk_y h]; rw [zt_tb3 k] at h; omega
    · rw [zt_tbn k, zt_sk_y h]; rw [zt_tbn k] at h; omega
  · intro h
    by_cases k : kd n = 3
    · rw [zt_tb3 k, zt_sk_n h, zt_tb3 k]
    · rw [zt_tbn k, zt_sk_n h, zt_tbn k]
theorem zt_sk_fl {kd lv : Nat → Nat} : zt_sk kd (zt_sk kd lv 0) 1 = zt_fl lv := by
  funext n
  by_cases k : kd n = 3
  · have e0 : zt_sk kd lv 0 n = lv n := zt_sk_n (by rw [zt_tb3 k]; omega)
    unfold zt_fl
    by_cases z : lv n = 0
    · rw [if_pos z]
      exact zt_sk_y (by rw [zt_tb3 k, e0, z])
    · rw [if_neg z, ← e0]
      exact zt_sk_n (by rw [zt_tb3 k, e0]; omega)
  · unfold zt_fl
    by_cases z : lv n = 0
    · have e0 : zt_sk kd lv 0 n = 1 := zt_sk_y (by rw [zt_tbn k, z])
      rw [if_pos z, ← e0]
      exact zt_sk_n (by rw [zt_tbn k, e0]; omega)
    · have e0 : zt_sk kd lv 0 n = lv n := zt_sk_n (by rw [zt_tbn k]; omega)
      rw [if_neg z, ← e0]
      exact zt_sk_n (by rw [zt_tbn k, e0]; omega)
section
variable {xkc xml xhl xnl xla xfl xfc xhe xbc xjr xjl xjt xjo xjh xjs xic xsa xse xta xoc xgc : Int32} {rS rK rL rH rV rE rI rP fS bS tB tS fi bA sO sM iO iM iL iH iP iK jI jO gu oP : Nat → Int32} {al : Nat → Bool} {kd lo hi lv ip : Nat → Nat} {va : Nat → Int32} {sl : Nat → Nat} {L : Nat → List Nat}
/-! X: sinkTable, flush -/
theorem zx_sk_l {post : SX → Prop} {t : Nat} {B2 : List Nat} (ht : t < 8) (hT : zt_Tab kd lo hi sl L tB tS fi) (hB2 : B2 = (L t).reverse) (hR : ∀ x, x ∈ L t ∨ x ∈ L (t + 2) → zg_R kd lo hi va sl rS rK rL rH rV x) (hD : ∀ a, a ∈ L (t + 2) → a ∈ L t → False) (hn2 : (L (t + 2)).length + (L t).length ≤ 64)
    (h : ∀ (rE' bA' tB' tS' fi' : Nat → Int32) (M : List Nat), rE' = zl_set sl (L t) 1 rE → zt_Tab kd lo hi sl (zl_uL (zl_uL L t []) (t + 2) M) tB' tS' fi' → (∀ x, x ∈ M ↔ x ∈ L (t + 2) ∨ x ∈ L t) → post (xkc, xml, xhl, xnl, xla, xfl, xfc, xhe, nI B2.length, xjr, xjl, xjt, xjo, xjh, xjs, xic, xsa, xse, xta, xoc, xgc, rS, rK, rL, rH, rV, rE', rI, rP, fS, bS, tB', tS', fi', bA', sO, sM, iO, iM, iL, iH, iP, iK, jI, jO, gu, oP)) :
    ∀ (n : Nat) (L1 B : List Nat) (rE0 bA : Nat → Int32), L1.length < n → L1.length + B.length ≤ 64 → zl_At tB (64 * t) sl L1 → zl_At bA 0 sl B → (∀ x, x ∈ L1 → x ∈ L t) → B ++ L1.reverse = B2 → zl_set sl L1 1 rE0 = zl_set sl (L t) 1 rE →
    wX_sinkTable_19 post (nI t) (nI (64 * t)) xkc xml xhl xnl xla xfl xfc xhe xjr xjl xjt xjo xjh xjs xic xsa xse xta xoc xgc n (nI L1.length - 1) (nI B.length) rS rK rL rH rV rE0 rI rP fS bS tB tS fi bA sO sM iO iM iL iH iP iK jI jO gu oP := by
  have wt : vp_in (nI t) 10 := vp_in_nI (by omega) (by omega)
  have ct : (nI t).toNatClampNeg = t := nI_clamp (by omega)
  intro n
  induction n with
  | zero => intro L1 B rE0 bA hn; omega
  | succ n ih =>
    intro L1 B rE0 bA hn hl hA hB hs hBB hE
    rw [wX_sinkTable_19]
    dsimp only
    rcases zl_snoc L1 with rfl | ⟨L', a, rfl⟩
    · rw [List.reverse_nil, List.append_nil] at hBB
      subst hBB
      rw [zl_set_nil] at hE
      obtain ⟨q1, q2, q3, q4, q5, q6⟩ := hT t (by omega)
      obtain ⟨p1, p2, p3, p4, p5, p6⟩ := hT (t + 2) (by omega)
      have hT0 : zt_Tab kd lo hi sl (zl_uL L t []) tB (upd tS t 0) (upd fi t 0) := zt_up (M := []) (m := 0) hT trivial (fun _ _ => rfl) (by rw [List.length_nil]; omega) List.Pairwise.nil (fun k hk => ⟨fun z => absurd z (by rw [b_0]; exact Bool.false_ne_true), fun ⟨x, hx, _⟩ => absurd hx List.not_mem_nil⟩) (fun x hx => absurd hx List.not_mem_nil)
      have eL : zl_uL L t [] (t + 2) = L (t + 2) := zl_uLn (by omega)
      have hBm : ∀ x, x ∈ B → x ∈ L t := fun x hx => by rw [hB2] at hx; exact List.mem_reverse.mp hx
      have hBl : B.length = (L t).length := by rw [hB2, List.length_reverse]
      refine br_t zl_neg ⟨wt, ?_⟩
      rw [ct]
      refine nm_e ⟨wt, nm_e ?_⟩
      rw [show nI t + 2 = nI (t + 2) from nI_add t 2]
      refine zx_mb (L := zl_uL L t []) (B := B) (hi := hi) (va := va) (sl := sl) (kd := kd) (lo := lo) hT0 (by omega) hB rfl ?_ (fun x hx => hR x (hx.elim (fun z => Or.inr (by rw [eL] at z; exact z)) (fun z => Or.inl (hBm x z)))) (fun x hx => (q6 x (hBm x hx)).trans (by omega)) (fun x h1 h2 => hD x (by rw [eL] at h1; exact h1) (hBm x h2)) (by rw [eL]; omega) ?_
      · rw [hB2]; exact List.pairwise_reverse.mpr q4
      · intro tB' tS' fi' M m1 m2
        exact h rE0 bA tB' tS' fi' M hE m1 (fun x => (m2 x).trans (by rw [eL, hB2, List.mem_reverse]))
    · have eL : (L' ++ [a]).length = L'.length + 1 := by rw [List.length_append]; rfl
      have e4 : nI (L' ++ [a]).length - 1 = nI L'.length := by rw [List.length_append]; exact nI_pred _
      rw [eL] at hn hl
      have haL : a ∈ L t := hs a (List.mem_append.mpr (Or.inr List.mem_cons_self))
      have hra := hR a (Or.inl haL)
      have hLa : tB (64 * t + L'.length) = nI (sl a) := zl_at_mid hA
      have cx : (nI (sl a)).toNatClampNeg = sl a := nI_clamp (by have := hra.1.1; omega)
      have wx : vp_in (nI (sl a)) 64 := vp_in_nI hra.1.1 (by omega)
      have eB : (B ++ [a]).length = B.length + 1 := by rw [List.length_append]; rfl
      rw [e4]
      refine br_f (nI_pos (by omega)) ?_
      rw [nI_add (64 * t) L'.length, nI_clamp (by omega : 64 * t + L'.length < 2 ^ 31), hLa, nI_clamp (by omega : B.length < 2 ^ 31)]
      refine ⟨vp_in_nI (by omega) (by omega), nm_e ?_⟩
      rw [cx]
      refine ⟨wx, nm_e ⟨vp_in_nI (by omega) (by omega), nm_e (nm_r (nI_1 _) (nm_r (zl_sub1 _) ?_))⟩⟩
      have key := ih L' (B ++ [a]) (upd rE0 (sl a) 1) (upd bA B.length (nI (sl a))) (by omega) (by rw [eB]; omega) (zl_at_app.mp hA).1 (by have := zl_at_snoc (x := a) (v := sl a) hB rfl; rw [Nat.zero_add] at this; exact this) (fun x hx => hs x (List.mem_append.mpr (Or.inl hx))) (by rw [← hBB, List.reverse_append, List.append_assoc]; rfl) (by rw [← hE, zl_set_snoc])
      rw [eB] at key
      exact key
theorem zx_sink {post : SX → Prop} {t : Nat} (ht : t < 2) (hT : zt_Tab kd lo hi sl L tB tS fi) (hM : zt_Mem al kd lv L) (hS : ∀ n, al n = true → zg_R kd lo hi va sl rS rK rL rH rV n) (hE : ∀ n, al n = true → rE (sl n) = nI (lv n)) (hC : ∀ l : List Nat, l.Nodup → (∀ x, x ∈ l → al x = true) → l.length ≤ 64)
    (h : ∀ (xbc' : Int32) (rE' bA' tB' tS' fi' : Nat → Int32) (L' : Nat → List Nat), zt_Tab kd lo hi sl L' tB' tS' fi' → zt_Mem al kd (zt_sk kd lv t) L' → (∀ n, al n = true → rE' (sl n) = nI (zt_sk kd lv t n)) → post (xkc, xml, xhl, xnl, xla, xfl, xfc, xhe, xbc', xjr, xjl, xjt, xjo, xjh, xjs, xic, xsa, xse, xta, xoc, xgc, rS, rK, rL, rH, rV, rE', rI, rP, fS, bS, tB', tS', fi', bA', sO, sM, iO, iM, iL, iH, iP, iK, jI, jO, gu, oP)) : wpX_sinkTable post (xkc, xml, xhl, xnl, xla, xfl, xfc, xhe, xbc, xjr, xjl, xjt, xjo, xjh, xjs, xic, xsa, xse, xta, xoc, xgc, rS, rK, rL, rH, rV, rE, rI, rP, fS, bS, tB, tS, fi, bA, sO, sM, iO, iM, iL, iH, iP, iK, jI, jO, gu, oP) (nI t) := by
  obtain ⟨q1, q2, q3, q4, q5, q6⟩ := hT t (by omega)
  obtain ⟨p1, p2, p3, p4, p5, p6⟩ := hT (t + 2) (by omega)
  have hD : ∀ a, a ∈ L (t + 2) → a ∈ L t → False := fun a h1 h2 => by
    have e1 := ((hM _ _).mp h1).2
    have e2 := ((hM _ _).mp h2).2
    omega
  have hn2 : (L (t + 2)).length + (L t).length ≤ 64 := by
    have := hC (L (t + 2) ++ L t) (List.nodup_append.mpr ⟨zo_nodup p4, zo_nodup q4, fun a ha b hb e => hD a ha (e ▸ hb)⟩) (fun x hx => (List.mem_append.mp hx).elim (fun z => ((hM _ _).mp z).1) (fun z => ((hM _ _).mp z).1))
    rw [List.length_append] at this
    exact this
  have ct : (nI t).toNatClampNeg = t := nI_clamp (by omega)
  unfold wpX_sinkTable
  dsimp only
  rw [ct, q2]
  refine nm_r (zl_m64 t) ⟨vp_in_nI (by omega) (by omega), nm_e ⟨(L t).length + 1, ?_⟩⟩
  refine zx_sk_l (B2 := (L t).reverse) (hi := hi) (va := va) (sl := sl) (kd := kd) (lo := lo) (rE := rE) (by omega) hT rfl (fun x hx => hS x (hx.elim (fun z => ((hM _ _).mp z).1) (fun z => ((hM _ _).mp z).1))) hD hn2 ?_ _ (L t) [] rE bA (by omega) (by rw [List.length_nil]; omega) q1 trivial (fun x hx => hx) (by rw [List.nil_append]) rfl
  intro rE' bA' tB' tS' fi' M e m1 m2
  subst e
  refine h _ _ bA' tB' tS' fi' _ m1 (fun s n => ?_) (fun n hn => ?_)
  · obtain ⟨k1, k2⟩ := zt_sk_tb (kd := kd) (lv := lv) (n := n) ht
    by_cases s2 : s = t + 2
    · subst s2
      rw [zl_uLs, m2 n, hM, hM]
      constructor
      · rintro (⟨z, w⟩ | ⟨z, w⟩)
        · exact ⟨z, by rw [k2 (by omega)]; exact w⟩
        · exact ⟨z, k1 w⟩
      · rintro ⟨z, w⟩
        by_cases c : zt_tb kd lv n = t
        · exact Or.inr ⟨z, c⟩
        · exact Or.inl ⟨z, by rw [← k2 c]; exact w⟩
    · rw [zl_uLn s2]
      by_cases s1 : s = t
      · subst s1
        rw [zl_uLs]
        refine ⟨fun z => absurd z List.not_mem_nil, fun ⟨z, w⟩ => ?_⟩
        by_cases c : zt_tb kd lv n = s
        · have := k1 c; omega
        · have := k2 c; omega
      · rw [zl_uLn s1, hM]
        refine and_congr_right (fun _ => ?_)
        by_cases c : zt_tb kd lv n = t
        · have := k1 c; omega
        · rw [k2 c]
  · by_cases c : zt_tb kd lv n = t
    · rw [zt_sk_y c]
      exact zl_set_in ((hM _ _).mpr ⟨hn, c⟩)
    · rw [zt_sk_n c, ← hE n hn]
      refine zl_set_out (fun x hx e => c ?_)
      have h1 := (hM _ _).mp hx
      rw [← zg_inj (hS x h1.1) (hS n hn) e]
      exact h1.2
theorem zx_flush {post : Int32 → SX → Prop} (hT : zt_Tab kd lo hi sl L tB tS fi) (hM : zt_Mem al kd lv L) (hS : ∀ n, al n = true → zg_R kd lo hi va sl rS rK rL rH rV n) (hE : ∀ n, al n = true → rE (sl n) = nI (lv n)) (hC : ∀ l : List Nat, l.Nodup → (∀ x, x ∈ l → al x = true) → l.length ≤ 64)
    (h : ∀ (xbc' : Int32) (rE' bA' tB' tS' fi' : Nat → Int32) (L' : Nat → List Nat), zt_Tab kd lo hi sl L' tB' tS' fi' → zt_Mem al kd (zt_fl lv) L' → (∀ n, al n = true → rE' (sl n) = nI (zt_fl lv n)) → post (nI ((L 0).length + (L 1).length)) (xkc, xml, xhl, xnl, xla, xfl, xfc, xhe, xbc', xjr, xjl, xjt, xjo, xjh, xjs, xic, xsa, xse, xta, xoc, xgc, rS, rK, rL, rH, rV, rE', rI, rP, fS, bS, tB', tS', fi', bA', sO, sM, iO, iM, iL, iH, iP, iK, jI, jO, gu, oP)) : wpX_flush post (xkc, xml, xhl, xnl, xla, xfl, xfc, xhe, xbc, xjr, xjl, xjt, xjo, xjh, xjs, xic, xsa, xse, xta, xoc, xgc, rS, rK, rL, rH, rV, rE, rI, rP, fS, bS, tB, tS, fi, bA, sO, sM, iO, iM, iL, iH, iP, iK, jI, jO, gu, oP) := by
  have q0 := (hT 0 (by omega)).2.1
  have q1 := (hT 1 (by omega)).2.1
  unfold wpX_flush
  dsimp only
  rw [q0, q1]
  refine nm_r (nI_add _ _) ?_
  refine zx_sink (t := 0) (L := L) (hi := hi) (va := va) (sl := sl) (kd := kd) (lo := lo) (lv := lv) (al := al) (by omega) hT hM hS hE hC ?_
  intro xbc1 rE1 bA1 tB1 tS1 fi1 L1 hT1 hM1 hE1
  refine zx_sink (t := 1) (L := L1) (hi := hi) (va := va) (sl := sl) (kd := kd) (lo := lo) (lv := zt_sk kd lv 0) (al := al) (by omega) hT1 hM1 hS hE1 hC ?_
  intro xbc2 rE2 bA2 tB2 tS2 fi2 L2 hT2 hM2 hE2
  rw [zt_sk_fl] at hM2 hE2
  exact h xbc2 rE2 bA2 tB2 tS2 fi2 L2 hT2 hM2 hE2
end
end
section
/-! more pure rows for the reads -/
def zr (lo : Nat → Nat) (k m x : Nat) : Prop := k < lo x ∨ (lo x = k ∧ x ≤ m)
theorem zr_mono {kd lo : Nat → Nat} {k m x y : Nat} (h : zr lo k m x) (hk : ¬ kd x = 3) (hz : zo kd lo x y) : zr lo k m y := by
  rw [zo_n hk] at hz
  unfold zr at h ⊢
  omega
theorem zg_Mor {P Q : Nat → Prop} {b c : Nat} (h : zg_M P b) (k : zg_M (fun n => Q n ∧ b < n) c) : zg_M (fun n => P n ∨ Q n) (if c = 0 then b else c) := by
  by_cases e : c = 0
  · rw [if_pos e]
    refine ⟨h.1.elim Or.inl (fun z => Or.inr (Or.inl z)), fun n z => ?_⟩
    rcases z with z | z
    · exact h.2 n z
    · by_cases q : b < n
      · have := k.2 n ⟨z, q⟩
        omega
      · omega
  · rw [if_neg e]
    rcases k.1 with z | z
    · exact absurd z e
    · refine ⟨Or.inr (Or.inr z.1), fun n w => ?_⟩
      rcases w with w | w
      · have := h.2 n w
        have := z.2
        omega
      · by_cases q : b < n
        · exact k.2 n ⟨w, q⟩
        · have := z.2
          omega
theorem zg_Mmax {P Q : Nat → Prop} {b c : Nat} (h : zg_M P b) (k : zg_M Q c) : zg_M (fun n => P n ∨ Q n) (if c ≤ b then b else c) := by
  by_cases e : c ≤ b
  · rw [if_pos e]
    refine ⟨h.1.elim Or.inl (fun z => Or.inr (Or.inl z)), fun n z => ?_⟩
    rcases z with z | z
    · exact h.2 n z
    · have := k.2 n z
      omega
  · rw [if_neg e]
    refine ⟨k.1.elim Or.inl (fun z => Or.inr (Or.inr z)), fun n z => ?_⟩
    rcases z with z | z
    · have := h.2 n z
      omega
    · exact k.2 n z
theorem zl_le_p {a q : Nat} (ha : a < 2 ^ 31) (hq : q < 2 ^ 31) : nI a ≤ nI q - 1 ↔ a + 1 ≤ q := by
  cases q with
  | zero =>
    refine ⟨fun h => ?_, fun h => by omega⟩
    exact absurd (Int32.le_trans (nI_pos' ha) h) (by decide +kernel)
  | succ q => rw [nI_pred, nI_leI ha (by omega)]; omega
theorem zl_lt_p {a q : Nat} (ha : a < 2 ^ 31) (hq : q < 2 ^ 31) : nI q - 1 < nI a ↔ q < a + 1 := by
  cases q with
  | zero =>
    refine ⟨fun h => by omega, fun h => ?_⟩
    exact Int32.lt_of_lt_of_le (show nI 0 - 1 < 0 from zl_neg) (nI_pos' ha)
  | succ q => rw [nI_pred, nI_ltI (by omega) ha]; omega
/-- what the reads of X rest on -/
def zx_H (al : Nat → Bool) (kd lo hi lv : Nat → Nat) (va : Nat → Int32) (sl : Nat → Nat) (L : Nat → List Nat) (NL : Nat) (xnl : Int32) (rS rK rL rH rV tB tS fi : Nat → Int32) : Prop :=
  xnl = nI NL ∧ NL ≤ 4 ∧ zt_Tab kd lo hi sl L tB tS fi ∧ zt_Mem al kd lv L ∧ (∀ n, al n = true → zg_R kd lo hi va sl rS rK rL rH rV n) ∧ (∀ n, al n = true → lv n ≤ NL)
/-- least key of f .. t with a value; greatest key of t .. f1 - 1 -/
def zk_up (V : Nat → Int32) (f t : Nat) (r : Int32) : Prop := (r = -1 ∧ ∀ k, f ≤ k → k ≤ t → V k = -1) ∨ (∃ k, r = nI k ∧ f ≤ k ∧ k ≤ t ∧ ¬ V k = -1 ∧ ∀ j, f ≤ j → j < k → V j = -1)
def zk_dn (V : Nat → Int32) (f1 t : Nat) (r : Int32) : Prop := (r = -1 ∧ ∀ k, t ≤ k → k < f1 → V k = -1) ∨ (∃ k, r = nI k ∧ t ≤ k ∧ k < f1 ∧ ¬ V k = -1 ∧ ∀ j, k < j → j < f1 → V j = -1)
section
variable {xkc xml xhl xnl xla xfl xfc xhe xbc xjr xjl xjt xjo xjh xjs xic xsa xse xta xoc xgc : Int32} {rS rK rL rH rV rE rI rP fS bS tB tS fi bA sO sM iO iM iL iH iP iK jI jO gu oP : Nat → Int32} {al : Nat → Bool} {kd lo hi lv ip : Nat → Nat} {va : Nat → Int32} {sl : Nat → Nat} {L : Nat → List Nat} {NL : Nat}
theorem zx_mh {post : Int32 → Prop} {t k : Nat} (ht : t < 10) (hk : k < 24) (h1 : bt (fi t) k = true → post 1) (h0 : ¬ bt (fi t) k = true → post 0) : wpX_mayHold post (xkc, xml, xhl, xnl, xla, xfl, xfc, xhe, xbc, xjr, xjl, xjt, xjo, xjh, xjs, xic, xsa, xse, xta, xoc, xgc, rS, rK, rL, rH, rV, rE, rI, rP, fS, bS, tB, tS, fi, bA, sO, sM, iO, iM, iL, iH, iP, iK, jI, jO, gu, oP) (nI t) (nI k) := by
  unfold wpX_mayHold
  dsimp only
  rw [nI_clamp (by omega : t < 2 ^ 31)]
  exact ⟨vp_in_nI ht (by omega), br_c (fun z => h0 ((zl_bit _ hk).mp z)) (fun z => h1 (Classical.byContradiction (fun w => z ((zl_bit _ hk).mpr w))))⟩
theorem zx_87t {post : Int32 → Prop} {J : _} {x2 x3 x4 x5 x6 x7 : Int32} (h : J x5 x7) : wX_seekPoint_82 post J x2 x3 x4 x5 x6 x7 xkc xml xhl xnl xla xfl xfc xhe xbc xjr xjl xjt xjo xjh xjs xic xsa xse xta xoc xgc rS rK rL rH rV rE rI rP fS bS tB tS fi bA sO sM iO iM iL iH iP iK jI jO gu oP := by
  unfold wX_seekPoint_82 wX_seekPoint_87
  exact br_f zl_10 h
theorem zx_87f {post : Int32 → Prop} {J : _} {x2 x3 x4 x5 x6 : Int32} {c : Nat} (h : J (nI (c + 1)) x6) : wX_seekPoint_86 post J x2 x3 x4 x5 x6 (nI c) xkc xml xhl xnl xla xfl xfc xhe xbc xjr xjl xjt xjo xjh xjs xic xsa xse xta xoc xgc rS rK rL rH rV rE rI rP fS bS tB tS fi bA sO sM iO iM iL iH iP iK jI jO gu oP := by
  unfold wX_seekPoint_86 wX_seekPoint_87
  exact br_t rfl (nm_r (nI_1 c) h)
theorem zx_sp_l {post : Int32 → Prop} {t k m : Nat} {l : List Nat} (ht : t < 10) (hk : k < 100) (hm : m < 2 ^ 31) (hA : zl_At tB (64 * t) sl l) (hl : l.length ≤ 64) (hp : l.Pairwise (zo kd lo)) (h3 : ∀ x, x ∈ l → ¬ kd x = 3) (hR : ∀ x, x ∈ l → zg_R kd lo hi va sl rS rK rL rH rV x)
    (h : ∀ p, p ≤ l.length → (∀ i (hh : i < l.length), i < p → ¬ zr lo k m l[i]) → (∀ i (hh : i < l.length), p ≤ i → zr lo k m l[i]) → post (nI p)) :
    ∀ n a b, b - a < n → a ≤ b → b ≤ l.length → (∀ i (hh : i < l.length), i < a → ¬ zr lo k m l[i]) → (∀ i (hh : i < l.length), b ≤ i → zr lo k m l[i]) → wX_seekPoint_21 post (nI k) (nI m) (nI (64 * t)) xkc xml xhl xnl xla xfl xfc xhe xbc xjr xjl xjt xjo xjh xjs xic xsa xse xta xoc xgc rS rK rL rH rV rE rI rP fS bS tB tS fi bA sO sM iO iM iL iH iP iK jI jO gu oP n (nI a) (nI b) := by
  intro n
  induction n with
  | zero => intro a b hn; omega
  | succ n ih =>
    intro a b hn hab hb h1 h2
    rw [wX_seekPoint_21]
    dsimp only
    by_cases c : b ≤ a
    · have e : a = b := by omega
      subst e
      exact br_t (nI_le (by omega) (by omega)) (h a hb h1 h2)
    · have hm1 : (a + b) / 2 < b := by omega
      have hm2 : a ≤ (a + b) / 2 := by omega
      have hml : (a + b) / 2 < l.length := by omega
      obtain ⟨⟨r1, r2, r3, r4, -, -⟩, r5, r6, r7, r8, r9, r10, -⟩ := hR l[(a + b) / 2] (List.getElem_mem hml)
      have hx : tB (64 * t + (a + b) / 2) = nI (sl l[(a + b) / 2]) := zl_at_ix hml hA
      have cx : (nI (sl l[(a + b) / 2])).toNatClampNeg = sl l[(a + b) / 2] := nI_clamp (by omega)
      have wx : vp_in (nI (sl l[(a + b) / 2])) 64 := vp_in_nI r1 (by omega)
      have hT : zr lo k m l[(a + b) / 2] → wX_seekPoint_21 post (nI k) (nI m) (nI (64 * t)) xkc xml xhl xnl xla xfl xfc xhe xbc xjr xjl xjt xjo xjh xjs xic xsa xse xta xoc xgc rS rK rL rH rV rE rI rP fS bS tB tS fi bA sO sM iO iM iL iH iP iK jI jO gu oP n (nI a) (nI ((a + b) / 2)) := fun z =>
        ih a _ (by omega) hm2 (by omega) h1 (fun i hh hi' => by
          by_cases e : i = (a + b) / 2
          · subst e; exact z
          · exact zr_mono z (h3 _ (List.getElem_mem hml)) (List.pairwise_iff_getElem.mp hp _ i hml hh (by omega)))
      have hF : ¬ zr lo k m l[(a + b) / 2] → wX_seekPoint_21 post (nI k) (nI m) (nI (64 * t)) xkc xml xhl xnl xla xfl xfc xhe xbc xjr xjl xjt xjo xjh xjs xic xsa xse xta xoc xgc rS rK rL rH rV rE rI rP fS bS tB tS fi bA sO sM iO iM iL iH iP iK jI jO gu oP n (nI ((a + b) / 2 + 1)) (nI b) := fun z =>
        ih _ b (by omega) (by omega) hb (fun i hh hi' w => by
          by_cases e : i = (a + b) / 2
          · subst e; exact z w
          · exact z (zr_mono w (h3 _ (List.getElem_mem hh)) (List.pairwise_iff_getElem.mp hp i _ hh hml (by omega)))) h2
      refine br_f (nI_ge (by omega) (by omega)) (nm_r (zl_half (by omega)) ?_)
      rw [nI_add (64 * t) ((a + b) / 2), nI_clamp (by omega : 64 * t + (a + b) / 2 < 2 ^ 31), hx]
      refine ⟨vp_in_nI (by omega) (by omega), nm_e ?_⟩
      rw [cx, r2, r4]
      exact ⟨wx, pk_lt k (lo l[(a + b) / 2]) (fun z => zx_87t (hT (Or.inl z))) (fun z => ⟨wx, pk_eq (lo l[(a + b) / 2]) k (fun e => ⟨wx, pk_lt m l[(a + b) / 2] (fun y => zx_87f (hF (fun w => by unfold zr at w; omega))) (fun y => zx_87t (hT (Or.inr ⟨e, y⟩)))⟩) (fun e => zx_87f (hF (fun w => by unfold zr at w; omega)))⟩)⟩
/-- seekPoint on level v -/
theorem zx_sp {post : Int32 → Prop} {v k m : Nat} (H : zx_H al kd lo hi lv va sl L NL xnl rS rK rL rH rV tB tS fi) (hv : v < 5) (hk : k < 100) (hm : m < 2 ^ 31)
    (h : ∀ p, p ≤ (L (2 * v)).length → (∀ i (hh : i < (L (2 * v)).length), i < p → ¬ zr lo k m (L (2 * v))[i]) → (∀ i (hh : i < (L (2 * v)).length), p ≤ i → zr lo k m (L (2 * v))[i]) → post (nI p)) : wpX_seekPoint post (xkc, xml, xhl, xnl, xla, xfl, xfc, xhe, xbc, xjr, xjl, xjt, xjo, xjh, xjs, xic, xsa, xse, xta, xoc, xgc, rS, rK, rL, rH, rV, rE, rI, rP, fS, bS, tB, tS, fi, bA, sO, sM, iO, iM, iL, iH, iP, iK, jI, jO, gu, oP) (nI v) (nI k) (nI m) := by
  obtain ⟨H1, H2, H3, H4, H5, H6⟩ := H
  obtain ⟨q1, q2, q3, q4, q5, q6⟩ := H3 (2 * v) (by omega)
  unfold wpX_seekPoint
  dsimp only
  rw [zl_2m v, zl_m64, nI_clamp (by omega : 2 * v < 2 ^ 31), q2]
  refine nm_e ⟨vp_in_nI (by omega) (by omega), nm_e ⟨(L (2 * v)).length + 1, ?_⟩⟩
  exact zx_sp_l (hi := hi) (va := va) (kd := kd) (lo := lo) (by omega) hk hm q1 q3 q4 (fun x hx e => by have := (q6 x hx).mp e; omega) (fun x hx => H5 x ((H4 _ _).mp hx).1) h _ 0 _ (by omega) (by omega) (Nat.le_refl _) (fun i hh z => by omega) (fun i hh z => by omega)
theorem zx_np {post : Int32 → Prop} {v k m : Nat} (H : zx_H al kd lo hi lv va sl L NL xnl rS rK rL rH rV tB tS fi) (hv : v < 5) (hk : k < 24) (hm : m < 2 ^ 31)
    (h : ∀ b, zg_M (fun n => n ∈ L (2 * v) ∧ lo n = k ∧ n ≤ m) b → post (zg_sI sl b)) : wpX_newestPoint post (xkc, xml, xhl, xnl, xla, xfl, xfc, xhe, xbc, xjr, xjl, xjt, xjo, xjh, xjs, xic, xsa, xse, xta, xoc, xgc, rS, rK, rL, rH, rV, rE, rI, rP, fS, bS, tB, tS, fi, bA, sO, sM, iO, iM, iL, iH, iP, iK, jI, jO, gu, oP) (nI v) (nI k) (nI m) := by
  have H' := H
  obtain ⟨H1, H2, H3, H4, H5, H6⟩ := H
  obtain ⟨q1, q2, q3, q4, q5, q6⟩ := H3 (2 * v) (by omega)
  have h3 : ∀ x, x ∈ L (2 * v) → ¬ kd x = 3 := fun x hx e => by have := (q6 x hx).mp e; omega
  unfold wpX_newestPoint
  dsimp only
  rw [zl_2m v, zl_m64]
  refine zx_mh (by omega) hk (fun hb => ?_) (fun hb => ?_)
  · refine br_f zl_10 (zx_sp H' hv (by omega) hm (fun p hp h1 h2 => ?_))
    rw [nI_clamp (by omega : 2 * v < 2 ^ 31), q2]
    refine ⟨vp_in_nI (by omega) (by omega), pk_lt p (L (2 * v)).length (fun z => ?_) (fun z => ?_)⟩
    · have hx : tB (64 * (2 * v) + p) = nI (sl (L (2 * v))[p]) := zl_at_ix z q1
      have hmem : (L (2 * v))[p] ∈ L (2 * v) := List.getElem_mem z
      obtain ⟨⟨r1, r2, r3, r4, -, -⟩, r5, r6, r7, r8, r9, r10, r11, -⟩ := H5 _ ((H4 _ _).mp hmem).1
      rw [nI_add (64 * (2 * v)) p, nI_clamp (by omega : 64 * (2 * v) + p < 2 ^ 31), hx]
      refine ⟨vp_in_nI (by omega) (by omega), nm_e ?_⟩
      rw [nI_clamp (by omega : sl (L (2 * v))[p] < 2 ^ 31), r4]
      refine ⟨vp_in_nI r1 (by omega), pk_eq (lo (L (2 * v))[p]) k (fun e => ?_) (fun e => ?_)⟩
      · rw [← zg_sIs (f := sl) (by omega : (L (2 * v))[p] ≠ 0)]
        refine h _ ⟨Or.inr ⟨hmem, e, ?_⟩, fun n hn => ?_⟩
        · have := h2 p z (Nat.le_refl p)
          unfold zr at this
          omega
        · obtain ⟨i, hi', rfl⟩ := List.mem_iff_getElem.mp hn.1
          by_cases c : i < p
          · exact absurd (Or.inr ⟨hn.2.1, hn.2.2⟩) (h1 i hi' c)
          · by_cases c2 : i = p
            · subst c2; exact Nat.le_refl _
            · have := (zo_n (h3 _ hmem)).mp (List.pairwise_iff_getElem.mp q4 p i z hi' (by omega))
              have e2 := hn.2.1
              omega
      · rw [← zg_sI0 (f := sl)]
        refine h 0 (zg_M0 (fun n hn => ?_))
        obtain ⟨i, hi', rfl⟩ := List.mem_iff_getElem.mp hn.1
        by_cases c : i < p
        · exact absurd (Or.inr ⟨hn.2.1, hn.2.2⟩) (h1 i hi' c)
        · have e2 := hn.2.1
          by_cases c2 : i = p
          · subst c2; exact e e2
          · have := (zo_n (h3 _ hmem)).mp (List.pairwise_iff_getElem.mp q4 p i z hi' (by omega))
            have e3 := h2 p z (Nat.le_refl p)
            unfold zr at e3
            omega
    · rw [← zg_sI0 (f := sl)]
      refine h 0 (zg_M0 (fun n hn => ?_))
      obtain ⟨i, hi', rfl⟩ := List.mem_iff_getElem.mp hn.1
      exact h1 i hi' (by omega) (Or.inr ⟨hn.2.1, hn.2.2⟩)
  · refine br_t rfl ?_
    rw [← zg_sI0 (f := sl)]
    refine h 0 (zg_M0 (fun n hn => hb ((q5 k hk).mpr ⟨n, hn.1, ?_⟩)))
    have := (H5 n ((H4 _ _).mp hn.1).1).2.2.2.2.2.1
    have e2 := hn.2.1
    omega
theorem zx_nr_l {post : Int32 → Prop} {t k m av : Nat} (ht : t < 10) (hk : k < 24) (hm : m < 2 ^ 31) (hav : av < 2 ^ 31) : ∀ (l : List Nat) (i n : Nat), l.length < n → tS t = nI (i + l.length) → i + l.length ≤ 64 → zl_At tB (64 * t + i) sl l → (∀ x, x ∈ l → zg_R kd lo hi va sl rS rK rL rH rV x) → l.Pairwise (fun a b => b < a) →
    (∀ b, zg_M (fun n => n ∈ l ∧ (lo n ≤ k ∧ k ≤ hi n ∧ n ≤ m) ∧ av < n) b → post (zg_sI sl b)) → wX_newestRange_29 post (nI k) (nI m) (nI av) (nI t) (nI (64 * t)) xkc xml xhl xnl xla xfl xfc xhe xbc xjr xjl xjt xjo xjh xjs xic xsa xse xta xoc xgc rS rK rL rH rV rE rI rP fS bS tB tS fi bA sO sM iO iM iL iH iP iK jI jO gu oP n (nI i) := by
  have wt : vp_in (nI t) 10 := vp_in_nI ht (by omega)
  have ct : (nI t).toNatClampNeg = t := nI_clamp (by omega)
  intro l
  induction l with
  | nil =>
    intro i n hn hs hb hA hR hp h
    simp only [List.length_nil] at hn hs hb
    obtain ⟨n, rfl⟩ : ∃ q, n = q + 1 := ⟨n - 1, by omega⟩
    rw [wX_newestRange_29]
    dsimp only
    rw [ct, hs]
    refine ⟨wt, br_t (nI_le (by omega) (by omega)) ?_⟩
    rw [← zg_sI0 (f := sl)]
    exact h 0 (zg_M0 (fun n hn => absurd hn.1 List.not_mem_nil))
  | cons x l ih =>
    intro i n hn hs hb hA hR hp h
    simp only [List.length_cons] at hn hs hb
    obtain ⟨n, rfl⟩ : ∃ q, n = q + 1 := ⟨n - 1, by omega⟩
    obtain ⟨⟨r1, r2, r3, r4, r45, -⟩, r5, r6, r7, r8, r9, r10, -⟩ := hR x List.mem_cons_self
    have hlt : ∀ y, y ∈ l → y < x := fun y hy => (List.pairwise_cons.mp hp).1 y hy
    have cx : (nI (sl x)).toNatClampNeg = sl x := nI_clamp (by omega)
    have wx : vp_in (nI (sl x)) 64 := vp_in_nI r1 (by omega)
    have hgo : ¬ ((lo x ≤ k ∧ k ≤ hi x ∧ x ≤ m) ∧ av < x) → wX_newestRange_29 post (nI k) (nI m) (nI av) (nI t) (nI (64 * t)) xkc xml xhl xnl xla xfl xfc xhe xbc xjr xjl xjt xjo xjh xjs xic xsa xse xta xoc xgc rS rK rL rH rV rE rI rP fS bS tB tS fi bA sO sM iO iM iL iH iP iK jI jO gu oP n (nI (i + 1)) := fun hno =>
      ih (i + 1) n (by omega) (hs.trans (congrArg nI (by omega))) (by omega) hA.2 (fun y hy => hR y (List.mem_cons_of_mem x hy)) (List.pairwise_cons.mp hp).2 (fun b hb' => h b (zg_Mc hb' (fun y => ⟨fun z => ⟨List.mem_cons_of_mem x z.1, z.2⟩, fun z => by
        rcases List.mem_cons.mp z.1 with e | e
        · subst e; exact absurd z.2 hno
        · exact ⟨e, z.2⟩⟩)))
    rw [wX_newestRange_29]
    dsimp only
    rw [ct, hs, nI_add (64 * t) i, nI_clamp (by omega : 64 * t + i < 2 ^ 31), hA.1]
    refine ⟨wt, br_f (nI_ge (by omega) (by omega)) ⟨vp_in_nI (by omega) (by omega), nm_e ?_⟩⟩
    rw [cx, r2, r4, r45]
    refine ⟨wx, pk_lt av x (fun z1 => ⟨wx, pk_lt m x (fun z2 => nm_r (nI_1 i) (hgo (by omega))) (fun z2 => ⟨wx, pk_lt k (lo x) (fun z3 => nm_r (nI_1 i) (hgo (by omega))) (fun z3 => ⟨wx, pk_lt (hi x) k (fun z4 => nm_r (nI_1 i) (hgo (by omega))) (fun z4 => ?_)⟩)⟩)⟩) (fun z1 => ?_)⟩
    · rw [← zg_sIs (f := sl) (by omega : x ≠ 0)]
      refine h x ⟨Or.inr ⟨List.mem_cons_self, ⟨z3, z4, z2⟩, z1⟩, fun n hn => ?_⟩
      rcases List.mem_cons.mp hn.1 with e | e
      · omega
      · exact Nat.le_of_lt (hlt n e)
    · rw [← zg_sI0 (f := sl)]
      refine h 0 (zg_M0 (fun n hn => ?_))
      have := hn.2.2
      rcases List.mem_cons.mp hn.1 with e | e
      · omega
      · have := hlt n e
        omega
theorem zx_nr {post : Int32 → Prop} {v k m av : Nat} (H : zx_H al kd lo hi lv va sl L NL xnl rS rK rL rH rV tB tS fi) (hv : v < 5) (hk : k < 24) (hm : m < 2 ^ 31) (hav : av < 2 ^ 31)
    (h : ∀ b, zg_M (fun n => (n ∈ L (2 * v + 1) ∧ lo n ≤ k ∧ k ≤ hi n ∧ n ≤ m) ∧ av < n) b → post (zg_sI sl b)) : wpX_newestRange post (xkc, xml, xhl, xnl, xla, xfl, xfc, xhe, xbc, xjr, xjl, xjt, xjo, xjh, xjs, xic, xsa, xse, xta, xoc, xgc, rS, rK, rL, rH, rV, rE, rI, rP, fS, bS, tB, tS, fi, bA, sO, sM, iO, iM, iL, iH, iP, iK, jI, jO, gu, oP) (nI v) (nI k) (nI m) (nI av) := by
  obtain ⟨H1, H2, H3, H4, H5, H6⟩ := H
  obtain ⟨q1, q2, q3, q4, q5, q6⟩ := H3 (2 * v + 1) (by omega)
  have h3 : ∀ x, x ∈ L (2 * v + 1) → kd x = 3 := fun x hx => (q6 x hx).mpr (by omega)
  unfold wpX_newestRange
  dsimp only
  rw [zl_2m v]
  refine nm_r (nI_1 _) (zx_mh (by omega) hk (fun hb => ?_) (fun hb => ?_))
  · refine br_f zl_10 (nm_r (zl_m64 _) ⟨(L (2 * v + 1)).length + 1, ?_⟩)
    refine zx_nr_l (hi := hi) (va := va) (kd := kd) (lo := lo) (by omega) hk hm hav (L (2 * v + 1)) 0 _ (by omega) (q2.trans (congrArg nI (by omega))) (by omega) q1 (fun x hx => H5 x ((H4 _ _).mp hx).1) (q4.imp_of_mem (fun ha hb z => (zo_3 (h3 _ ha)).mp z)) (fun b hb' => h b (zg_Mc hb' (fun y => ⟨fun z => ⟨⟨z.1, z.2.1⟩, z.2.2⟩, fun z => ⟨z.1.1, z.1.2, z.2⟩⟩)))
  · refine br_t rfl ?_
    rw [← zg_sI0 (f := sl)]
    exact h 0 (zg_M0 (fun n hn => hb ((q5 k hk).mpr ⟨n, hn.1.1, hn.1.2.1, hn.1.2.2.1⟩)))
theorem zx_d56 {post : Int32 → Prop} {J : _} {v k m b : Nat} {P : Nat → Prop} (H : zx_H al kd lo hi lv va sl L NL xnl rS rK rL rH rV tB tS fi) (hv : v < 5) (hk : k < 24) (hm : m < 2 ^ 31) (hb : b < 2 ^ 31) (hP : zg_M P b)
    (h : ∀ c, zg_M (fun n => P n ∨ (n ∈ L (2 * v + 1) ∧ lo n ≤ k ∧ k ≤ hi n ∧ n ≤ m)) c → J (zg_sI sl c) (nI c) (nI (v + 1))) : wX_decide_56 post J (nI k) (nI m) (zg_sI sl b) (nI b) (nI v) xkc xml xhl xnl xla xfl xfc xhe xbc xjr xjl xjt xjo xjh xjs xic xsa xse xta xoc xgc rS rK rL rH rV rE rI rP fS bS tB tS fi bA sO sM iO iM iL iH iP iK jI jO gu oP := by
  unfold wX_decide_56
  refine zx_nr H hv hk hm hb (fun c hc => ?_)
  have hM := zg_Mor hP hc
  by_cases e : c = 0
  · rw [if_pos e] at hM
    rw [e, zg_sI0]
    exact br_t zl_m1neg (nm_r (nI_1 v) (h b hM))
  · rw [if_neg e] at hM
    rcases hc.1 with z | z
    · exact absurd z e
    · obtain ⟨H1, H2, H3, H4, H5, H6⟩ := H
      have hr := H5 c ((H4 _ _).mp z.1.1).1
      have hj := h c hM
      have h64 := hr.1.1
      rw [zg_sIs e] at hj ⊢
      rw [nI_clamp (by omega : sl c < 2 ^ 31), hr.1.2.1]
      exact br_f (nI_pos (by omega)) ⟨vp_in_nI h64 (by omega), nm_e (nm_r (nI_1 v) hj)⟩
theorem zx_dc_l {post : Int32 → Prop} {k m : Nat} (H : zx_H al kd lo hi lv va sl L NL xnl rS rK rL rH rV tB tS fi) (hk : k < 24) (hm : m < 2 ^ 31) (h : post (zg_sI sl (zg_dc al lo hi k m))) :
    ∀ n v b, NL + 1 - v < n → v ≤ NL + 1 → zg_M (fun n => zg_cv al lo hi k m n ∧ lv n < v) b → wX_decide_8 post (nI k) (nI m) xkc xml xhl xnl xla xfl xfc xhe xbc xjr xjl xjt xjo xjh xjs xic xsa xse xta xoc xgc rS rK rL rH rV rE rI rP fS bS tB tS fi bA sO sM iO iM iL iH iP iK jI jO gu oP n (zg_sI sl b) (nI b) (nI v) := by
  have H' := H
  obtain ⟨H1, H2, H3, H4, H5, H6⟩ := H
  subst H1
  intro n
  induction n with
  | zero => intro v b hn; omega
  | succ n ih =>
    intro v b hn hv hM
    rw [wX_decide_8]
    dsimp only
    by_cases c : v = NL + 1
    · subst c
      have e : b = zg_dc al lo hi k m := zg_Mu (zg_Mc hM (fun n => ⟨fun z => z.1, fun z => ⟨z, by have := H6 n z.1; omega⟩⟩)) (zg_dcM al lo hi k m)
      subst e
      exact br_t (nI_lt (by omega) (by omega)) h
    · have hbb : b < 2 ^ 31 := by
        rcases hM.1 with z | z
        · omega
        · have := (H5 b z.1.1).2.2.1; omega
      refine br_f (nI_nlt (by omega) (by omega)) (zx_np H' (by omega) hk hm (fun b1 hb1 => ?_))
      have hMM := zg_Mmax hM hb1
      have hfin : ∀ (b2 : Nat), b2 < 2 ^ 31 → zg_M (fun n => (zg_cv al lo hi k m n ∧ lv n < v) ∨ (n ∈ L (2 * v) ∧ lo n = k ∧ n ≤ m)) b2 → wX_decide_56 post (wX_decide_8 post (nI k) (nI m) xkc xml xhl (nI NL) xla xfl xfc xhe xbc xjr xjl xjt xjo xjh xjs xic xsa xse xta xoc xgc rS rK rL rH rV rE rI rP fS bS tB tS fi bA sO sM iO iM iL iH iP iK jI jO gu oP n) (nI k) (nI m) (zg_sI sl b2) (nI b2) (nI v) xkc xml xhl (nI NL) xla xfl xfc xhe xbc xjr xjl xjt xjo xjh xjs xic xsa xse xta xoc xgc rS rK rL rH rV rE rI rP fS bS tB tS fi bA sO sM iO iM iL iH iP iK jI jO gu oP := by
        intro b2 hb2 hM2
        refine zx_d56 H' (by omega) hk hm hb2 hM2 (fun c hc => ?_)
        have key := ih (v + 1) c (by omega) (by omega) (zg_Mc hc (fun n => ⟨fun z => ?_, fun z => ?_⟩))
        · exact key
        · rcases z with (⟨z1, z2⟩ | ⟨z1, z2, z3⟩) | ⟨z1, z2⟩
          · exact ⟨z1, by omega⟩
          · obtain ⟨w1, w2⟩ := (H4 _ _).mp z1
            have hr := (H5 n w1).2
            have k3 : ¬ kd n = 3 := fun e => by rw [zt_tb3 e] at w2; omega
            rw [zt_tbn k3] at w2
            have := hr.2.2.2.2.2.2.1 k3
            exact ⟨⟨w1, by omega, by omega, z3⟩, by omega⟩
          · obtain ⟨w1, w2⟩ := (H4 _ _).mp z1
            have k3 : kd n = 3 := Classical.byContradiction (fun e => by rw [zt_tbn e] at w2; omega)
            rw [zt_tb3 k3] at w2
            exact ⟨⟨w1, z2⟩, by omega⟩
        · obtain ⟨⟨w1, w2, w3, w4⟩, w5⟩ := z
          by_cases e : lv n < v
          · exact Or.inl (Or.inl ⟨⟨w1, w2, w3, w4⟩, e⟩)
          · by_cases k3 : kd n = 3
            · exact Or.inr ⟨(H4 _ _).mpr ⟨w1, by rw [zt_tb3 k3]; omega⟩, w2, w3, w4⟩
            · have := (H5 n w1).2.2.2.2.2.2.2.1 k3
              exact Or.inl (Or.inr ⟨(H4 _ _).mpr ⟨w1, by rw [zt_tbn k3]; omega⟩, by omega, w4⟩)
      by_cases e1 : b1 = 0
      · rw [e1, zg_sI0]
        rw [e1, if_pos (Nat.zero_le b)] at hMM
        have key := hfin b hbb hMM
        exact br_t zl_m1neg key
      · rcases hb1.1 with z | z
        · exact absurd z e1
        · have hr := H5 b1 ((H4 _ _).mp z.1).1
          have h64 := hr.1.1
          have h600 := hr.2.2.1
          have hs1 : zg_sI sl b1 = nI (sl b1) := zg_sIs e1
          rw [hs1, nI_clamp (by omega : sl b1 < 2 ^ 31), hr.1.2.1]
          refine br_f (nI_pos (by omega)) ⟨vp_in_nI h64 (by omega), pk_le b1 b (fun y => ?_) (fun y => ?_)⟩
          · rw [if_pos y] at hMM
            have key := hfin b hbb hMM
            exact key
          · rw [if_neg (by omega)] at hMM
            have key := hfin b1 (by omega) hMM
            rw [hs1] at key
            exact ⟨vp_in_nI h64 (by omega), nm_e key⟩
theorem zx_dc {post : Int32 → Prop} {k m : Nat} (H : zx_H al kd lo hi lv va sl L NL xnl rS rK rL rH rV tB tS fi) (hk : k < 24) (hm : m < 2 ^ 31) (h : post (zg_sI sl (zg_dc al lo hi k m))) : wpX_decide post (xkc, xml, xhl, xnl, xla, xfl, xfc, xhe, xbc, xjr, xjl, xjt, xjo, xjh, xjs, xic, xsa, xse, xta, xoc, xgc, rS, rK, rL, rH, rV, rE, rI, rP, fS, bS, tB, tS, fi, bA, sO, sM, iO, iM, iL, iH, iP, iK, jI, jO, gu, oP) (nI k) (nI m) := by
  unfold wpX_decide
  dsimp only
  refine ⟨NL + 2, ?_⟩
  have key : wX_decide_8 post (nI k) (nI m) xkc xml xhl xnl xla xfl xfc xhe xbc xjr xjl xjt xjo xjh xjs xic xsa xse xta xoc xgc rS rK rL rH rV rE rI rP fS bS tB tS fi bA sO sM iO iM iL iH iP iK jI jO gu oP (NL + 2) (zg_sI sl 0) (nI 0) (nI 0) := zx_dc_l H hk hm h (NL + 2) 0 0 (by omega) (by omega) (zg_M0 (fun n z => by have := z.2; omega))
  rw [zg_sI0] at key
  exact key
theorem zx_va {post : Int32 → Prop} {k m : Nat} (H : zx_H al kd lo hi lv va sl L NL xnl rS rK rL rH rV tB tS fi) (hk : k < 24) (hm : m < 2 ^ 31) (h : post (zg_vl al kd lo hi va k m)) : wpX_valueAt post (xkc, xml, xhl, xnl, xla, xfl, xfc, xhe, xbc, xjr, xjl, xjt, xjo, xjh, xjs, xic, xsa, xse, xta, xoc, xgc, rS, rK, rL, rH, rV, rE, rI, rP, fS, bS, tB, tS, fi, bA, sO, sM, iO, iM, iL, iH, iP, iK, jI, jO, gu, oP) (nI k) (nI m) := by
  unfold wpX_valueAt
  dsimp only
  refine zx_dc H hk hm ?_
  unfold zg_vl at h
  by_cases e : zg_dc al lo hi k m = 0
  · rw [e, zg_sI0]
    rw [if_pos e] at h
    exact br_f zl_m1nn h
  · rw [if_neg e] at h
    rcases (zg_dcM al lo hi k m).1 with z | z
    · exact absurd z e
    · have hr := H.2.2.2.2.1 _ z.1
      have h64 := hr.1.1
      have hv := hr.1.2.2.2.2.2
      have h3 := hr.2.2.2.2.1
      rw [zg_sIs e, nI_clamp (by omega : sl (zg_dc al lo hi k m) < 2 ^ 31), hr.1.2.2.1, hv]
      refine br_t (nI_pos' (by omega)) ⟨vp_in_nI h64 (by omega), pk_eq (kd (zg_dc al lo hi k m)) 1 (fun y => ?_) (fun y => ?_)⟩
      · rw [if_pos y] at h
        exact ⟨vp_in_nI h64 (by omega), h⟩
      · rw [if_neg y] at h
        exact h
end
end
section
theorem zg_vl_pt {al : Nat → Bool} {kd lo hi : Nat → Nat} {va : Nat → Int32} {k m : Nat} (h : ¬ zg_vl al kd lo hi va k m = -1) (hR : ∀ n, al n = true → ¬ kd n = 3 → lo n = hi n) : ∃ n, al n = true ∧ ¬ kd n = 3 ∧ lo n = k := by
  unfold zg_vl at h
  by_cases e : zg_dc al lo hi k m = 0
  · rw [if_pos e] at h; exact absurd rfl h
  · rw [if_neg e] at h
    by_cases e1 : kd (zg_dc al lo hi k m) = 1
    · rcases (zg_dcM al lo hi k m).1 with z | z
      · exact absurd z e
      · have k3 : ¬ kd (zg_dc al lo hi k m) = 3 := by omega
        have := hR _ z.1 k3
        have := z.2.1
        have := z.2.2.1
        exact ⟨_, z.1, k3, by omega⟩
    · rw [if_neg e1] at h; exact absurd rfl h
theorem zg_vl_nn {al : Nat → Bool} {kd lo hi : Nat → Nat} {va : Nat → Int32} {k m : Nat} (hR : ∀ n, al n = true → ¬ va n < 0) : zg_vl al kd lo hi va k m = -1 ∨ ¬ zg_vl al kd lo hi va k m < 0 := by
  unfold zg_vl
  by_cases e : zg_dc al lo hi k m = 0
  · rw [if_pos e]; exact Or.inl rfl
  · rw [if_neg e]
    by_cases e1 : kd (zg_dc al lo hi k m) = 1
    · rw [if_pos e1]
      rcases (zg_dcM al lo hi k m).1 with z | z
      · exact absurd z e
      · exact Or.inr (hR _ z.1)
    · rw [if_neg e1]; exact Or.inl rfl
def zk_L (al : Nat → Bool) (kd lo lv : Nat → Nat) (f v q : Nat) : Prop := q ≤ 24 ∧ f ≤ q ∧ ∀ n, al n = true → ¬ kd n = 3 → f ≤ lo n → lv n < v → q ≤ lo n
def zk_G (al : Nat → Bool) (kd lo lv : Nat → Nat) (f v q : Nat) : Prop := q ≤ f + 1 ∧ ∀ n, al n = true → ¬ kd n = 3 → lo n ≤ f → lv n < v → lo n + 1 ≤ q
section
variable {xkc xml xhl xnl xla xfl xfc xhe xbc xjr xjl xjt xjo xjh xjs xic xsa xse xta xoc xgc : Int32} {rS rK rL rH rV rE rI rP fS bS tB tS fi bA sO sM iO iM iL iH iP iK jI jO gu oP : Nat → Int32} {al : Nat → Bool} {kd lo hi lv ip : Nat → Nat} {va : Nat → Int32} {sl : Nat → Nat} {L : Nat → List Nat} {NL : Nat}
theorem zx_ls_l {post : Int32 → Prop} {f : Nat} (H : zx_H al kd lo hi lv va sl L NL xnl rS rK rL rH rV tB tS fi) (hf : f ≤ 24) (h : ∀ q, q ≤ 24 → f ≤ q → (∀ n, al n = true → ¬ kd n = 3 → f ≤ lo n → q ≤ lo n) → post (nI q)) :
    ∀ n v q, NL + 1 - v < n → v ≤ NL + 1 → zk_L al kd lo lv f v q → wX_leastStored_5 post (nI f) xkc xml xhl xnl xla xfl xfc xhe xbc xjr xjl xjt xjo xjh xjs xic xsa xse xta xoc xgc rS rK rL rH rV rE rI rP fS bS tB tS fi bA sO sM iO iM iL iH iP iK jI jO gu oP n (nI q) (nI v) := by
  have H' := H
  obtain ⟨H1, H2, H3, H4, H5, H6⟩ := H
  subst H1
  intro n
  induction n with
  | zero => intro v q hn; omega
  | succ n ih =>
    intro v q hn hv hq
    obtain ⟨k1, k2, k3⟩ := hq
    rw [wX_leastStored_5]
    dsimp only
    by_cases c : v = NL + 1
    · subst c
      exact br_t (nI_lt (by omega) (by omega)) (h q k1 k2 (fun n h1 h2 h3 => k3 n h1 h2 h3 (by have := H6 n h1; omega)))
    · obtain ⟨q1, q2, q3, q4, q5, q6⟩ := H3 (2 * v) (by omega)
      refine br_f (nI_nlt (by omega) (by omega)) (zx_sp (m := 1000000) H' (by omega) (by omega) (by omega) (fun p hp h1 h2 => ?_))
      have hmem : ∀ n, al n = true → ¬ kd n = 3 → lv n = v → n ∈ L (2 * v) := fun n h1 h2 h3 => (H4 _ _).mpr ⟨h1, by rw [zt_tbn h2]; omega⟩
      rw [zl_2m v, nI_clamp (by omega : 2 * v < 2 ^ 31), q2, zl_m64]
      refine ⟨vp_in_nI (by omega) (by omega), pk_le (L (2 * v)).length p (fun z => nm_r (nI_1 v) ?_) (fun z => ?_)⟩
      · refine ih (v + 1) q (by omega) (by omega) ⟨k1, k2, fun n h3 h4 h5 h6 => ?_⟩
        by_cases e : lv n < v
        · exact k3 n h3 h4 h5 e
        · obtain ⟨i, hi', rfl⟩ := List.mem_iff_getElem.mp (hmem n h3 h4 (by omega))
          have w := h1 i hi' (by omega)
          have h6 := (H5 _ h3).2.2.1
          unfold zr at w
          omega
      · have hx : tB (64 * (2 * v) + p) = nI (sl (L (2 * v))[p]) := zl_at_ix z q1
        have hme : (L (2 * v))[p] ∈ L (2 * v) := List.getElem_mem z
        have hal := ((H4 _ _).mp hme).1
        obtain ⟨⟨r1, r2, r3, r4, -, -⟩, r5, r6, r7, r8, r9, r10, r11, -⟩ := H5 _ hal
        have hk3 : ¬ kd (L (2 * v))[p] = 3 := fun e => by have := (q6 _ hme).mp e; omega
        have hge : ∀ n, al n = true → ¬ kd n = 3 → f ≤ lo n → lv n = v → lo (L (2 * v))[p] ≤ lo n := fun n h3 h4 h5 h6 => by
          obtain ⟨i, hi', rfl⟩ := List.mem_iff_getElem.mp (hmem n h3 h4 h6)
          by_cases e : i < p
          · have w := h1 i hi' e
            have h7 := (H5 _ h3).2.2.1
            unfold zr at w
            omega
          · by_cases e2 : i = p
            · subst e2; exact Nat.le_refl _
            · have := (zo_n hk3).mp (List.pairwise_iff_getElem.mp q4 p i z hi' (by omega))
              omega
        have hfl : f ≤ lo (L (2 * v))[p] := by
          have w := h2 p z (Nat.le_refl p)
          unfold zr at w
          omega
        rw [nI_add (64 * (2 * v)) p, nI_clamp (by omega : 64 * (2 * v) + p < 2 ^ 31), hx, nI_clamp (by omega : sl (L (2 * v))[p] < 2 ^ 31), r4]
        refine ⟨vp_in_nI (by omega) (by omega), vp_in_nI r1 (by omega), nm_e (pk_le q (lo (L (2 * v))[p]) (fun y => nm_r (nI_1 v) ?_) (fun y => nm_r (nI_1 v) ?_))⟩
        · refine ih (v + 1) q (by omega) (by omega) ⟨k1, k2, fun n h3 h4 h5 h6 => ?_⟩
          by_cases e : lv n < v
          · exact k3 n h3 h4 h5 e
          · have := hge n h3 h4 h5 (by omega)
            omega
        · refine ih (v + 1) _ (by omega) (by omega) ⟨by omega, hfl, fun n h3 h4 h5 h6 => ?_⟩
          by_cases e : lv n < v
          · have := k3 n h3 h4 h5 e
            omega
          · exact hge n h3 h4 h5 (by omega)
theorem zx_ls {post : Int32 → Prop} {f : Nat} (H : zx_H al kd lo hi lv va sl L NL xnl rS rK rL rH rV tB tS fi) (hf : f ≤ 24) (h : ∀ q, q ≤ 24 → f ≤ q → (∀ n, al n = true → ¬ kd n = 3 → f ≤ lo n → q ≤ lo n) → post (nI q)) : wpX_leastStored post (xkc, xml, xhl, xnl, xla, xfl, xfc, xhe, xbc, xjr, xjl, xjt, xjo, xjh, xjs, xic, xsa, xse, xta, xoc, xgc, rS, rK, rL, rH, rV, rE, rI, rP, fS, bS, tB, tS, fi, bA, sO, sM, iO, iM, iL, iH, iP, iK, jI, jO, gu, oP) (nI f) := by
  unfold wpX_leastStored
  dsimp only
  exact ⟨NL + 2, zx_ls_l H hf h (NL + 2) 0 24 (by omega) (by omega) ⟨by omega, hf, fun n _ _ _ z => by omega⟩⟩
theorem zx_gs_l {post : Int32 → Prop} {f : Nat} (H : zx_H al kd lo hi lv va sl L NL xnl rS rK rL rH rV tB tS fi) (hf : f < 24) (h : ∀ q, q ≤ f + 1 → (∀ n, al n = true → ¬ kd n = 3 → lo n ≤ f → lo n + 1 ≤ q) → post (nI q - 1)) :
    ∀ n v q, NL + 1 - v < n → v ≤ NL + 1 → zk_G al kd lo lv f v q → wX_greatestStored_4 post (nI f) xkc xml xhl xnl xla xfl xfc xhe xbc xjr xjl xjt xjo xjh xjs xic xsa xse xta xoc xgc rS rK rL rH rV rE rI rP fS bS tB tS fi bA sO sM iO iM iL iH iP iK jI jO gu oP n (nI q - 1) (nI v) := by
  have H' := H
  obtain ⟨H1, H2, H3, H4, H5, H6⟩ := H
  subst H1
  intro n
  induction n with
  | zero => intro v q hn; omega
  | succ n ih =>
    intro v q hn hv hq
    obtain ⟨k1, k3⟩ := hq
    rw [wX_greatestStored_4]
    dsimp only
    by_cases c : v = NL + 1
    · subst c
      exact br_t (nI_lt (by omega) (by omega)) (h q k1 (fun n h1 h2 h3 => k3 n h1 h2 h3 (by have := H6 n h1; omega)))
    · obtain ⟨q1, q2, q3, q4, q5, q6⟩ := H3 (2 * v) (by omega)
      have hmem : ∀ n, al n = true → ¬ kd n = 3 → lv n = v → n ∈ L (2 * v) := fun n h1 h2 h3 => (H4 _ _).mpr ⟨h1, by rw [zt_tbn h2]; omega⟩
      refine br_f (nI_nlt (by omega) (by omega)) ?_
      rw [nI_1 f]
      refine zx_sp (m := 1000000) H' (by omega) (by omega) (by omega) (fun p hp h1 h2 => ?_)
      refine pk_le p 0 (fun z => nm_r (nI_1 v) ?_) (fun z => ?_)
      · refine ih (v + 1) q (by omega) (by omega) ⟨k1, fun n h3 h4 h5 h6 => ?_⟩
        by_cases e : lv n < v
        · exact k3 n h3 h4 h5 e
        · obtain ⟨i, hi', rfl⟩ := List.mem_iff_getElem.mp (hmem n h3 h4 (by omega))
          have w := h2 i hi' (by omega)
          unfold zr at w
          omega
      · obtain ⟨p, rfl⟩ : ∃ p', p = p' + 1 := ⟨p - 1, by omega⟩
        have zp : p < (L (2 * v)).length := by omega
        have hx : tB (64 * (2 * v) + p) = nI (sl (L (2 * v))[p]) := zl_at_ix zp q1
        have hme : (L (2 * v))[p] ∈ L (2 * v) := List.getElem_mem zp
        have hal := ((H4 _ _).mp hme).1
        obtain ⟨⟨r1, r2, r3, r4, -, -⟩, r5, r6, r7, r8, r9, r10, r11, -⟩ := H5 _ hal
        have hge : ∀ n, al n = true → ¬ kd n = 3 → lo n ≤ f → lv n = v → lo n ≤ lo (L (2 * v))[p] := fun n h3 h4 h5 h6 => by
          obtain ⟨i, hi', rfl⟩ := List.mem_iff_getElem.mp (hmem n h3 h4 h6)
          by_cases e : p + 1 ≤ i
          · have w := h2 i hi' e
            unfold zr at w
            omega
          · by_cases e2 : i = p
            · subst e2; exact Nat.le_refl _
            · have := (zo_n h4).mp (List.pairwise_iff_getElem.mp q4 i p hi' zp (by omega))
              omega
        have hfl : lo (L (2 * v))[p] ≤ f := by
          have w := h1 p zp (by omega)
          unfold zr at w
          omega
        rw [zl_2m v, zl_m64, nI_add (64 * (2 * v)) (p + 1), show nI (64 * (2 * v) + (p + 1)) - 1 = nI (64 * (2 * v) + p) from nI_pred _, nI_clamp (by omega : 64 * (2 * v) + p < 2 ^ 31), hx, nI_clamp (by omega : sl (L (2 * v))[p] < 2 ^ 31), r4]
        refine ⟨vp_in_nI (by omega) (by omega), vp_in_nI r1 (by omega), nm_e ?_⟩
        rw [zl_le_p (by omega) (by omega)]
        refine br_c (fun y => nm_r (nI_1 v) ?_) (fun y => nm_r (nI_1 v) ?_)
        · refine ih (v + 1) q (by omega) (by omega) ⟨k1, fun n h3 h4 h5 h6 => ?_⟩
          by_cases e : lv n < v
          · exact k3 n h3 h4 h5 e
          · have := hge n h3 h4 h5 (by omega)
            omega
        · have key := ih (v + 1) (lo (L (2 * v))[p] + 1) (by omega) (by omega) ⟨by omega, fun n h3 h4 h5 h6 => by
            by_cases e : lv n < v
            · have := k3 n h3 h4 h5 e
              omega
            · have := hge n h3 h4 h5 (by omega)
              omega⟩
          rw [nI_pred] at key
          exact key
theorem zx_gs {post : Int32 → Prop} {f : Nat} (H : zx_H al kd lo hi lv va sl L NL xnl rS rK rL rH rV tB tS fi) (hf : f < 24) (h : ∀ q, q ≤ f + 1 → (∀ n, al n = true → ¬ kd n = 3 → lo n ≤ f → lo n + 1 ≤ q) → post (nI q - 1)) : wpX_greatestStored post (xkc, xml, xhl, xnl, xla, xfl, xfc, xhe, xbc, xjr, xjl, xjt, xjo, xjh, xjs, xic, xsa, xse, xta, xoc, xgc, rS, rK, rL, rH, rV, rE, rI, rP, fS, bS, tB, tS, fi, bA, sO, sM, iO, iM, iL, iH, iP, iK, jI, jO, gu, oP) (nI f) := by
  unfold wpX_greatestStored
  dsimp only
  refine ⟨NL + 2, ?_⟩
  have key : wX_greatestStored_4 post (nI f) xkc xml xhl xnl xla xfl xfc xhe xbc xjr xjl xjt xjo xjh xjs xic xsa xse xta xoc xgc rS rK rL rH rV rE rI rP fS bS tB tS fi bA sO sM iO iM iL iH iP iK jI jO gu oP (NL + 2) (nI 0 - 1) (nI 0) := zx_gs_l H hf h (NL + 2) 0 0 (by omega) (by omega) ⟨by omega, fun n _ _ _ z => by omega⟩
  rw [zl_neg1] at key
  exact key
theorem zx_fu_l {post : Int32 → Prop} {f t m : Nat} (H : zx_H al kd lo hi lv va sl L NL xnl rS rK rL rH rV tB tS fi) (ht : t < 24) (hm : m < 2 ^ 31) (h : ∀ r, zk_up (fun k => zg_vl al kd lo hi va k m) f t r → post r) :
    ∀ n g c, 24 - c < n → c ≤ 24 → f ≤ g → g ≤ 24 → c ≤ g → (∀ k, f ≤ k → k < g → zg_vl al kd lo hi va k m = -1) → wX_findUp_6 post (nI t) (nI m) xkc xml xhl xnl xla xfl xfc xhe xbc xjr xjl xjt xjo xjh xjs xic xsa xse xta xoc xgc rS rK rL rH rV rE rI rP fS bS tB tS fi bA sO sM iO iM iL iH iP iK jI jO gu oP n (nI g) (nI c) := by
  intro n
  induction n with
  | zero => intro g c hn; omega
  | succ n ih =>
    intro g c hn hc hfg hg hcg hno
    rw [wX_findUp_6]
    dsimp only
    refine pk_le 24 c (fun z => h _ (Or.inl ⟨rfl, fun k h1 h2 => hno k h1 (by omega)⟩)) (fun z => ?_)
    refine pk_lt t g (fun y => h _ (Or.inl ⟨rfl, fun k h1 h2 => hno k h1 (by omega)⟩)) (fun y => ?_)
    refine zx_ls H (by omega) (fun q hq1 hq2 hq3 => ?_)
    have hgq : ∀ k, g ≤ k → k < q → zg_vl al kd lo hi va k m = -1 := fun k h1 h2 => Classical.byContradiction (fun w => by
      obtain ⟨x, x1, x2, x3⟩ := zg_vl_pt w (fun n hn hk => (H.2.2.2.2.1 n hn).2.2.2.2.2.2.2.1 hk)
      have := hq3 x x1 x2 (by omega)
      omega)
    refine pk_le q t (fun w => ?_) (fun w => ?_)
    · refine zx_va H (by omega) hm ?_
      refine br_c (fun e => nm_r (nI_1 q) (nm_r (nI_1 c) ?_)) (fun e => ?_)
      · refine ih (q + 1) (c + 1) (by omega) (by omega) (by omega) (by omega) (by omega) (fun k h1 h2 => ?_)
        by_cases k1 : k < g
        · exact hno k h1 k1
        · by_cases k2 : k < q
          · exact hgq k (by omega) k2
          · rw [show k = q by omega]; exact e
      · refine h _ (Or.inr ⟨q, rfl, by omega, w, e, fun j h1 h2 => ?_⟩)
        by_cases k1 : j < g
        · exact hno j h1 k1
        · exact hgq j (by omega) h2
    · refine h _ (Or.inl ⟨rfl, fun k h1 h2 => ?_⟩)
      by_cases k1 : k < g
      · exact hno k h1 k1
      · exact hgq k (by omega) (by omega)
theorem zx_fu {post : Int32 → Prop} {f t m : Nat} (H : zx_H al kd lo hi lv va sl L NL xnl rS rK rL rH rV tB tS fi) (hf : f ≤ 24) (ht : t < 24) (hm : m < 2 ^ 31) (h : ∀ r, zk_up (fun k => zg_vl al kd lo hi va k m) f t r → post r) : wpX_findUp post (xkc, xml, xhl, xnl, xla, xfl, xfc, xhe, xbc, xjr, xjl, xjt, xjo, xjh, xjs, xic, xsa, xse, xta, xoc, xgc, rS, rK, rL, rH, rV, rE, rI, rP, fS, bS, tB, tS, fi, bA, sO, sM, iO, iM, iL, iH, iP, iK, jI, jO, gu, oP) (nI f) (nI t) (nI m) := by
  unfold wpX_findUp
  dsimp only
  exact ⟨25, zx_fu_l H ht hm h 25 f 0 (by omega) (by omega) (by omega) hf (by omega) (fun k h1 h2 => by omega)⟩
theorem zx_fd_l {post : Int32 → Prop} {f t m : Nat} (H : zx_H al kd lo hi lv va sl L NL xnl rS rK rL rH rV tB tS fi) (ht : t < 24) (hm : m < 2 ^ 31) (h : ∀ r, zk_dn (fun k => zg_vl al kd lo hi va k m) f t r → post r) :
    ∀ n g c, 24 - c < n → c ≤ 24 → g ≤ f → c + g ≤ 24 → (∀ k, g ≤ k → k < f → zg_vl al kd lo hi va k m = -1) → wX_findDown_6 post (nI t) (nI m) xkc xml xhl xnl xla xfl xfc xhe xbc xjr xjl xjt xjo xjh xjs xic xsa xse xta xoc xgc rS rK rL rH rV rE rI rP fS bS tB tS fi bA sO sM iO iM iL iH iP iK jI jO gu oP n (nI g - 1) (nI c) := by
  intro n
  induction n with
  | zero => intro g c hn; omega
  | succ n ih =>
    intro g c hn hc hfg hcg hno
    rw [wX_findDown_6]
    dsimp only
    refine pk_le 24 c (fun z => h _ (Or.inl ⟨rfl, fun k h1 h2 => hno k (by omega) h2⟩)) (fun z => ?_)
    rw [zl_lt_p (by omega) (by omega)]
    refine br_c (fun y => h _ (Or.inl ⟨rfl, fun k h1 h2 => hno k (by omega) h2⟩)) (fun y => ?_)
    obtain ⟨g, rfl⟩ : ∃ g', g = g' + 1 := ⟨g - 1, by omega⟩
    rw [nI_pred]
    refine zx_gs H (by omega) (fun q hq1 hq3 => ?_)
    have hgq : ∀ k, q ≤ k → k < g + 1 → zg_vl al kd lo hi va k m = -1 := fun k h1 h2 => Classical.byContradiction (fun w => by
      obtain ⟨x, x1, x2, x3⟩ := zg_vl_pt w (fun n hn hk => (H.2.2.2.2.1 n hn).2.2.2.2.2.2.2.1 hk)
      have := hq3 x x1 x2 (by omega)
      omega)
    rw [zl_le_p (by omega) (by omega)]
    refine br_c (fun w => ?_) (fun w => ?_)
    · obtain ⟨q, rfl⟩ : ∃ q', q = q' + 1 := ⟨q - 1, by omega⟩
      rw [nI_pred]
      refine zx_va H (by omega) hm ?_
      refine br_c (fun e => nm_r (zl_sub1 _) (nm_r (nI_1 c) ?_)) (fun e => ?_)
      · refine ih q (c + 1) (by omega) (by omega) (by omega) (by omega) (fun k h1 h2 => ?_)
        by_cases k1 : g + 1 ≤ k
        · exact hno k k1 h2
        · by_cases k2 : q + 1 ≤ k
          · exact hgq k k2 (by omega)
          · rw [show k = q by omega]; exact e
      · refine h _ (Or.inr ⟨q, rfl, by omega, by omega, e, fun j h1 h2 => ?_⟩)
        by_cases k1 : g + 1 ≤ j
        · exact hno j k1 h2
        · exact hgq j (by omega) (by omega)
    · refine h _ (Or.inl ⟨rfl, fun k h1 h2 => ?_⟩)
      by_cases k1 : g + 1 ≤ k
      · exact hno k k1 h2
      · exact hgq k (by omega) (by omega)
theorem zx_fd {post : Int32 → Prop} {f t m : Nat} (H : zx_H al kd lo hi lv va sl L NL xnl rS rK rL rH rV tB tS fi) (hf : f ≤ 24) (ht : t < 24) (hm : m < 2 ^ 31) (h : ∀ r, zk_dn (fun k => zg_vl al kd lo hi va k m) f t r → post r) : wpX_findDown post (xkc, xml, xhl, xnl, xla, xfl, xfc, xhe, xbc, xjr, xjl, xjt, xjo, xjh, xjs, xic, xsa, xse, xta, xoc, xgc, rS, rK, rL, rH, rV, rE, rI, rP, fS, bS, tB, tS, fi, bA, sO, sM, iO, iM, iL, iH, iP, iK, jI, jO, gu, oP) (nI f - 1) (nI t) (nI m) := by
  unfold wpX_findDown
  dsimp only
  exact ⟨25, zx_fd_l H ht hm h 25 f 0 (by omega) (by omega) (by omega) (by omega) (fun k h1 h2 => by omega)⟩
end
/-- number of keys below k in lo .. hi with a value -/
def zk_ct (V : Nat → Int32) (l h : Nat) : Nat → Nat
  | 0 => 0
  | k + 1 => if l ≤ k ∧ k ≤ h ∧ ¬ V k = -1 then zk_ct V l h k + 1 else zk_ct V l h k
theorem zk_ct_y {V : Nat → Int32} {l h k : Nat} (c : l ≤ k ∧ k ≤ h ∧ ¬ V k = -1) : zk_ct V l h (k + 1) = zk_ct V l h k + 1 := if_pos c
theorem zk_ct_n {V : Nat → Int32} {l h k : Nat} (c : ¬ (l ≤ k ∧ k ≤ h ∧ ¬ V k = -1)) : zk_ct V l h (k + 1) = zk_ct V l h k := if_neg c
theorem zk_ct_le (V : Nat → Int32) (l h : Nat) : ∀ k, zk_ct V l h k ≤ k
  | 0 => Nat.le_refl 0
  | k + 1 => by
    have := zk_ct_le V l h k
    by_cases c : l ≤ k ∧ k ≤ h ∧ ¬ V k = -1
    · rw [zk_ct_y c]; omega
    · rw [zk_ct_n c]; omega
theorem zk_ct_same {V : Nat → Int32} {l h a : Nat} : ∀ b, a ≤ b → (∀ k, a ≤ k → k < b → ¬ (l ≤ k ∧ k ≤ h ∧ ¬ V k = -1)) → zk_ct V l h b = zk_ct V l h a
  | 0, hab, _ => by rw [show a = 0 by omega]
  | b + 1, hab, hh => by
    by_cases c : a = b + 1
    · rw [c]
    · rw [zk_ct_n (hh b (by omega) (by omega))]
      exact zk_ct_same b (by omega) (fun k h1 h2 => hh k h1 (by omega))
section
variable {xkc xml xhl xnl xla xfl xfc xhe xbc xjr xjl xjt xjo xjh xjs xic xsa xse xta xoc xgc : Int32} {rS rK rL rH rV rE rI rP fS bS tB tS fi bA sO sM iO iM iL iH iP iK jI jO gu oP : Nat → Int32} {al : Nat → Bool} {kd lo hi lv ip : Nat → Nat} {va : Nat → Int32} {sl : Nat → Nat} {L : Nat → List Nat} {NL : Nat}
theorem zx_ct_l {post : Int32 → Prop} {l t m : Nat} (H : zx_H al kd lo hi lv va sl L NL xnl rS rK rL rH rV tB tS fi) (ht : t < 24) (hm : m < 2 ^ 31) (h : post (nI (zk_ct (fun k => zg_vl al kd lo hi va k m) l t 24))) :
    ∀ n g r, 24 - g < n → l ≤ g → g ≤ 24 → zk_up (fun k => zg_vl al kd lo hi va k m) g t r → wX_count_40 post (nI t) (nI m) xkc xml xhl xnl xla xfl xfc xhe xbc xjr xjl xjt xjo xjh xjs xic xsa xse xta xoc xgc rS rK rL rH rV rE rI rP fS bS tB tS fi bA sO sM iO iM iL iH iP iK jI jO gu oP n (nI (zk_ct (fun k => zg_vl al kd lo hi va k m) l t g)) r := by
  intro n
  induction n with
  | zero => intro g r hn; omega
  | succ n ih =>
    intro g r hn hlg hg hr
    rw [wX_count_40]
    dsimp only
    rcases hr with ⟨e, hno⟩ | ⟨k, e, k1, k2, k3, k4⟩
    · subst e
      refine br_t rfl ?_
      rw [← zk_ct_same 24 hg (fun k h1 h2 z => z.2.2 (hno k h1 z.2.1))]
      exact h
    · subst e
      have e1 : zk_ct (fun k => zg_vl al kd lo hi va k m) l t k = zk_ct (fun k => zg_vl al kd lo hi va k m) l t g := zk_ct_same k k1 (fun j h1 h2 z => z.2.2 (k4 j h1 h2))
      have e2 : zk_ct (fun k => zg_vl al kd lo hi va k m) l t (k + 1) = zk_ct (fun k => zg_vl al kd lo hi va k m) l t g + 1 := by rw [zk_ct_y ⟨by omega, k2, k3⟩, e1]
      have hle := zk_ct_le (fun k => zg_vl al kd lo hi va k m) l t g
      have hle2 := zk_ct_le (fun k => zg_vl al kd lo hi va k m) l t k
      refine br_f (zl_nIm1 (by omega)) (br_f (nI_ge (b := 24) (by omega) (by omega)) (nm_r (nI_1 _) ?_))
      rw [nI_1 k]
      refine zx_fu H (by omega) ht hm (fun r hr => ?_)
      rw [← e2]
      exact ih (k + 1) r (by omega) (by omega) (by omega) hr
/-! X: findRecord -/
theorem zx_fr_l {post : Int32 → Prop} {p0 : Int32} {BS : List Nat} (hA : zl_At bS 0 sl BS) (hl : BS.length ≤ 64) (hhe : xhe = nI BS.length) (hp : BS.Pairwise (fun a b => a < b)) (hB : ∀ n, n ∈ BS ↔ al n = true) (hR : ∀ n, al n = true → zg_R kd lo hi va sl rS rK rL rH rV n) (h1 : ∀ n, al n = true → nI n = p0 → post (nI (sl n))) (h0 : (∀ n, al n = true → ¬ nI n = p0) → post (-1)) :
    ∀ n a b, b - a < n → a ≤ b → b ≤ BS.length → (∀ i (hh : i < BS.length), i < a → ¬ p0 ≤ nI BS[i]) → (∀ i (hh : i < BS.length), b ≤ i → p0 ≤ nI BS[i]) → wX_findRecord_7 post p0 xkc xml xhl xnl xla xfl xfc xhe xbc xjr xjl xjt xjo xjh xjs xic xsa xse xta xoc xgc rS rK rL rH rV rE rI rP fS bS tB tS fi bA sO sM iO iM iL iH iP iK jI jO gu oP n (nI a) (nI b) := by
  have hx : ∀ i (hh : i < BS.length), bS i = nI (sl BS[i]) := fun i hh => by have := zl_at_ix hh hA; rw [Nat.zero_add] at this; exact this
  have hmono : ∀ i j (hi' : i < BS.length) (hj : j < BS.length), i ≤ j → BS[i] ≤ BS[j] := fun i j hi' hj hij => by
    by_cases e : i = j
    · subst e; exact Nat.le_refl _
    · exact Nat.le_of_lt (List.pairwise_iff_getElem.mp hp i j hi' hj (by omega))
  have hal : ∀ i (hh : i < BS.length), al BS[i] = true := fun i hh => (hB _).mp (List.getElem_mem hh)
  intro n
  induction n with
  | zero => intro a b hn; omega
  | succ n ih =>
    intro a b hn hab hb g1 g2
    rw [wX_findRecord_7]
    dsimp only
    by_cases c : b ≤ a
    · have e : a = b := by omega
      subst e
      refine br_t (nI_le (by omega) (by omega)) (pk_le BS.length a (fun z => h0 (fun n hn' e => ?_)) (fun z => ?_) hhe)
      · obtain ⟨i, hi', rfl⟩ := List.mem_iff_getElem.mp ((hB n).mpr hn')
        exact g1 i hi' (by omega) (by rw [e]; exact Int32.le_refl _)
      · obtain ⟨⟨r1, r2, -⟩, r5, r6, -⟩ := hR _ (hal a z)
        rw [nI_clamp (by omega : a < 2 ^ 31), hx a z]
        refine ⟨vp_in_nI (by omega) (by omega), nm_e ?_⟩
        rw [nI_clamp (by omega : sl BS[a] < 2 ^ 31), r2]
        refine ⟨vp_in_nI r1 (by omega), br_c (fun e => h1 _ (hal a z) e) (fun e => h0 (fun n hn' e' => ?_))⟩
        obtain ⟨i, hi', rfl⟩ := List.mem_iff_getElem.mp ((hB n).mpr hn')
        by_cases c1 : i < a
        · exact g1 i hi' c1 (by rw [e']; exact Int32.le_refl _)
        · have w1 := g2 a z (Nat.le_refl a)
          have w2 := hmono a i z hi' (by omega)
          have r6' := (hR _ (hal i hi')).2.2.1
          rw [← e', nI_leI (by omega) (by omega)] at w1
          exact e (by rw [← e', show BS[a] = BS[i] by omega])
    · have hm1 : (a + b) / 2 < b := by omega
      have hm2 : a ≤ (a + b) / 2 := by omega
      have hml : (a + b) / 2 < BS.length := by omega
      obtain ⟨⟨r1, r2, -⟩, r5, r6, -⟩ := hR _ (hal _ hml)
      refine br_f (nI_ge (by omega) (by omega)) (nm_r (zl_half (by omega)) ?_)
      rw [nI_clamp (by omega : (a + b) / 2 < 2 ^ 31), hx _ hml, nI_clamp (by omega : sl BS[(a + b) / 2] < 2 ^ 31), r2]
      refine ⟨vp_in_nI (by omega) (by omega), vp_in_nI r1 (by omega), br_c (fun z => ?_) (fun z => nm_r (nI_1 _) ?_)⟩
      · refine ih a _ (by omega) hm2 (by omega) g1 (fun i hh hi' => ?_)
        have r6' := (hR _ (hal i hh)).2.2.1
        exact Int32.le_trans z (nI_le (hmono _ i hml hh hi') (by omega))
      · refine ih _ b (by omega) (by omega) hb (fun i hh hi' w => z ?_) g2
        exact Int32.le_trans w (nI_le (hmono i _ hh hml (by omega)) (by omega))
theorem zx_fr {post : Int32 → Prop} {p0 : Int32} {BS : List Nat} (hA : zl_At bS 0 sl BS) (hl : BS.length ≤ 64) (hhe : xhe = nI BS.length) (hp : BS.Pairwise (fun a b => a < b)) (hB : ∀ n, n ∈ BS ↔ al n = true) (hR : ∀ n, al n = true → zg_R kd lo hi va sl rS rK rL rH rV n) (h1 : ∀ n, al n = true → nI n = p0 → post (nI (sl n))) (h0 : (∀ n, al n = true → ¬ nI n = p0) → post (-1)) : wpX_findRecord post (xkc, xml, xhl, xnl, xla, xfl, xfc, xhe, xbc, xjr, xjl, xjt, xjo, xjh, xjs, xic, xsa, xse, xta, xoc, xgc, rS, rK, rL, rH, rV, rE, rI, rP, fS, bS, tB, tS, fi, bA, sO, sM, iO, iM, iL, iH, iP, iK, jI, jO, gu, oP) p0 := by
  unfold wpX_findRecord
  dsimp only
  refine ⟨BS.length + 1, ?_⟩
  have key : wX_findRecord_7 post p0 xkc xml xhl xnl xla xfl xfc xhe xbc xjr xjl xjt xjo xjh xjs xic xsa xse xta xoc xgc rS rK rL rH rV rE rI rP fS bS tB tS fi bA sO sM iO iM iL iH iP iK jI jO gu oP (BS.length + 1) (nI 0) (nI BS.length) := zx_fr_l (post := post) (p0 := p0) hA hl hhe hp hB hR h1 h0 (BS.length + 1) 0 BS.length (by omega) (by omega) (Nat.le_refl _) (fun i hh z => by omega) (fun i hh z => by omega)
  rw [← hhe] at key
  exact key
end
end
section
def zl_ub (al : Nat → Bool) (n : Nat) (b : Bool) : Nat → Bool := fun j => if j = n then b else al j
theorem zl_ubs {al : Nat → Bool} {n : Nat} {b : Bool} : zl_ub al n b n = b := if_pos rfl
theorem zl_ubn {al : Nat → Bool} {n j : Nat} {b : Bool} (h : j ≠ n) : zl_ub al n b j = al j := if_neg h
theorem zo_c {kd kd' lo lo' : Nat → Nat} {a b : Nat} (h1 : kd' a = kd a) (h2 : lo' a = lo a) (h3 : lo' b = lo b) : zo kd' lo' a b ↔ zo kd lo a b := by unfold zo; rw [h1, h2, h3]
theorem zt_tc {kd kd' lo lo' hi hi' sl sl' : Nat → Nat} {L : Nat → List Nat} {tB tS fi : Nat → Int32} (h : ∀ t x, x ∈ L t → kd' x = kd x ∧ lo' x = lo x ∧ hi' x = hi x ∧ sl' x = sl x) (hT : zt_Tab kd lo hi sl L tB tS fi) : zt_Tab kd' lo' hi' sl' L tB tS fi := by
  intro t ht
  obtain ⟨q1, q2, q3, q4, q5, q6⟩ := hT t ht
  refine ⟨zl_at_f (fun x hx => (h t x hx).2.2.2) q1, q2, q3, q4.imp_of_mem (fun ha hb z => (zo_c (h t _ ha).1 (h t _ ha).2.1 (h t _ hb).2.1).mpr z), fun k hk => (q5 k hk).trans ⟨fun ⟨x, hx, z⟩ => ⟨x, hx, by rw [(h t x hx).2.1, (h t x hx).2.2.1]; exact z⟩, fun ⟨x, hx, z⟩ => ⟨x, hx, by rw [(h t x hx).2.1, (h t x hx).2.2.1] at z; exact z⟩⟩, fun x hx => by rw [(h t x hx).1]; exact q6 x hx⟩
/-- one more record -/
theorem zg_Rw {al : Nat → Bool} {kd lo hi : Nat → Nat} {va : Nat → Int32} {f : Nat → Nat} {S K L H V : Nat → Int32} {N v K0 lo0 hi0 : Nat} {val : Int32} (hS : ∀ n, al n = true → zg_R kd lo hi va f S K L H V n) (hA : ∀ n, al n = true → n < N) (h1 : 1 ≤ N) (hN : N ≤ 600) (hv : v < 64) (hsv : ∀ n, al n = true → f n ≠ v)
    (hK1 : 1 ≤ K0) (hK3 : K0 ≤ 3) (hlh : lo0 ≤ hi0) (hh : hi0 < 24) (hkl : K0 ≠ 3 → lo0 = hi0) (hval : ¬ val < 0) :
    ∀ n, zl_ub al N true n = true → zg_R (zl_un kd N K0) (zl_un lo N lo0) (zl_un hi N hi0) (upd va N val) (zl_un f N v) (upd S v (nI N)) (upd K v (nI K0)) (upd L v (nI lo0)) (upd H v (nI hi0)) (upd V v val) n := by
  intro n hn
  unfold zg_R
  by_cases e : n = N
  · subst e
    simp only [zl_uns, pk_us]
    exact ⟨⟨hv, by trivial, by trivial, by trivial, by trivial, by trivial⟩, h1, hN, hK1, hK3, hlh, hh, hkl, hval⟩
  · rw [zl_ubn e] at hn
    have hr := hS n hn
    have hne := hsv n hn
    rw [zl_unn e, zl_unn e, zl_unn e, zl_unn e, pk_un e, pk_un hne, pk_un hne, pk_un hne, pk_un hne, pk_un hne]
    exact hr
section
variable {xkc xml xhl xnl xla xfl xfc xhe xbc xjr xjl xjt xjo xjh xjs xic xsa xse xta xoc xgc : Int32} {rS rK rL rH rV rE rI rP fS bS tB tS fi bA sO sM iO iM iL iH iP iK jI jO gu oP : Nat → Int32} {al : Nat → Bool} {kd lo hi lv ip : Nat → Nat} {va : Nat → Int32} {sl : Nat → Nat} {L : Nat → List Nat} {NL : Nat}
theorem zx_w56 {post : Int32 → SX → Prop} {LA NF v NB K lo0 hi0 : Nat} {val : Int32} (hla : xla = nI LA) (hLA : LA < 600) (hfc : xfc = nI (NF + 1)) (hFl : NF < 64) (hfS : fS NF = nI v) (hv : v < 64) (hhe : xhe = nI NB) (hNB : NB < 64)
    (hK1 : 1 ≤ K) (hK3 : K ≤ 3) (hlh : lo0 ≤ hi0) (hh : hi0 < 24) (hkl : K ≠ 3 → lo0 = hi0) (hval : ¬ val < 0)
    (hT : zt_Tab kd lo hi sl L tB tS fi) (hM : zt_Mem al kd lv L) (hS : ∀ n, al n = true → zg_R kd lo hi va sl rS rK rL rH rV n) (hA : ∀ n, al n = true → n ≤ LA) (hsv : ∀ n, al n = true → sl n ≠ v) (hC : ∀ t, t < 2 → (L t).length < 64)
    (h : ∀ (tB' tS' fi' : Nat → Int32) (L' : Nat → List Nat), zt_Tab (zl_un kd (LA + 1) K) (zl_un lo (LA + 1) lo0) (zl_un hi (LA + 1) hi0) (zl_un sl (LA + 1) v) L' tB' tS' fi' → zt_Mem (zl_ub al (LA + 1) true) (zl_un kd (LA + 1) K) (zl_un lv (LA + 1) 0) L' →
      post (nI (LA + 1)) (xkc, xml, xhl, xnl, nI (LA + 1), xfl, nI NF, nI (NB + 1), 1, xjr, xjl, xjt, xjo, xjh, xjs, xic, xsa, xse, xta, xoc, xgc, upd rS v (nI (LA + 1)), upd rK v (nI K), upd rL v (nI lo0), upd rH v (nI hi0), upd rV v val, upd rE v 0, upd rI v 0, upd rP v 0, fS, upd bS NB (nI v), tB', tS', fi', upd bA 0 (nI v), sO, sM, iO, iM, iL, iH, iP, iK, jI, jO, gu, oP)) :
    wX_write_56 post (nI K) (nI lo0) (nI hi0) val xkc xml xhl xnl xla xfl xfc xhe xbc xjr xjl xjt xjo xjh xjs xic xsa xse xta xoc xgc rS rK rL rH rV rE rI rP fS bS tB tS fi bA sO sM iO iM iL iH iP iK jI jO gu oP := by
  have hne : ∀ n, al n = true → n ≠ LA + 1 := fun n hn e => by have := hA n hn; omega
  have hxne : ∀ t x, x ∈ L t → x ≠ LA + 1 := fun t x hx => hne x ((hM _ _).mp hx).1
  have hS' := zg_Rw (N := LA + 1) (v := v) (K0 := K) (lo0 := lo0) (hi0 := hi0) (val := val) hS (fun n hn => by have := hA n hn; omega) (by omega) (by omega) hv hsv hK1 hK3 hlh hh hkl hval
  have hT' : zt_Tab (zl_un kd (LA + 1) K) (zl_un lo (LA + 1) lo0) (zl_un hi (LA + 1) hi0) (zl_un sl (LA + 1) v) L tB tS fi := zt_tc (fun t x hx => ⟨zl_unn (hxne t x hx), zl_unn (hxne t x hx), zl_unn (hxne t x hx), zl_unn (hxne t x hx)⟩) hT
  have wv : vp_in (nI v) 64 := vp_in_nI hv (by omega)
  have cv : (nI v).toNatClampNeg = v := nI_clamp (by omega)
  have hgo : ∀ t, t < 2 → (K = 3 ↔ t % 2 = 1) → wX_write_200 post (nI t) xkc xml xhl xnl (nI (LA + 1)) xfl (nI NF) (nI (NB + 1)) 1 xjr xjl xjt xjo xjh xjs xic xsa xse xta xoc xgc (upd rS v (nI (LA + 1))) (upd rK v (nI K)) (upd rL v (nI lo0)) (upd rH v (nI hi0)) (upd rV v val) (upd rE v 0) (upd rI v 0) (upd rP v 0) fS (upd bS NB (nI v)) tB tS fi (upd bA 0 (nI v)) sO sM iO iM iL iH iP iK jI jO gu oP := by
    intro t ht hkt
    unfold wX_write_200
    refine zx_mb (B := [LA + 1]) (L := L) (va := upd va (LA + 1) val) hT' (by omega) ⟨by rw [pk_us, zl_uns], trivial⟩ rfl (List.pairwise_singleton _ _) (fun x hx => hS' x ?_) (fun x hx => ?_) (fun a ha hb => hxne t a ha (List.mem_singleton.mp hb)) (by have := hC t ht; rw [List.length_singleton]; omega) (fun tB' tS' fi' M m1 m2 => h tB' tS' fi' _ m1 (fun s n => ?_))
    · rcases hx with z | z
      · rw [zl_ubn (hxne t x z)]; exact ((hM _ _).mp z).1
      · rw [List.mem_singleton.mp z]; exact zl_ubs
    · rw [List.mem_singleton.mp hx, zl_uns]; exact hkt
    · have hnew : zt_tb (zl_un kd (LA + 1) K) (zl_un lv (LA + 1) 0) (LA + 1) = t := by
        by_cases k3 : K = 3
        · rw [zt_tb3 (by rw [zl_uns]; exact k3), zl_uns]; have := hkt.mp k3; omega
        · rw [zt_tbn (by rw [zl_uns]; exact k3), zl_uns]; have : ¬ t % 2 = 1 := fun z => k3 (hkt.mpr z); omega
      by_cases e : n = LA + 1
      · subst e
        rw [hnew, zl_ubs]
        by_cases s1 : s = t
        · subst s1
          rw [zl_uLs, m2]
          exact ⟨fun _ => ⟨rfl, rfl⟩, fun _ => Or.inr List.mem_cons_self⟩
        · rw [zl_uLn s1]
          exact ⟨fun z => absurd rfl (hxne s _ z), fun z => absurd z.2.symm s1⟩
      · have hold : zt_tb (zl_un kd (LA + 1) K) (zl_un lv (LA + 1) 0) n = zt_tb kd lv n := by unfold zt_tb; rw [zl_unn e, zl_unn e]
        rw [hold, zl_ubn e, ← hM]
        by_cases s1 : s = t
        · subst s1
          rw [zl_uLs, m2]
          exact ⟨fun z => z.elim id (fun w => absurd (List.mem_singleton.mp w) e), Or.inl⟩
        · rw [zl_uLn s1]
  unfold wX_write_56
  subst hla hfc hhe
  refine nm_r (nI_1 LA) (nm_r (nI_pred NF) ⟨vp_in_nI hFl (by omega), ?_⟩)
  rw [nI_clamp (by omega : NF < 2 ^ 31), hfS]
  refine nm_e ⟨wv, ?_⟩
  rw [cv, nI_clamp (by omega : NB < 2 ^ 31)]
  refine nm_e ⟨wv, nm_e ⟨wv, nm_e ⟨wv, nm_e ⟨wv, nm_e ⟨wv, nm_e ⟨wv, nm_e ⟨wv, nm_e ⟨vp_in_nI hNB (by omega), nm_e (nm_r (nI_1 NB) (nm_e ?_))⟩⟩⟩⟩⟩⟩⟩⟩
  exact pk_eq K 3 (fun e => hgo 1 (by omega) (by omega)) (fun e => hgo 0 (by omega) (by omega))
theorem zx_write {post : Int32 → SX → Prop} {LA NF v NB K lo0 hi0 HL ML : Nat} {val : Int32} (hla : xla = nI LA) (hLA : LA < 600) (hfc : xfc = nI (NF + 1)) (hFl : NF < 64) (hfS : fS NF = nI v) (hv : v < 64) (hhe : xhe = nI NB) (hNB : NB < 64) (hhl : xhl = nI HL) (hHL : NB < HL) (hHL2 : HL ≤ 64) (hml : xml = nI ML) (hML : ML ≤ 64)
    (hK1 : 1 ≤ K) (hK3 : K ≤ 3) (hlh : lo0 ≤ hi0) (hh : hi0 < 24) (hkl : K ≠ 3 → lo0 = hi0) (hval : ¬ val < 0)
    (hT : zt_Tab kd lo hi sl L tB tS fi) (hM : zt_Mem al kd lv L) (hS : ∀ n, al n = true → zg_R kd lo hi va sl rS rK rL rH rV n) (hE : ∀ n, al n = true → rE (sl n) = nI (lv n)) (hA : ∀ n, al n = true → n ≤ LA) (hsv : ∀ n, al n = true → sl n ≠ v) (hC : ∀ l : List Nat, l.Nodup → (∀ x, x ∈ l → al x = true) → l.length ≤ NB)
    (h : ∀ (lw : Nat → Nat) (rE' bA' tB' tS' fi' : Nat → Int32) (L' : Nat → List Nat), lw = (if (L 0).length + (L 1).length < ML then lv else zt_fl lv) → (∀ n, al n = true → rE' (sl n) = nI (lw n)) → zt_Tab (zl_un kd (LA + 1) K) (zl_un lo (LA + 1) lo0) (zl_un hi (LA + 1) hi0) (zl_un sl (LA + 1) v) L' tB' tS' fi' → zt_Mem (zl_ub al (LA + 1) true) (zl_un kd (LA + 1) K) (zl_un lw (LA + 1) 0) L' →
      post (nI (LA + 1)) (xkc, xml, xhl, xnl, nI (LA + 1), xfl, nI NF, nI (NB + 1), 1, xjr, xjl, xjt, xjo, xjh, xjs, xic, xsa, xse, xta, xoc, xgc, upd rS v (nI (LA + 1)), upd rK v (nI K), upd rL v (nI lo0), upd rH v (nI hi0), upd rV v val, upd rE' v 0, upd rI v 0, upd rP v 0, fS, upd bS NB (nI v), tB', tS', fi', upd bA' 0 (nI v), sO, sM, iO, iM, iL, iH, iP, iK, jI, jO, gu, oP)) :
    wpX_write post (xkc, xml, xhl, xnl, xla, xfl, xfc, xhe, xbc, xjr, xjl, xjt, xjo, xjh, xjs, xic, xsa, xse, xta, xoc, xgc, rS, rK, rL, rH, rV, rE, rI, rP, fS, bS, tB, tS, fi, bA, sO, sM, iO, iM, iL, iH, iP, iK, jI, jO, gu, oP) (nI K) (nI lo0) (nI hi0) val := by
  have hC2 : ∀ (L : Nat → List Nat) (lv : Nat → Nat) (tB tS fi : Nat → Int32), zt_Tab kd lo hi sl L tB tS fi → zt_Mem al kd lv L → ∀ t, t < 2 → (L t).length < 64 := fun L lv tB tS fi hT hM t ht => by
    have := hC (L t) (zo_nodup (hT t (by omega)).2.2.2.1) (fun x hx => ((hM _ _).mp hx).1)
    omega
  unfold wpX_write
  dsimp only
  refine br_f (by rw [hhl, hhe]; exact nI_ge hHL (by omega)) (br_f (by rw [hla]; exact nI_ge (b := 1000000) (by omega) (by omega)) (br_t (by rw [hfc]; exact nI_le (a := 1) (by omega) (by omega)) ?_))
  have q0 := (hT 0 (by omega)).2.1
  have q1 := (hT 1 (by omega)).2.1
  have b0 := (hT 0 (by omega)).2.2.1
  have b1 := (hT 1 (by omega)).2.2.1
  rw [q0, q1, nI_add, show (nI ((L 0).length + (L 1).length) < xml ↔ nI ((L 0).length + (L 1).length) < nI ML) by rw [hml]]
  refine pk_lt ((L 0).length + (L 1).length) ML (fun z => ?_) (fun z => ?_)
  · refine zx_w56 hla hLA hfc hFl hfS hv hhe hNB hK1 hK3 hlh hh hkl hval hT hM hS hA hsv (hC2 L lv _ _ _ hT hM) (fun tB' tS' fi' L' m1 m2 => ?_)
    exact h lv rE bA tB' tS' fi' L' (by rw [if_pos z]) hE m1 m2
  · refine zx_flush (L := L) (lv := lv) (al := al) hT hM hS hE (fun l h1 h2 => Nat.le_trans (hC l h1 h2) (by omega)) (fun xbc' rE' bA' tB' tS' fi' L' m1 m2 m3 => ?_)
    refine zx_w56 hla hLA hfc hFl hfS hv hhe hNB hK1 hK3 hlh hh hkl hval m1 m2 hS hA hsv (hC2 L' _ _ _ _ m1 m2) (fun tB' tS' fi' L' m4 m5 => ?_)
    exact h (zt_fl lv) rE' bA' tB' tS' fi' L' (by rw [if_neg (by omega)]) m3 m4 m5
end
end
section
/-! what stays: pure -/
def zg_dg (al : Nat → Bool) (lo hi : Nat → Nat) (G : List Nat) (n k : Nat) : Bool := G.any (fun g => zg_dc al lo hi k g == n)
def zg_op (al : Nat → Bool) (kd lo hi ip : Nat → Nat) (G : List Nat) (n k : Nat) : Bool := (List.range n).any (fun p => al p && kd p == 1 && lo p == k && (ip p == 0 || zg_dg al lo hi G p k))
def zg_st (al : Nat → Bool) (kd lo hi ip : Nat → Nat) (G : List Nat) (n : Nat) : Bool := if kd n = 1 then zg_dg al lo hi G n (lo n) else (List.range 24).any (fun k => zg_op al kd lo hi ip G n k && zg_dg al lo hi G n k)
theorem zg_dg_iff {al : Nat → Bool} {lo hi : Nat → Nat} {G : List Nat} {n k : Nat} : zg_dg al lo hi G n k = true ↔ ∃ g, g ∈ G ∧ zg_dc al lo hi k g = n := by
  unfold zg_dg
  rw [List.any_eq_true]
  exact ⟨fun ⟨g, h1, h2⟩ => ⟨g, h1, beq_iff_eq.mp h2⟩, fun ⟨g, h1, h2⟩ => ⟨g, h1, beq_iff_eq.mpr h2⟩⟩
theorem zg_dg_cv {al : Nat → Bool} {lo hi : Nat → Nat} {G : List Nat} {n k : Nat} (h0 : n ≠ 0) (h : zg_dg al lo hi G n k = true) : al n = true ∧ lo n ≤ k ∧ k ≤ hi n := by
  obtain ⟨g, h1, h2⟩ := zg_dg_iff.mp h
  rcases (zg_dcM al lo hi k g).1 with z | z
  · omega
  · rw [h2] at z
    exact ⟨z.1, z.2.1, z.2.2.1⟩
theorem zg_op_iff {al : Nat → Bool} {kd lo hi ip : Nat → Nat} {G : List Nat} {n k : Nat} : zg_op al kd lo hi ip G n k = true ↔ ∃ p, p < n ∧ al p = true ∧ kd p = 1 ∧ lo p = k ∧ (ip p = 0 ∨ zg_dg al lo hi G p k = true) := by
  unfold zg_op
  rw [List.any_eq_true]
  simp only [List.mem_range, Bool.and_eq_true, Bool.or_eq_true, beq_iff_eq]
  exact ⟨fun ⟨p, h1, h2⟩ => ⟨p, h1, h2.1.1.1, h2.1.1.2, h2.1.2, h2.2⟩, fun ⟨p, h1, h2, h3, h4, h5⟩ => ⟨p, h1, ⟨⟨h2, h3⟩, h4⟩, h5⟩⟩
theorem zg_st1 {al : Nat → Bool} {kd lo hi ip : Nat → Nat} {G : List Nat} {n : Nat} (h : kd n = 1) : zg_st al kd lo hi ip G n = zg_dg al lo hi G n (lo n) := by unfold zg_st; rw [if_pos h]
theorem zg_stn {al : Nat → Bool} {kd lo hi ip : Nat → Nat} {G : List Nat} {n : Nat} (h : ¬ kd n = 1) : zg_st al kd lo hi ip G n = true ↔ ∃ k, k < 24 ∧ zg_op al kd lo hi ip G n k = true ∧ zg_dg al lo hi G n k = true := by
  unfold zg_st
  rw [if_neg h, List.any_eq_true]
  simp only [List.mem_range, Bool.and_eq_true]
/-- the table of the oldest puts: N p: p is noted -/
def zj_O (lo : Nat → Nat) (N : Nat → Prop) (FL : Nat) (oP : Nat → Int32) : Prop := ∀ k, k < 24 → ∃ q, oP k = nI q ∧ q ≤ 1000001 ∧ ∀ n, n ≤ FL → (q < n ↔ ∃ p, N p ∧ lo p = k ∧ p < n)
theorem zj_Oc {lo : Nat → Nat} {N N' : Nat → Prop} {FL : Nat} {oP : Nat → Int32} (h : zj_O lo N FL oP) (e : ∀ p, p < FL → (N p ↔ N' p)) : zj_O lo N' FL oP := fun k hk => by
  obtain ⟨q, h1, h2, h3⟩ := h k hk
  exact ⟨q, h1, h2, fun n hn => (h3 n hn).trans ⟨fun ⟨p, p1, p2, p3⟩ => ⟨p, (e p (by omega)).mp p1, p2, p3⟩, fun ⟨p, p1, p2, p3⟩ => ⟨p, (e p (by omega)).mpr p1, p2, p3⟩⟩⟩
/-- the job: the lists alone; JI the frozen input, RS and RT what is left of its two parts, JO the output -/
def zj_P (al : Nat → Bool) (kd lo hi ip : Nat → Nat) (FL : Nat) (GX JI RS RT JO : List Nat) : Prop :=
  ((∀ n, n ∈ JI ↔ al n = true ∧ ip n = 1) ∧ (∀ n, n ∈ JI → n ≤ FL) ∧ (∀ n, n ∈ RS → n ∈ JI) ∧ (∀ n, n ∈ RT → n ∈ JI) ∧ (∀ n, n ∈ JO → n ∈ JI) ∧ (∀ n, n ∈ RS → n ∈ RT → False)) ∧
  (JO ++ RS).Pairwise (zd kd lo) ∧ (JO ++ RT).Pairwise (zd kd lo) ∧ (∀ n, n ∈ JI → ¬ n ∈ RS → ¬ n ∈ RT → (n ∈ JO ↔ zg_st al kd lo hi ip GX n = true))
/-- the job of X: where the lists lie -/
def zj_J (al : Nat → Bool) (kd lo ip sl : Nat → Nat) (FL : Nat) (GX JI RS RT JO : List Nat) (SA TA : Nat) (xic xsa xse xta xoc xgc : Int32) (rP jI jO gu oP : Nat → Int32) : Prop :=
  (zl_At jI 0 sl JI ∧ xic = nI JI.length ∧ JI.length ≤ 64) ∧ (zl_At jI SA sl RS ∧ xsa = nI SA ∧ xse = nI (SA + RS.length) ∧ SA + RS.length ≤ 64) ∧ (zl_At jI TA sl RT ∧ xta = nI TA ∧ TA + RT.length = JI.length) ∧
  (zl_At jO 0 sl JO ∧ xoc = nI JO.length) ∧ (zl_At gu 0 id GX ∧ xgc = nI GX.length ∧ GX.length ≤ 6 ∧ ∀ g, g ∈ GX → g ≤ FL) ∧
  (∀ n, n ∈ JI → rP (sl n) = if n ∈ JO then 1 else 0) ∧ zj_O lo (fun p => al p = true ∧ kd p = 1 ∧ (ip p = 0 ∨ p ∈ JO)) FL oP
section
variable {xkc xml xhl xnl xla xfl xfc xhe xbc xjr xjl xjt xjo xjh xjs xic xsa xse xta xoc xgc : Int32} {rS rK rL rH rV rE rI rP fS bS tB tS fi bA sO sM iO iM iL iH iP iK jI jO gu oP : Nat → Int32} {al : Nat → Bool} {kd lo hi lv ip : Nat → Nat} {va : Nat → Int32} {sl : Nat → Nat} {L : Nat → List Nat} {NL : Nat}
theorem zx_db {post : Int32 → Prop} {a b : Nat} (ha : zg_R kd lo hi va sl rS rK rL rH rV a) (hb : zg_R kd lo hi va sl rS rK rL rH rV b) (h1 : zd kd lo a b → post 1) (h0 : ¬ zd kd lo a b → post 0) : wpX_dealtBefore post (xkc, xml, xhl, xnl, xla, xfl, xfc, xhe, xbc, xjr, xjl, xjt, xjo, xjh, xjs, xic, xsa, xse, xta, xoc, xgc, rS, rK, rL, rH, rV, rE, rI, rP, fS, bS, tB, tS, fi, bA, sO, sM, iO, iM, iL, iH, iP, iK, jI, jO, gu, oP) (nI (sl a)) (nI (sl b)) := by
  have a1 := ha.1.1
  have b1 := hb.1.1
  have a3 := ha.1.2.2.1
  have b3 := hb.1.2.2.1
  have a4 := ha.2.2.2.2.1
  have b4 := hb.2.2.2.2.1
  have ca : (nI (sl a)).toNatClampNeg = sl a := nI_clamp (by omega)
  have cb : (nI (sl b)).toNatClampNeg = sl b := nI_clamp (by omega)
  have wa : vp_in (nI (sl a)) 64 := vp_in_nI a1 (by omega)
  have wb : vp_in (nI (sl b)) 64 := vp_in_nI b1 (by omega)
  have hs : (kd a = 3 ↔ kd b = 3) → wpX_sortsBefore (fun r_6 => (narrow .boolean (.int r_6) = .int r_6 ∧ (post r_6))) (xkc, xml, xhl, xnl, xla, xfl, xfc, xhe, xbc, xjr, xjl, xjt, xjo, xjh, xjs, xic, xsa, xse, xta, xoc, xgc, rS, rK, rL, rH, rV, rE, rI, rP, fS, bS, tB, tS, fi, bA, sO, sM, iO, iM, iL, iH, iP, iK, jI, jO, gu, oP) (nI (sl b)) (nI (sl a)) := fun e =>
    zx_sb hb ha (fun z => ⟨rfl, h1 (Or.inr ⟨e, z⟩)⟩) (fun z => ⟨rfl, h0 (fun y => y.elim (fun w => w.1 (e.mpr w.2)) (fun w => z w.2))⟩)
  unfold wpX_dealtBefore
  dsimp only
  rw [ca, a3]
  refine ⟨wa, pk_eq (kd a) 3 (fun e => ?_) (fun e => ?_)⟩
  · unfold wX_dealtBefore_15
    rw [cb, b3]
    refine ⟨wb, pk_eq (kd b) 3 (fun e2 => ?_) (fun e2 => ?_)⟩
    · unfold wX_dealtBefore_31
      exact br_t rfl (hs ⟨fun _ => e2, fun _ => e⟩)
    · unfold wX_dealtBefore_31
      exact br_f zl_10 ⟨rfl, h0 (fun y => y.elim (fun w => w.1 e) (fun w => e2 (w.1.mp e)))⟩
  · unfold wX_dealtBefore_15
    rw [cb, b3]
    refine ⟨wb, pk_eq (kd b) 3 (fun e2 => ?_) (fun e2 => ?_)⟩
    · unfold wX_dealtBefore_31
      exact br_f (fun z => zl_10 z.symm) ⟨rfl, h1 (Or.inl ⟨e, e2⟩)⟩
    · unfold wX_dealtBefore_31
      exact br_t rfl (hs ⟨fun z => absurd z e, fun z => absurd z e2⟩)
theorem zx_t55b {post : Int32 → SX → Prop} {TA v n : Nat} (hta : xta = nI TA) (hic : xic = nI n) (h1 : TA < n) (hn : n ≤ 64) (hj : jI TA = nI v) (h : post (nI v) (xkc, xml, xhl, xnl, xla, xfl, xfc, xhe, xbc, xjr, xjl, xjt, xjo, xjh, xjs, xic, xsa, xse, nI (TA + 1), xoc, xgc, rS, rK, rL, rH, rV, rE, rI, rP, fS, bS, tB, tS, fi, bA, sO, sM, iO, iM, iL, iH, iP, iK, jI, jO, gu, oP)) : wX_takeInput_55 post 0 xkc xml xhl xnl xla xfl xfc xhe xbc xjr xjl xjt xjo xjh xjs xic xsa xse xta xoc xgc rS rK rL rH rV rE rI rP fS bS tB tS fi bA sO sM iO iM iL iH iP iK jI jO gu oP := by
  unfold wX_takeInput_55
  subst hta hic
  rw [nI_clamp (by omega : TA < 2 ^ 31), hj]
  exact br_t rfl (br_f (nI_ge h1 (by omega)) ⟨vp_in_nI (by omega) (by omega), nm_e (nm_r (nI_1 TA) h)⟩)
theorem zx_t55a {post : Int32 → SX → Prop} {SA v : Nat} (hsa : xsa = nI SA) (h1 : SA < 64) (hj : jI SA = nI v) (h : post (nI v) (xkc, xml, xhl, xnl, xla, xfl, xfc, xhe, xbc, xjr, xjl, xjt, xjo, xjh, xjs, xic, nI (SA + 1), xse, xta, xoc, xgc, rS, rK, rL, rH, rV, rE, rI, rP, fS, bS, tB, tS, fi, bA, sO, sM, iO, iM, iL, iH, iP, iK, jI, jO, gu, oP)) : wX_takeInput_55 post 1 xkc xml xhl xnl xla xfl xfc xhe xbc xjr xjl xjt xjo xjh xjs xic xsa xse xta xoc xgc rS rK rL rH rV rE rI rP fS bS tB tS fi bA sO sM iO iM iL iH iP iK jI jO gu oP := by
  unfold wX_takeInput_55
  subst hsa
  rw [nI_clamp (by omega : SA < 2 ^ 31), hj]
  exact br_f zl_10 ⟨vp_in_nI h1 (by omega), nm_e (nm_r (nI_1 SA) h)⟩
theorem zx_ti {post : Int32 → SX → Prop} {SA TA n : Nat} {RS RT : List Nat} (hS : ∀ x, x ∈ RS ∨ x ∈ RT → zg_R kd lo hi va sl rS rK rL rH rV x) (hA : zl_At jI SA sl RS) (hsa : xsa = nI SA) (hse : xse = nI (SA + RS.length)) (hl : SA + RS.length ≤ 64) (hB : zl_At jI TA sl RT) (hta : xta = nI TA) (hic : xic = nI n) (hn : TA + RT.length = n) (hn2 : n ≤ 64) (hp : RS.Pairwise (zd kd lo)) (hq : RT.Pairwise (zd kd lo)) (hd : ∀ x, x ∈ RS → x ∈ RT → False) (hne : 0 < RS.length + RT.length)
    (ha : ∀ a RS', RS = a :: RS' → (∀ b, b ∈ RT → zd kd lo a b) → post (nI (sl a)) (xkc, xml, xhl, xnl, xla, xfl, xfc, xhe, xbc, xjr, xjl, xjt, xjo, xjh, xjs, xic, nI (SA + 1), xse, xta, xoc, xgc, rS, rK, rL, rH, rV, rE, rI, rP, fS, bS, tB, tS, fi, bA, sO, sM, iO, iM, iL, iH, iP, iK, jI, jO, gu, oP)) (hb : ∀ b RT', RT = b :: RT' → (∀ a, a ∈ RS → zd kd lo b a) → post (nI (sl b)) (xkc, xml, xhl, xnl, xla, xfl, xfc, xhe, xbc, xjr, xjl, xjt, xjo, xjh, xjs, xic, xsa, xse, nI (TA + 1), xoc, xgc, rS, rK, rL, rH, rV, rE, rI, rP, fS, bS, tB, tS, fi, bA, sO, sM, iO, iM, iL, iH, iP, iK, jI, jO, gu, oP)) : wpX_takeInput post (xkc, xml, xhl, xnl, xla, xfl, xfc, xhe, xbc, xjr, xjl, xjt, xjo, xjh, xjs, xic, xsa, xse, xta, xoc, xgc, rS, rK, rL, rH, rV, rE, rI, rP, fS, bS, tB, tS, fi, bA, sO, sM, iO, iM, iL, iH, iP, iK, jI, jO, gu, oP) := by
  unfold wpX_takeInput
  dsimp only
  cases RS with
  | nil =>
    cases RT with
    | nil => simp only [List.length_nil] at hne; omega
    | cons b RT' =>
      refine br_t (by rw [hse, hsa]; exact nI_le (Nat.le_refl _) (by omega)) ?_
      unfold wX_takeInput_16
      exact br_t rfl (zx_t55b hta hic (by simp only [List.length_cons] at hn; omega) hn2 hB.1 (hb b RT' rfl (fun x hx => absurd hx List.not_mem_nil)))
  | cons a RS' =>
    simp only [List.length_cons] at hl hse
    refine br_f (by rw [hse, hsa]; exact nI_ge (by omega) (by omega)) ?_
    unfold wX_takeInput_16
    refine br_f zl_10 ?_
    cases RT with
    | nil =>
      simp only [List.length_nil] at hn
      exact br_t (by rw [hic, hta]; exact nI_le (by omega) (by omega)) (zx_t55a hsa (by omega) hA.1 (ha a RS' rfl (fun x hx => absurd hx List.not_mem_nil)))
    | cons b RT' =>
      simp only [List.length_cons] at hn
      refine br_f (by rw [hic, hta]; exact nI_ge (by omega) (by omega)) ?_
      have e1 : jI xsa.toNatClampNeg = nI (sl a) := by rw [hsa, nI_clamp (by omega : SA < 2 ^ 31)]; exact hA.1
      have e2 : jI xta.toNatClampNeg = nI (sl b) := by rw [hta, nI_clamp (by omega : TA < 2 ^ 31)]; exact hB.1
      rw [e1, e2]
      refine ⟨by rw [hsa]; exact vp_in_nI (by omega) (by omega), by rw [hta]; exact vp_in_nI (by omega) (by omega), zx_db (hS a (Or.inl List.mem_cons_self)) (hS b (Or.inr List.mem_cons_self)) (fun z => ?_) (fun z => ?_)⟩
      · refine zx_t55a hsa (by omega) hA.1 (ha a RS' rfl (fun x hx => ?_))
        rcases List.mem_cons.mp hx with e | e
        · rw [e]; exact z
        · exact zd_tr z ((List.pairwise_cons.mp hq).1 x e)
      · have z2 : zd kd lo b a := zd_tot (a := a) (b := b) (fun e => hd a List.mem_cons_self (by rw [e]; exact List.mem_cons_self)) z
        refine zx_t55b hta hic (by omega) hn2 hB.1 (hb b RT' rfl (fun x hx => ?_))
        rcases List.mem_cons.mp hx with e | e
        · rw [e]; exact z2
        · exact zd_tr z2 ((List.pairwise_cons.mp hp).1 x e)
theorem zx_dg_l {post : Int32 → Prop} {a k : Nat} (H : zx_H al kd lo hi lv va sl L NL xnl rS rK rL rH rV tB tS fi) (ha : al a = true) (hk : k < 24) : ∀ (G : List Nat) (i n : Nat), G.length < n → xgc = nI (i + G.length) → i + G.length ≤ 6 → zl_At gu i id G → (∀ g, g ∈ G → g ≤ 600) → (zg_dg al lo hi G a k = true → post 1) → (¬ zg_dg al lo hi G a k = true → post 0) → wX_decidesGuarded_2 post (nI (sl a)) (nI k) xkc xml xhl xnl xla xfl xfc xhe xbc xjr xjl xjt xjo xjh xjs xic xsa xse xta xoc xgc rS rK rL rH rV rE rI rP fS bS tB tS fi bA sO sM iO iM iL iH iP iK jI jO gu oP n (nI i) := by
  have hr := H.2.2.2.2.1 a ha
  have r1 := hr.1.1
  have r2 := hr.1.2.1
  have r3 := hr.2.1
  have r4 := hr.2.2.1
  have ca : (nI (sl a)).toNatClampNeg = sl a := nI_clamp (by omega)
  have wa : vp_in (nI (sl a)) 64 := vp_in_nI r1 (by omega)
  intro G
  induction G with
  | nil =>
    intro i n hn hg hi6 hA hG h1 h0
    simp only [List.length_nil] at hn hg hi6
    obtain ⟨n, rfl⟩ : ∃ q, n = q + 1 := ⟨n - 1, by omega⟩
    rw [wX_decidesGuarded_2]
    dsimp only
    exact br_t (by rw [hg]; exact nI_le (by omega) (by omega)) (h0 (fun z => by obtain ⟨g, hg, _⟩ := zg_dg_iff.mp z; exact absurd hg List.not_mem_nil))
  | cons g G ih =>
    intro i n hn hg hi6 hA hG h1 h0
    simp only [List.length_cons] at hn hg hi6
    obtain ⟨n, rfl⟩ : ∃ q, n = q + 1 := ⟨n - 1, by omega⟩
    have hg6 := hG g List.mem_cons_self
    have hgu : gu i = nI g := hA.1
    have hgo : ¬ zg_dc al lo hi k g = a → wX_decidesGuarded_2 post (nI (sl a)) (nI k) xkc xml xhl xnl xla xfl xfc xhe xbc xjr xjl xjt xjo xjh xjs xic xsa xse xta xoc xgc rS rK rL rH rV rE rI rP fS bS tB tS fi bA sO sM iO iM iL iH iP iK jI jO gu oP n (nI (i + 1)) := fun hno =>
      ih (i + 1) n (by omega) (hg.trans (congrArg nI (by omega))) (by omega) hA.2 (fun y hy => hG y (List.mem_cons_of_mem g hy)) (fun z => h1 (by
        obtain ⟨y, y1, y2⟩ := zg_dg_iff.mp z
        exact zg_dg_iff.mpr ⟨y, List.mem_cons_of_mem g y1, y2⟩)) (fun z => h0 (fun w => z (by
        obtain ⟨y, y1, y2⟩ := zg_dg_iff.mp w
        rcases List.mem_cons.mp y1 with e | e
        · subst e; exact absurd y2 hno
        · exact zg_dg_iff.mpr ⟨y, e, y2⟩)))
    rw [wX_decidesGuarded_2]
    dsimp only
    rw [nI_clamp (by omega : i < 2 ^ 31), hgu, ca, r2]
    refine br_f (by rw [hg]; exact nI_ge (by omega) (by omega)) ⟨vp_in_nI (by omega) (by omega), wa, pk_lt g a (fun z => nm_r (nI_1 i) (hgo (by have := zg_dc_le al lo hi k g; omega))) (fun z => ⟨vp_in_nI (by omega) (by omega), zx_dc H hk (by omega) ?_⟩)⟩
    by_cases e : zg_dc al lo hi k g = a
    · rw [e, zg_sIs (by omega : a ≠ 0)]
      exact br_t rfl (h1 (zg_dg_iff.mpr ⟨g, List.mem_cons_self, e⟩))
    · refine br_f (fun y => e ?_) (nm_r (nI_1 i) (hgo e))
      by_cases e0 : zg_dc al lo hi k g = 0
      · rw [e0, zg_sI0] at y
        exact absurd y.symm (zl_nIm1 (by omega))
      · rcases (zg_dcM al lo hi k g).1 with z0 | z0
        · exact absurd z0 e0
        · have hr2 := H.2.2.2.2.1 _ z0.1
          have h64 := hr2.1.1
          rw [zg_sIs e0, nI_eq (by omega) (by omega)] at y
          exact zg_inj hr2 hr y
theorem zx_dg {post : Int32 → Prop} {a k : Nat} {G : List Nat} (H : zx_H al kd lo hi lv va sl L NL xnl rS rK rL rH rV tB tS fi) (ha : al a = true) (hk : k < 24) (hg : xgc = nI G.length) (h6 : G.length ≤ 6) (hA : zl_At gu 0 id G) (hG : ∀ g, g ∈ G → g ≤ 600) (h1 : zg_dg al lo hi G a k = true → post 1) (h0 : ¬ zg_dg al lo hi G a k = true → post 0) : wpX_decidesGuarded post (xkc, xml, xhl, xnl, xla, xfl, xfc, xhe, xbc, xjr, xjl, xjt, xjo, xjh, xjs, xic, xsa, xse, xta, xoc, xgc, rS, rK, rL, rH, rV, rE, rI, rP, fS, bS, tB, tS, fi, bA, sO, sM, iO, iM, iL, iH, iP, iK, jI, jO, gu, oP) (nI (sl a)) (nI k) := by
  unfold wpX_decidesGuarded
  dsimp only
  exact ⟨G.length + 1, zx_dg_l H ha hk G 0 _ (by omega) (hg.trans (congrArg nI (by omega))) (by omega) hA hG h1 h0⟩
theorem zx_ns {post : SX → Prop} {a FL : Nat} {N : Nat → Prop} (hr : zg_R kd lo hi va sl rS rK rL rH rV a) (hO : zj_O lo N FL oP) (h : ∀ oP' : Nat → Int32, zj_O lo (fun p => N p ∨ p = a) FL oP' → post (xkc, xml, xhl, xnl, xla, xfl, xfc, xhe, xbc, xjr, xjl, xjt, xjo, xjh, xjs, xic, xsa, xse, xta, xoc, xgc, rS, rK, rL, rH, rV, rE, rI, rP, fS, bS, tB, tS, fi, bA, sO, sM, iO, iM, iL, iH, iP, iK, jI, jO, gu, oP')) : wpX_noteStayingPut post (xkc, xml, xhl, xnl, xla, xfl, xfc, xhe, xbc, xjr, xjl, xjt, xjo, xjh, xjs, xic, xsa, xse, xta, xoc, xgc, rS, rK, rL, rH, rV, rE, rI, rP, fS, bS, tB, tS, fi, bA, sO, sM, iO, iM, iL, iH, iP, iK, jI, jO, gu, oP) (nI (sl a)) := by
  obtain ⟨⟨r1, r2, r3, r4, -, -⟩, r5, r6, r7, r8, r9, r10, -⟩ := hr
  have ca : (nI (sl a)).toNatClampNeg = sl a := nI_clamp (by omega)
  have wa : vp_in (nI (sl a)) 64 := vp_in_nI r1 (by omega)
  have wl : vp_in (nI (lo a)) 24 := vp_in_nI (by omega) (by omega)
  have cl : (nI (lo a)).toNatClampNeg = lo a := nI_clamp (by omega)
  obtain ⟨q, q1, q2, q3⟩ := hO (lo a) (by omega)
  unfold wpX_noteStayingPut
  dsimp only
  rw [ca, r4, r2]
  refine ⟨wa, nm_e ?_⟩
  rw [cl, q1]
  refine ⟨wa, wl, pk_le q a (fun z => h oP (fun k hk => ?_)) (fun z => ⟨wa, wl, nm_e (h _ (fun k hk => ?_))⟩)⟩
  · obtain ⟨q', p1, p2, p3⟩ := hO k hk
    refine ⟨q', p1, p2, fun n hn => (p3 n hn).trans ⟨fun ⟨p, w1, w2, w3⟩ => ⟨p, Or.inl w1, w2, w3⟩, fun ⟨p, w1, w2, w3⟩ => ?_⟩⟩
    rcases w1 with w1 | w1
    · exact ⟨p, w1, w2, w3⟩
    · subst w1
      subst w2
      have e : q = q' := (nI_eq (by omega) (by omega)).mp (q1.symm.trans p1)
      exact (p3 n hn).mp (by omega)
  · by_cases e : k = lo a
    · subst e
      refine ⟨a, pk_us, by omega, fun n hn => ⟨fun w => ⟨a, Or.inr rfl, rfl, w⟩, fun ⟨p, w1, w2, w3⟩ => ?_⟩⟩
      rcases w1 with w1 | w1
      · have := (q3 n hn).mpr ⟨p, w1, w2, w3⟩
        omega
      · omega
    · obtain ⟨q', p1, p2, p3⟩ := hO k hk
      refine ⟨q', (pk_un e).trans p1, p2, fun n hn => (p3 n hn).trans ⟨fun ⟨p, w1, w2, w3⟩ => ⟨p, Or.inl w1, w2, w3⟩, fun ⟨p, w1, w2, w3⟩ => ?_⟩⟩
      rcases w1 with w1 | w1
      · exact ⟨p, w1, w2, w3⟩
      · rw [w1] at w2; exact absurd w2.symm e
theorem zx_ts_l {post : Int32 → Prop} {a FL : Nat} {G : List Nat} {N : Nat → Prop} (H : zx_H al kd lo hi lv va sl L NL xnl rS rK rL rH rV tB tS fi) (ha : al a = true) (hg : xgc = nI G.length) (h6 : G.length ≤ 6) (hA : zl_At gu 0 id G) (hG : ∀ g, g ∈ G → g ≤ 600) (hO : zj_O lo N FL oP) (haF : a ≤ FL)
    (h1 : (∃ k, k < 24 ∧ (∃ p, N p ∧ lo p = k ∧ p < a) ∧ zg_dg al lo hi G a k = true) → post 1) (h0 : ¬ (∃ k, k < 24 ∧ (∃ p, N p ∧ lo p = k ∧ p < a) ∧ zg_dg al lo hi G a k = true) → post 0) :
    ∀ n k, 24 - k < n → k ≤ 24 → (∀ j, j < k → ¬ ((∃ p, N p ∧ lo p = j ∧ p < a) ∧ zg_dg al lo hi G a j = true)) → wX_tombstoneStays_7 post (nI (sl a)) xkc xml xhl xnl xla xfl xfc xhe xbc xjr xjl xjt xjo xjh xjs xic xsa xse xta xoc xgc rS rK rL rH rV rE rI rP fS bS tB tS fi bA sO sM iO iM iL iH iP iK jI jO gu oP n (nI k) := by
  obtain ⟨⟨r1, r2, r3, r4, r45, -⟩, r5, r6, r7, r8, r9, r10, -⟩ := H.2.2.2.2.1 a ha
  have ca : (nI (sl a)).toNatClampNeg = sl a := nI_clamp (by omega)
  have wa : vp_in (nI (sl a)) 64 := vp_in_nI r1 (by omega)
  intro n
  induction n with
  | zero => intro k hn; omega
  | succ n ih =>
    intro k hn hk hno
    rw [wX_tombstoneStays_7]
    dsimp only
    rw [ca, r45, r2]
    refine ⟨wa, pk_lt (hi a) k (fun z => h0 (fun ⟨j, j1, j2, j3⟩ => ?_)) (fun z => ?_)⟩
    · by_cases c : j < k
      · exact hno j c ⟨j2, j3⟩
      · have := (zg_dg_cv (by omega) j3).2.2
        omega
    · obtain ⟨q, q1, q2, q3⟩ := hO k (by omega)
      rw [nI_clamp (by omega : k < 2 ^ 31), q1]
      have hgo : ¬ ((∃ p, N p ∧ lo p = k ∧ p < a) ∧ zg_dg al lo hi G a k = true) → wX_tombstoneStays_7 post (nI (sl a)) xkc xml xhl xnl xla xfl xfc xhe xbc xjr xjl xjt xjo xjh xjs xic xsa xse xta xoc xgc rS rK rL rH rV rE rI rP fS bS tB tS fi bA sO sM iO iM iL iH iP iK jI jO gu oP n (nI (k + 1)) := fun hk' =>
        ih (k + 1) (by omega) (by omega) (fun j hj w => by
          by_cases c : j < k
          · exact hno j c w
          · have e : j = k := by omega
            subst e
            exact hk' w)
      refine ⟨vp_in_nI (by omega) (by omega), wa, pk_le a q (fun y => nm_r (nI_1 k) (hgo (fun w => ?_))) (fun y => zx_dg H ha (by omega) hg h6 hA hG (fun w => br_f zl_10 (h1 ⟨k, by omega, (q3 a haF).mp y, w⟩)) (fun w => br_t rfl (nm_r (nI_1 k) (hgo (fun w' => w w'.2)))))⟩
      have := (q3 a haF).mpr w.1
      omega
theorem zx_ts {post : Int32 → Prop} {a FL : Nat} {G : List Nat} {N : Nat → Prop} (H : zx_H al kd lo hi lv va sl L NL xnl rS rK rL rH rV tB tS fi) (ha : al a = true) (hg : xgc = nI G.length) (h6 : G.length ≤ 6) (hA : zl_At gu 0 id G) (hG : ∀ g, g ∈ G → g ≤ 600) (hO : zj_O lo N FL oP) (haF : a ≤ FL)
    (h1 : (∃ k, k < 24 ∧ (∃ p, N p ∧ lo p = k ∧ p < a) ∧ zg_dg al lo hi G a k = true) → post 1) (h0 : ¬ (∃ k, k < 24 ∧ (∃ p, N p ∧ lo p = k ∧ p < a) ∧ zg_dg al lo hi G a k = true) → post 0) : wpX_tombstoneStays post (xkc, xml, xhl, xnl, xla, xfl, xfc, xhe, xbc, xjr, xjl, xjt, xjo, xjh, xjs, xic, xsa, xse, xta, xoc, xgc, rS, rK, rL, rH, rV, rE, rI, rP, fS, bS, tB, tS, fi, bA, sO, sM, iO, iM, iL, iH, iP, iK, jI, jO, gu, oP) (nI (sl a)) := by
  obtain ⟨⟨r1, r2, r3, r4, r45, -⟩, r5, r6, r7, r8, r9, r10, -⟩ := H.2.2.2.2.1 a ha
  unfold wpX_tombstoneStays
  dsimp only
  rw [nI_clamp (by omega : sl a < 2 ^ 31), r4]
  refine ⟨vp_in_nI r1 (by omega), nm_e ⟨25, zx_ts_l H ha hg h6 hA hG hO haF h1 h0 25 (lo a) (by omega) (by omega) (fun j hj w => ?_)⟩⟩
  have := (zg_dg_cv (by omega) w.2).2.1
  omega
end
end
section
theorem zj_stepP {al : Nat → Bool} {kd lo hi ip : Nat → Nat} {FL a : Nat} {GX JI RS RT JO RS2 RT2 : List Nat} (h : zj_P al kd lo hi ip FL GX JI RS RT JO) (haJ : a ∈ JI) (hm : ∀ n, (n ∈ RS ∨ n ∈ RT) ↔ (n = a ∨ n ∈ RS2 ∨ n ∈ RT2)) (h1 : RS2.Sublist RS) (h2 : RT2.Sublist RT) (hz1 : ∀ b, b ∈ RS2 → zd kd lo a b) (hz2 : ∀ b, b ∈ RT2 → zd kd lo a b) (hz3 : ∀ x, x ∈ JO → zd kd lo x a) :
    (zg_st al kd lo hi ip GX a = true → zj_P al kd lo hi ip FL GX JI RS2 RT2 (JO ++ [a])) ∧ (¬ zg_st al kd lo hi ip GX a = true → zj_P al kd lo hi ip FL GX JI RS2 RT2 JO) := by
  obtain ⟨⟨p1, p2, p3, p4, p5, p6⟩, p7, p8, p9⟩ := h
  have na1 : ¬ a ∈ RS2 := fun z => zd_ir (hz1 a z)
  have na2 : ¬ a ∈ RT2 := fun z => zd_ir (hz2 a z)
  have na3 : ¬ a ∈ JO := fun z => zd_ir (hz3 a z)
  have w1 : (JO ++ RS2).Pairwise (zd kd lo) := p7.sublist (List.Sublist.append (List.Sublist.refl JO) h1)
  have w2 : (JO ++ RT2).Pairwise (zd kd lo) := p8.sublist (List.Sublist.append (List.Sublist.refl JO) h2)
  have hpa : ∀ R : List Nat, (JO ++ R).Pairwise (zd kd lo) → (∀ b, b ∈ R → zd kd lo a b) → ((JO ++ [a]) ++ R).Pairwise (zd kd lo) := by
    intro R hR hb
    rw [List.append_assoc]
    rw [List.pairwise_append] at hR ⊢
    refine ⟨hR.1, List.pairwise_cons.mpr ⟨hb, hR.2.1⟩, fun x hx y hy => ?_⟩
    rcases List.mem_cons.mp hy with e | e
    · rw [e]; exact hz3 x hx
    · exact hR.2.2 x hx y e
  constructor
  · intro hs
    refine ⟨⟨p1, p2, fun n hn => p3 n (h1.subset hn), fun n hn => p4 n (h2.subset hn), fun n hn => ?_, fun n q1 q2 => p6 n (h1.subset q1) (h2.subset q2)⟩, hpa RS2 w1 hz1, hpa RT2 w2 hz2, fun n q1 q2 q3 => ?_⟩
    · rcases List.mem_append.mp hn with e | e
      · exact p5 n e
      · rw [List.mem_singleton.mp e]; exact haJ
    · by_cases e : n = a
      · subst e
        exact ⟨fun _ => hs, fun _ => List.mem_append.mpr (Or.inr List.mem_cons_self)⟩
      · have hn : ¬ (n ∈ RS ∨ n ∈ RT) := fun z => by
          rcases (hm n).mp z with w | w | w
          · exact e w
          · exact q2 w
          · exact q3 w
        rw [← p9 n q1 (fun z => hn (Or.inl z)) (fun z => hn (Or.inr z))]
        exact ⟨fun z => (List.mem_append.mp z).elim id (fun w => absurd (List.mem_singleton.mp w) e), fun z => List.mem_append.mpr (Or.inl z)⟩
  · intro hs
    refine ⟨⟨p1, p2, fun n hn => p3 n (h1.subset hn), fun n hn => p4 n (h2.subset hn), p5, fun n q1 q2 => p6 n (h1.subset q1) (h2.subset q2)⟩, w1, w2, fun n q1 q2 q3 => ?_⟩
    by_cases e : n = a
    · subst e
      exact ⟨fun z => absurd z na3, fun z => absurd z hs⟩
    · have hn : ¬ (n ∈ RS ∨ n ∈ RT) := fun z => by
        rcases (hm n).mp z with w | w | w
        · exact e w
        · exact q2 w
        · exact q3 w
      exact p9 n q1 (fun z => hn (Or.inl z)) (fun z => hn (Or.inr z))
/-- what X asks of a tombstone is what the reference asks at the end -/
theorem zj_tomb {al : Nat → Bool} {kd lo hi ip : Nat → Nat} {FL a : Nat} {GX JI RS RT JO RS2 RT2 : List Nat} (h : zj_P al kd lo hi ip FL GX JI RS RT JO) (haJ : a ∈ JI) (hm : ∀ n, (n ∈ RS ∨ n ∈ RT) ↔ (n = a ∨ n ∈ RS2 ∨ n ∈ RT2)) (hz1 : ∀ b, b ∈ RS2 → zd kd lo a b) (hz2 : ∀ b, b ∈ RT2 → zd kd lo a b) (ha0 : a ≠ 0) (hk : ¬ kd a = 1) (hkl : kd a ≠ 3 → lo a = hi a) (hip : ∀ n, al n = true → ip n = 0 ∨ ip n = 1) :
    (∃ k, k < 24 ∧ (∃ p, (al p = true ∧ kd p = 1 ∧ (ip p = 0 ∨ p ∈ JO)) ∧ lo p = k ∧ p < a) ∧ zg_dg al lo hi GX a k = true) ↔ zg_st al kd lo hi ip GX a = true := by
  obtain ⟨⟨p1, p2, p3, p4, p5, p6⟩, p7, p8, p9⟩ := h
  rw [zg_stn hk]
  have hdealt : ∀ p, al p = true → kd p = 1 → ip p = 1 → p < a → lo a ≤ lo p → lo p ≤ hi a → (p ∈ JO ↔ zg_dg al lo hi GX p (lo p) = true) := by
    intro p q1 q2 q3 q4 q5 q6
    have hzd : ¬ zd kd lo a p := by
      intro z
      rcases z with ⟨_, z⟩ | ⟨z1, z2⟩
      · omega
      · have ka : ¬ kd a = 3 := fun e => by have := z1.mp e; omega
        have := hkl ka
        rw [zo_n (by omega)] at z2
        omega
    have hn : ¬ (p ∈ RS ∨ p ∈ RT) := fun z => by
      rcases (hm p).mp z with w | w | w
      · omega
      · exact hzd (hz1 p w)
      · exact hzd (hz2 p w)
    rw [p9 p ((p1 p).mpr ⟨q1, q3⟩) (fun z => hn (Or.inl z)) (fun z => hn (Or.inr z)), zg_st1 q2]
  constructor
  · rintro ⟨k, k1, ⟨p, ⟨q1, q2, q3⟩, q4, q5⟩, k3⟩
    have hc := zg_dg_cv ha0 k3
    refine ⟨k, k1, zg_op_iff.mpr ⟨p, q5, q1, q2, q4, ?_⟩, k3⟩
    rcases q3 with q3 | q3
    · exact Or.inl q3
    · have hi1 := ((p1 p).mp (p5 p q3)).2
      have := (hdealt p q1 q2 hi1 q5 (by omega) (by omega)).mp q3
      rw [q4] at this
      exact Or.inr this
  · rintro ⟨k, k1, k2, k3⟩
    have hc := zg_dg_cv ha0 k3
    obtain ⟨p, q5, q1, q2, q4, q3⟩ := zg_op_iff.mp k2
    refine ⟨k, k1, ⟨p, ⟨q1, q2, ?_⟩, q4, q5⟩, k3⟩
    rcases q3 with q3 | q3
    · exact Or.inl q3
    · rcases hip p q1 with i0 | i1
      · exact Or.inl i0
      · rw [← q4] at q3
        exact Or.inr ((hdealt p q1 q2 i1 q5 (by omega) (by omega)).mpr q3)
section
variable {xkc xml xhl xnl xla xfl xfc xhe xbc xjr xjl xjt xjo xjh xjs xic xsa xse xta xoc xgc : Int32} {rS rK rL rH rV rE rI rP fS bS tB tS fi bA sO sM iO iM iL iH iP iK jI jO gu oP : Nat → Int32} {al : Nat → Bool} {kd lo hi lv ip : Nat → Nat} {va : Nat → Int32} {sl : Nat → Nat} {L : Nat → List Nat} {NL : Nat}
theorem zx_59n {post : SX → Prop} {x1 : Int32} (h : post (xkc, xml, xhl, xnl, xla, xfl, xfc, xhe, xbc, xjr, xjl, xjt, xjo, xjh, xjs, xic, xsa, xse, xta, xoc, xgc, rS, rK, rL, rH, rV, rE, rI, rP, fS, bS, tB, tS, fi, bA, sO, sM, iO, iM, iL, iH, iP, iK, jI, jO, gu, oP)) : wX_dealWithNextInput_59 post x1 0 xkc xml xhl xnl xla xfl xfc xhe xbc xjr xjl xjt xjo xjh xjs xic xsa xse xta xoc xgc rS rK rL rH rV rE rI rP fS bS tB tS fi bA sO sM iO iM iL iH iP iK jI jO gu oP := by
  unfold wX_dealWithNextInput_59
  exact br_t rfl h
theorem zx_59k {post : SX → Prop} {v o : Nat} (hv : v < 64) (ho : xoc = nI o) (ho2 : o < 64) (h : post (xkc, xml, xhl, xnl, xla, xfl, xfc, xhe, xbc, xjr, xjl, xjt, xjo, xjh, xjs, xic, xsa, xse, xta, nI (o + 1), xgc, rS, rK, rL, rH, rV, rE, rI, upd rP v 1, fS, bS, tB, tS, fi, bA, sO, sM, iO, iM, iL, iH, iP, iK, jI, upd jO o (nI v), gu, oP)) : wX_dealWithNextInput_59 post (nI v) 1 xkc xml xhl xnl xla xfl xfc xhe xbc xjr xjl xjt xjo xjh xjs xic xsa xse xta xoc xgc rS rK rL rH rV rE rI rP fS bS tB tS fi bA sO sM iO iM iL iH iP iK jI jO gu oP := by
  unfold wX_dealWithNextInput_59
  subst ho
  rw [nI_clamp (by omega : v < 2 ^ 31), nI_clamp (by omega : o < 2 ^ 31), zl_nb1]
  exact br_f zl_10 ⟨vp_in_nI hv (by omega), nm_e ⟨vp_in_nI ho2 (by omega), nm_e (nm_r (nI_1 o) h)⟩⟩
/-- the new lists lie where they should, a kept -/
theorem zj_keepJ {FL a : Nat} {GX JI JO : List Nat} (hS : ∀ n, al n = true → zg_R kd lo hi va sl rS rK rL rH rV n) (hJ1 : ∀ n, n ∈ JI → al n = true) (haJ : a ∈ JI) (hr : ∀ n, n ∈ JI → rP (sl n) = if n ∈ JO then 1 else 0) (hjO : zl_At jO 0 sl JO) :
    zl_At (upd jO JO.length (nI (sl a))) 0 sl (JO ++ [a]) ∧ (∀ n, n ∈ JI → upd rP (sl a) 1 (sl n) = if n ∈ JO ++ [a] then 1 else 0) := by
  refine ⟨?_, fun n hn => ?_⟩
  · have := zl_at_snoc (x := a) (v := sl a) hjO rfl
    rw [Nat.zero_add] at this
    exact this
  · by_cases e : n = a
    · subst e
      rw [pk_us, if_pos (List.mem_append.mpr (Or.inr List.mem_cons_self))]
    · rw [pk_un (fun z => e (zg_inj (hS n (hJ1 n hn)) (hS a (hJ1 a haJ)) z)), hr n hn]
      by_cases c : n ∈ JO
      · rw [if_pos c, if_pos (List.mem_append.mpr (Or.inl c))]
      · rw [if_neg c, if_neg (fun z => (List.mem_append.mp z).elim c (fun w => e (List.mem_singleton.mp w)))]
theorem zx_deal {post : SX → Prop} {FL SA TA : Nat} {GX JI RS RT JO : List Nat} (H : zx_H al kd lo hi lv va sl L NL xnl rS rK rL rH rV tB tS fi) (hF : FL ≤ 600) (hip : ∀ n, al n = true → ip n = 0 ∨ ip n = 1) (hC : ∀ l : List Nat, l.Nodup → (∀ x, x ∈ l → al x = true) → l.length ≤ 64)
    (hP : zj_P al kd lo hi ip FL GX JI RS RT JO) (hJ : zj_J al kd lo ip sl FL GX JI RS RT JO SA TA xic xsa xse xta xoc xgc rP jI jO gu oP) (hne : 0 < RS.length + RT.length)
    (h : ∀ (RS' RT' JO' : List Nat) (SA' TA' : Nat) (xsa' xta' xoc' : Int32) (rP' jO' oP' : Nat → Int32), RS'.length + RT'.length + 1 = RS.length + RT.length → zj_P al kd lo hi ip FL GX JI RS' RT' JO' → zj_J al kd lo ip sl FL GX JI RS' RT' JO' SA' TA' xic xsa' xse xta' xoc' xgc rP' jI jO' gu oP' → post (xkc, xml, xhl, xnl, xla, xfl, xfc, xhe, xbc, xjr, xjl, xjt, xjo, xjh, xjs, xic, xsa', xse, xta', xoc', xgc, rS, rK, rL, rH, rV, rE, rI, rP', fS, bS, tB, tS, fi, bA, sO, sM, iO, iM, iL, iH, iP, iK, jI, jO', gu, oP')) : wpX_dealWithNextInput post (xkc, xml, xhl, xnl, xla, xfl, xfc, xhe, xbc, xjr, xjl, xjt, xjo, xjh, xjs, xic, xsa, xse, xta, xoc, xgc, rS, rK, rL, rH, rV, rE, rI, rP, fS, bS, tB, tS, fi, bA, sO, sM, iO, iM, iL, iH, iP, iK, jI, jO, gu, oP) := by
  have H5 := H.2.2.2.2.1
  have hP0 := hP
  obtain ⟨⟨p1, p2, p3, p4, p5, p6⟩, p7, p8, p9⟩ := hP
  obtain ⟨⟨i1, i2, i3⟩, ⟨s1, s2, s3, s4⟩, ⟨t1, t2, t3⟩, ⟨o1, o2⟩, ⟨g1, g2, g3, g4⟩, k1, k2⟩ := hJ
  have hJal : ∀ n, n ∈ JI → al n = true := fun n hn => ((p1 n).mp hn).1
  have hG6 : ∀ g, g ∈ GX → g ≤ 600 := fun g hg => Nat.le_trans (g4 g hg) hF
  have hO64 : ∀ a, a ∈ JI → ¬ a ∈ JO → JO.length < 64 := fun a ha hn => by
    have hnd : (JO ++ [a]).Nodup := List.nodup_append.mpr ⟨zd_nodup (List.pairwise_append.mp p7).1, List.nodup_cons.mpr ⟨List.not_mem_nil, List.nodup_nil⟩, fun x hx y hy e => by rw [List.mem_singleton.mp hy] at e; exact hn (e ▸ hx)⟩
    have := hC (JO ++ [a]) hnd (fun x hx => (List.mem_append.mp hx).elim (fun z => hJal x (p5 x z)) (fun z => by rw [List.mem_singleton.mp z]; exact hJal a ha))
    rw [List.length_append, List.length_singleton] at this
    omega
  unfold wpX_dealWithNextInput
  dsimp only
  refine zx_ti (RS := RS) (RT := RT) (SA := SA) (TA := TA) (n := JI.length) (fun x hx => H5 x (hx.elim (fun z => hJal x (p3 x z)) (fun z => hJal x (p4 x z)))) s1 s2 s3 s4 t1 t2 i2 t3 i3 (List.pairwise_append.mp p7).2.1 (List.pairwise_append.mp p8).2.1 p6 hne ?_ ?_
  · intro a RS2 eR hzb
    subst eR
    have haJ := p3 a List.mem_cons_self
    have ha := hJal a haJ
    have hr := H5 a ha
    have r1 := hr.1.1
    have r3 := hr.1.2.2.1
    have r4 := hr.1.2.2.2.1
    have r5 := hr.2.1
    have r8 := hr.2.2.2.2.1
    have r10 := hr.2.2.2.2.2.2.1
    have r9 := hr.2.2.2.2.2.1
    have hz1 : ∀ b, b ∈ RS2 → zd kd lo a b := (List.pairwise_cons.mp (List.pairwise_append.mp p7).2.1).1
    have hz3 : ∀ x, x ∈ JO → zd kd lo x a := fun x hx => (List.pairwise_append.mp p7).2.2 x hx a List.mem_cons_self
    have hm : ∀ n, (n ∈ a :: RS2 ∨ n ∈ RT) ↔ (n = a ∨ n ∈ RS2 ∨ n ∈ RT) := fun n => by rw [List.mem_cons, or_assoc]
    have hst := zj_stepP hP0 haJ hm (List.sublist_cons_self a RS2) (List.Sublist.refl RT) hz1 hzb hz3
    have hnJ : ¬ a ∈ JO := fun z => zd_ir (hz3 a z)
    have h64 := hO64 a haJ hnJ
    have hkp := zj_keepJ (FL := FL) (GX := GX) (al := al) H5 hJal haJ k1 o1
    have hlen : RS2.length + RT.length + 1 = (a :: RS2).length + RT.length := by rw [List.length_cons]; omega
    have hse2 : xse = nI (SA + 1 + RS2.length) := s3.trans (congrArg nI (by rw [List.length_cons]; omega))
    have hse4 : SA + 1 + RS2.length ≤ 64 := by rw [List.length_cons] at s4; omega
    dsimp only
    refine br_f (nI_pos (by omega)) (br_t (by rw [o2]; exact nI_lt (b := 64) h64 (by omega)) ?_)
    rw [nI_clamp (by omega : sl a < 2 ^ 31), r3, r4]
    refine ⟨vp_in_nI r1 (by omega), pk_eq (kd a) 1 (fun e => ⟨vp_in_nI r1 (by omega), zx_dg H ha (by omega) g2 g3 g1 hG6 (fun w => br_f zl_10 (zx_ns hr k2 (fun oP' hO' => ?_))) (fun w => br_t rfl ?_)⟩) (fun e => zx_ts H ha g2 g3 g1 hG6 k2 (p2 a haJ) (fun w => ?_) (fun w => ?_))⟩
    · refine zx_59k r1 o2 h64 (h RS2 RT (JO ++ [a]) (SA + 1) TA _ _ _ _ _ _ hlen (hst.1 (by rw [zg_st1 e]; exact w)) ⟨⟨i1, i2, i3⟩, ⟨s1.2, rfl, hse2, hse4⟩, ⟨t1, t2, t3⟩, ⟨hkp.1, by rw [List.length_append]; rfl⟩, ⟨g1, g2, g3, g4⟩, hkp.2, zj_Oc hO' (fun p _ => ⟨fun z => ?_, fun z => ?_⟩)⟩)
      · rcases z with z | z
        · exact ⟨z.1, z.2.1, z.2.2.imp id (fun y => List.mem_append.mpr (Or.inl y))⟩
        · subst z
          exact ⟨ha, e, Or.inr (List.mem_append.mpr (Or.inr List.mem_cons_self))⟩
      · rcases z.2.2 with y | y
        · exact Or.inl ⟨z.1, z.2.1, Or.inl y⟩
        · rcases List.mem_append.mp y with y | y
          · exact Or.inl ⟨z.1, z.2.1, Or.inr y⟩
          · exact Or.inr (List.mem_singleton.mp y)
    · exact zx_59n (h RS2 RT JO (SA + 1) TA _ _ _ _ _ _ hlen (hst.2 (by rw [zg_st1 e]; exact w)) ⟨⟨i1, i2, i3⟩, ⟨s1.2, rfl, hse2, hse4⟩, ⟨t1, t2, t3⟩, ⟨o1, o2⟩, ⟨g1, g2, g3, g4⟩, k1, k2⟩)
    · have w' := (zj_tomb hP0 haJ hm hz1 hzb (by omega) e hr.2.2.2.2.2.2.2.1 hip).mp w
      refine zx_59k r1 o2 h64 (h RS2 RT (JO ++ [a]) (SA + 1) TA _ _ _ _ _ _ hlen (hst.1 w') ⟨⟨i1, i2, i3⟩, ⟨s1.2, rfl, hse2, hse4⟩, ⟨t1, t2, t3⟩, ⟨hkp.1, by rw [List.length_append]; rfl⟩, ⟨g1, g2, g3, g4⟩, hkp.2, zj_Oc k2 (fun p _ => ⟨fun z => ?_, fun z => ?_⟩)⟩)
      · exact ⟨z.1, z.2.1, z.2.2.imp id (fun y => List.mem_append.mpr (Or.inl y))⟩
      · refine ⟨z.1, z.2.1, z.2.2.imp id (fun y => (List.mem_append.mp y).elim id (fun y => ?_))⟩
        rw [List.mem_singleton.mp y] at z
        exact absurd z.2.1 e
    · have w' : ¬ zg_st al kd lo hi ip GX a = true := fun y => w ((zj_tomb hP0 haJ hm hz1 hzb (by omega) e hr.2.2.2.2.2.2.2.1 hip).mpr y)
      exact zx_59n (h RS2 RT JO (SA + 1) TA _ _ _ _ _ _ hlen (hst.2 w') ⟨⟨i1, i2, i3⟩, ⟨s1.2, rfl, hse2, hse4⟩, ⟨t1, t2, t3⟩, ⟨o1, o2⟩, ⟨g1, g2, g3, g4⟩, k1, k2⟩)
  · intro a RT2 eR hza
    subst eR
    have haJ := p4 a List.mem_cons_self
    have ha := hJal a haJ
    have hr := H5 a ha
    have r1 := hr.1.1
    have r3 := hr.1.2.2.1
    have r4 := hr.1.2.2.2.1
    have r5 := hr.2.1
    have r8 := hr.2.2.2.2.1
    have r10 := hr.2.2.2.2.2.2.1
    have r9 := hr.2.2.2.2.2.1
    have hz2 : ∀ b, b ∈ RT2 → zd kd lo a b := (List.pairwise_cons.mp (List.pairwise_append.mp p8).2.1).1
    have hz3 : ∀ x, x ∈ JO → zd kd lo x a := fun x hx => (List.pairwise_append.mp p8).2.2 x hx a List.mem_cons_self
    have hm : ∀ n, (n ∈ RS ∨ n ∈ a :: RT2) ↔ (n = a ∨ n ∈ RS ∨ n ∈ RT2) := fun n => by rw [List.mem_cons]; exact or_left_comm
    have hst := zj_stepP hP0 haJ hm (List.Sublist.refl RS) (List.sublist_cons_self a RT2) hza hz2 hz3
    have hnJ : ¬ a ∈ JO := fun z => zd_ir (hz3 a z)
    have h64 := hO64 a haJ hnJ
    have hkp := zj_keepJ (FL := FL) (GX := GX) (al := al) H5 hJal haJ k1 o1
    have hlen : RS.length + RT2.length + 1 = RS.length + (a :: RT2).length := by rw [List.length_cons]; omega
    have ht2 : TA + 1 + RT2.length = JI.length := by rw [List.length_cons] at t3; omega
    dsimp only
    refine br_f (nI_pos (by omega)) (br_t (by rw [o2]; exact nI_lt (b := 64) h64 (by omega)) ?_)
    rw [nI_clamp (by omega : sl a < 2 ^ 31), r3, r4]
    refine ⟨vp_in_nI r1 (by omega), pk_eq (kd a) 1 (fun e => ⟨vp_in_nI r1 (by omega), zx_dg H ha (by omega) g2 g3 g1 hG6 (fun w => br_f zl_10 (zx_ns hr k2 (fun oP' hO' => ?_))) (fun w => br_t rfl ?_)⟩) (fun e => zx_ts H ha g2 g3 g1 hG6 k2 (p2 a haJ) (fun w => ?_) (fun w => ?_))⟩
    · refine zx_59k r1 o2 h64 (h RS RT2 (JO ++ [a]) SA (TA + 1) _ _ _ _ _ _ hlen (hst.1 (by rw [zg_st1 e]; exact w)) ⟨⟨i1, i2, i3⟩, ⟨s1, s2, s3, s4⟩, ⟨t1.2, rfl, ht2⟩, ⟨hkp.1, by rw [List.length_append]; rfl⟩, ⟨g1, g2, g3, g4⟩, hkp.2, zj_Oc hO' (fun p _ => ⟨fun z => ?_, fun z => ?_⟩)⟩)
      · rcases z with z | z
        · exact ⟨z.1, z.2.1, z.2.2.imp id (fun y => List.mem_append.mpr (Or.inl y))⟩
        · subst z
          exact ⟨ha, e, Or.inr (List.mem_append.mpr (Or.inr List.mem_cons_self))⟩
      · rcases z.2.2 with y | y
        · exact Or.inl ⟨z.1, z.2.1, Or.inl y⟩
        · rcases List.mem_append.mp y with y | y
          · exact Or.inl ⟨z.1, z.2.1, Or.inr y⟩
          · exact Or.inr (List.mem_singleton.mp y)
    · exact zx_59n (h RS RT2 JO SA (TA + 1) _ _ _ _ _ _ hlen (hst.2 (by rw [zg_st1 e]; exact w)) ⟨⟨i1, i2, i3⟩, ⟨s1, s2, s3, s4⟩, ⟨t1.2, rfl, ht2⟩, ⟨o1, o2⟩, ⟨g1, g2, g3, g4⟩, k1, k2⟩)
    · have w' := (zj_tomb hP0 haJ hm hza hz2 (by omega) e hr.2.2.2.2.2.2.2.1 hip).mp w
      refine zx_59k r1 o2 h64 (h RS RT2 (JO ++ [a]) SA (TA + 1) _ _ _ _ _ _ hlen (hst.1 w') ⟨⟨i1, i2, i3⟩, ⟨s1, s2, s3, s4⟩, ⟨t1.2, rfl, ht2⟩, ⟨hkp.1, by rw [List.length_append]; rfl⟩, ⟨g1, g2, g3, g4⟩, hkp.2, zj_Oc k2 (fun p _ => ⟨fun z => ?_, fun z => ?_⟩)⟩)
      · exact ⟨z.1, z.2.1, z.2.2.imp id (fun y => List.mem_append.mpr (Or.inl y))⟩
      · refine ⟨z.1, z.2.1, z.2.2.imp id (fun y => (List.mem_append.mp y).elim id (fun y => ?_))⟩
        rw [List.mem_singleton.mp y] at z
        exact absurd z.2.1 e
    · have w' : ¬ zg_st al kd lo hi ip GX a = true := fun y => w ((zj_tomb hP0 haJ hm hza hz2 (by omega) e hr.2.2.2.2.2.2.2.1 hip).mpr y)
      exact zx_59n (h RS RT2 JO SA (TA + 1) _ _ _ _ _ _ hlen (hst.2 w') ⟨⟨i1, i2, i3⟩, ⟨s1, s2, s3, s4⟩, ⟨t1.2, rfl, ht2⟩, ⟨o1, o2⟩, ⟨g1, g2, g3, g4⟩, k1, k2⟩)
end
end
section
def zj_p (kd : Nat → Nat) (c x : Nat) : Bool := if kd x = 3 then c == 1 else c == 0
theorem zj_p3 {kd : Nat → Nat} {c x : Nat} (h : kd x = 3) : zj_p kd c x = true ↔ c = 1 := by unfold zj_p; rw [if_pos h, beq_iff_eq]
theorem zj_pn {kd : Nat → Nat} {c x : Nat} (h : ¬ kd x = 3) : zj_p kd c x = true ↔ c = 0 := by unfold zj_p; rw [if_neg h, beq_iff_eq]
def zj_kp (ip : Nat → Nat) (JO : List Nat) (x : Nat) : Bool := ip x == 0 || decide (x ∈ JO)
theorem zj_kpi {ip : Nat → Nat} {JO : List Nat} {x : Nat} : zj_kp ip JO x = true ↔ ip x = 0 ∨ x ∈ JO := by
  unfold zj_kp
  rw [Bool.or_eq_true, beq_iff_eq, decide_eq_true_eq]
section
variable {xkc xml xhl xnl xla xfl xfc xhe xbc xjr xjl xjt xjo xjh xjs xic xsa xse xta xoc xgc : Int32} {rS rK rL rH rV rE rI rP fS bS tB tS fi bA sO sM iO iM iL iH iP iK jI jO gu oP : Nat → Int32} {al : Nat → Bool} {kd lo hi lv ip : Nat → Nat} {va : Nat → Int32} {sl : Nat → Nat} {L : Nat → List Nat} {NL : Nat}
theorem zx_37y {post : SX → Prop} {J : _} {x1 : Int32} {i b v JT : Nat} (hv : v < 64) (hb : xbc = nI b) (hb2 : b < 64) (ht : xjt = nI JT) (h : J (nI (i + 1)) (nI (b + 1)) rS rK rL rH rV (upd rE v (nI JT)) rI rP fS bS tB tS fi (upd bA b (nI v)) sO sM iO iM iL iH iP iK jI jO gu oP) : wX_installOutput_37 post J x1 (nI i) (nI v) x1 xkc xml xhl xnl xla xfl xfc xhe xbc xjr xjl xjt xjo xjh xjs xic xsa xse xta xoc xgc rS rK rL rH rV rE rI rP fS bS tB tS fi bA sO sM iO iM iL iH iP iK jI jO gu oP := by
  unfold wX_installOutput_37
  subst hb ht
  rw [nI_clamp (by omega : v < 2 ^ 31), nI_clamp (by omega : b < 2 ^ 31)]
  exact br_t rfl ⟨vp_in_nI hv (by omega), nm_e ⟨vp_in_nI hb2 (by omega), nm_e (nm_r (nI_1 b) (nm_r (nI_1 i) h))⟩⟩
theorem zx_37n {post : SX → Prop} {J : _} {x1 x3 z0 : Int32} {i : Nat} (hz : ¬ z0 = x1) (h : J (nI (i + 1)) xbc rS rK rL rH rV rE rI rP fS bS tB tS fi bA sO sM iO iM iL iH iP iK jI jO gu oP) : wX_installOutput_37 post J x1 (nI i) x3 z0 xkc xml xhl xnl xla xfl xfc xhe xbc xjr xjl xjt xjo xjh xjs xic xsa xse xta xoc xgc rS rK rL rH rV rE rI rP fS bS tB tS fi bA sO sM iO iM iL iH iP iK jI jO gu oP := by
  unfold wX_installOutput_37
  exact br_f hz (nm_r (nI_1 i) h)
theorem zx_io_l {post : SX → Prop} {c JT : Nat} (hc : c ≤ 1) (hjt : xjt = nI JT) (hJT : JT ≤ 4) : ∀ (l B : List Nat) (i n : Nat) (rE bA : Nat → Int32), l.length < n → xoc = nI (i + l.length) → i + l.length ≤ 64 → B.length ≤ i → zl_At jO i sl l → (∀ x, x ∈ l → zg_R kd lo hi va sl rS rK rL rH rV x) → zl_At bA 0 sl B →
    (∀ bA' : Nat → Int32, zl_At bA' 0 sl (B ++ l.filter (zj_p kd c)) → wX_installOutput_95 post (nI (2 * JT + c)) xkc xml xhl xnl xla xfl xfc xhe (nI (B ++ l.filter (zj_p kd c)).length) xjr xjl xjt xjo xjh xjs xic xsa xse xta xoc xgc rS rK rL rH rV (zl_set sl (l.filter (zj_p kd c)) (nI JT) rE) rI rP fS bS tB tS fi bA' sO sM iO iM iL iH iP iK jI jO gu oP) →
    wX_installOutput_7 post (nI c) xkc xml xhl xnl xla xfl xfc xhe xjr xjl xjt xjo xjh xjs xic xsa xse xta xoc xgc n (nI i) (nI B.length) rS rK rL rH rV rE rI rP fS bS tB tS fi bA sO sM iO iM iL iH iP iK jI jO gu oP := by
  intro l
  induction l with
  | nil =>
    intro B i n rE bA hn ho hl hBi hA hR hB h
    simp only [List.length_nil] at hn ho hl
    obtain ⟨n, rfl⟩ : ∃ q, n = q + 1 := ⟨n - 1, by omega⟩
    rw [wX_installOutput_7]
    dsimp only
    rw [List.filter_nil, List.append_nil, zl_set_nil] at h
    have hf := h bA hB
    refine br_t (by rw [ho]; exact nI_le (by omega) (by omega)) (nm_r (e' := nI (2 * JT)) (by rw [hjt]; exact zl_2m JT) ?_)
    refine pk_eq c 0 (fun e => ?_) (fun e => nm_r (nI_1 _) ?_)
    · subst e; exact hf
    · have e1 : c = 1 := by omega
      subst e1; exact hf
  | cons x l ih =>
    intro B i n rE bA hn ho hl hBi hA hR hB h
    simp only [List.length_cons] at hn ho hl
    obtain ⟨n, rfl⟩ : ∃ q, n = q + 1 := ⟨n - 1, by omega⟩
    have hr := hR x List.mem_cons_self
    have r1 := hr.1.1
    have r3 := hr.1.2.2.1
    have r8 := hr.2.2.2.2.1
    have hjx : jO i = nI (sl x) := hA.1
    have hyes : zj_p kd c x = true → wX_installOutput_37 post (wX_installOutput_7 post (nI c) xkc xml xhl xnl xla xfl xfc xhe xjr xjl xjt xjo xjh xjs xic xsa xse xta xoc xgc n) (nI c) (nI i) (nI (sl x)) (nI c) xkc xml xhl xnl xla xfl xfc xhe (nI B.length) xjr xjl xjt xjo xjh xjs xic xsa xse xta xoc xgc rS rK rL rH rV rE rI rP fS bS tB tS fi bA sO sM iO iM iL iH iP iK jI jO gu oP := fun z => by
      rw [List.filter_cons_of_pos z] at h
      refine zx_37y r1 rfl (by omega) hjt ?_
      have key := ih (B ++ [x]) (i + 1) n (upd rE (sl x) (nI JT)) (upd bA B.length (nI (sl x))) (by omega) (ho.trans (congrArg nI (by omega))) (by omega) (by rw [List.length_append, List.length_singleton]; omega) hA.2 (fun y hy => hR y (List.mem_cons_of_mem x hy)) (by have := zl_at_snoc (x := x) (v := sl x) hB rfl; rw [Nat.zero_add] at this; exact this) (fun bA' hb => by
        have := h bA' (by rw [List.append_assoc] at hb; exact hb)
        rw [zl_set_cons] at this
        rw [List.append_assoc]
        exact this)
      rw [List.length_append, List.length_singleton] at key
      exact key
    have hno : ¬ zj_p kd c x = true → wX_installOutput_7 post (nI c) xkc xml xhl xnl xla xfl xfc xhe xjr xjl xjt xjo xjh xjs xic xsa xse xta xoc xgc n (nI (i + 1)) (nI B.length) rS rK rL rH rV rE rI rP fS bS tB tS fi bA sO sM iO iM iL iH iP iK jI jO gu oP := fun z => by
      rw [List.filter_cons_of_neg z] at h
      exact ih B (i + 1) n rE bA (by omega) (ho.trans (congrArg nI (by omega))) (by omega) (by omega) hA.2 (fun y hy => hR y (List.mem_cons_of_mem x hy)) hB h
    rw [wX_installOutput_7]
    dsimp only
    rw [nI_clamp (by omega : i < 2 ^ 31), hjx]
    refine br_f (by rw [ho]; exact nI_ge (by omega) (by omega)) ⟨vp_in_nI (by omega) (by omega), nm_e ?_⟩
    rw [nI_clamp (by omega : sl x < 2 ^ 31), r3]
    refine ⟨vp_in_nI r1 (by omega), pk_eq (kd x) 3 (fun e => ?_) (fun e => ?_)⟩
    · by_cases e1 : c = 1
      · subst e1
        exact hyes ((zj_p3 e).mpr rfl)
      · have e0 : c = 0 := by omega
        subst e0
        exact zx_37n zl_10 (hno (fun z => e1 ((zj_p3 e).mp z)))
    · by_cases e1 : c = 0
      · subst e1
        exact hyes ((zj_pn e).mpr rfl)
      · have e0 : c = 1 := by omega
        subst e0
        exact zx_37n (fun z => zl_10 z.symm) (hno (fun z => e1 ((zj_pn e).mp z)))
theorem zx_io {post : SX → Prop} {c JT : Nat} {JO : List Nat} (hc : c ≤ 1) (hjt : xjt = nI JT) (hJT : JT ≤ 4) (hT : zt_Tab kd lo hi sl L tB tS fi) (hJ : zl_At jO 0 sl JO) (hoc : xoc = nI JO.length) (hl : JO.length ≤ 64) (hp : JO.Pairwise (zd kd lo)) (hR : ∀ x, x ∈ L (2 * JT + c) ∨ x ∈ JO → zg_R kd lo hi va sl rS rK rL rH rV x) (hD : ∀ x, x ∈ L (2 * JT + c) → x ∈ JO → False) (hn : (L (2 * JT + c)).length + JO.length ≤ 64)
    (h : ∀ (xbc' : Int32) (bA' tB' tS' fi' : Nat → Int32) (M : List Nat), zt_Tab kd lo hi sl (zl_uL L (2 * JT + c) M) tB' tS' fi' → (∀ x, x ∈ M ↔ x ∈ L (2 * JT + c) ∨ (x ∈ JO ∧ zj_p kd c x = true)) → post (xkc, xml, xhl, xnl, xla, xfl, xfc, xhe, xbc', xjr, xjl, xjt, xjo, xjh, xjs, xic, xsa, xse, xta, xoc, xgc, rS, rK, rL, rH, rV, zl_set sl (JO.filter (zj_p kd c)) (nI JT) rE, rI, rP, fS, bS, tB', tS', fi', bA', sO, sM, iO, iM, iL, iH, iP, iK, jI, jO, gu, oP)) : wpX_installOutput post (xkc, xml, xhl, xnl, xla, xfl, xfc, xhe, xbc, xjr, xjl, xjt, xjo, xjh, xjs, xic, xsa, xse, xta, xoc, xgc, rS, rK, rL, rH, rV, rE, rI, rP, fS, bS, tB, tS, fi, bA, sO, sM, iO, iM, iL, iH, iP, iK, jI, jO, gu, oP) (nI c) := by
  have hsort : ∀ x, zj_p kd c x = true → (kd x = 3 ↔ (2 * JT + c) % 2 = 1) := fun x z => by
    by_cases e : kd x = 3
    · have := (zj_p3 e).mp z; omega
    · have := (zj_pn e).mp z; omega
  unfold wpX_installOutput
  dsimp only
  refine ⟨JO.length + 1, ?_⟩
  refine zx_io_l (hi := hi) (va := va) (kd := kd) (lo := lo) hc hjt hJT JO [] 0 _ rE bA (by omega) (hoc.trans (congrArg nI (by omega))) (by omega) (by rw [List.length_nil]; omega) hJ (fun x hx => hR x (Or.inr hx)) trivial (fun bA' hb => ?_)
  rw [List.nil_append] at hb ⊢
  have hfl := List.length_filter_le (zj_p kd c) JO
  unfold wX_installOutput_95
  refine zx_mb (L := L) (B := JO.filter (zj_p kd c)) (hi := hi) (va := va) (sl := sl) (kd := kd) (lo := lo) hT (by omega) hb rfl ?_ (fun x hx => hR x (hx.imp id (fun z => (List.mem_filter.mp z).1))) (fun x hx => hsort x (List.mem_filter.mp hx).2) (fun x h1 h2 => hD x h1 (List.mem_filter.mp h2).1) (by omega) ?_
  · refine (hp.filter (zj_p kd c)).imp_of_mem (fun {a b} ha hb z => ?_)
    have e : kd a = 3 ↔ kd b = 3 := (hsort a (List.mem_filter.mp ha).2).trans (hsort b (List.mem_filter.mp hb).2).symm
    rcases z with z | z
    · exact absurd (e.mpr z.2) z.1
    · exact z.2
  · intro tB' tS' fi' M m1 m2
    exact h _ bA' tB' tS' fi' M m1 (fun x => (m2 x).trans (by rw [List.mem_filter]))
/-! X: dropLosers, endJob -/
theorem zx_dl60 {post : SX → Prop} {J : _} {a b v : Nat} (ha : a < 64) (h : J (nI (a + 1)) (nI (b + 1)) xfc rS rK rL rH rV rE rI rP fS (upd bS a (nI v)) tB tS fi bA sO sM iO iM iL iH iP iK jI jO gu oP) : wX_dropLosers_60 post J (nI a) (nI b) (nI v) xkc xml xhl xnl xla xfl xfc xhe xbc xjr xjl xjt xjo xjh xjs xic xsa xse xta xoc xgc rS rK rL rH rV rE rI rP fS bS tB tS fi bA sO sM iO iM iL iH iP iK jI jO gu oP := by
  unfold wX_dropLosers_60
  rw [nI_clamp (by omega : a < 2 ^ 31)]
  exact ⟨vp_in_nI ha (by omega), nm_e (nm_r (nI_1 a) (nm_r (nI_1 b) h))⟩
theorem zx_dl_l {post : SX → Prop} {JO : List Nat} : ∀ (l K FS : List Nat) (i n : Nat) (bS fS : Nat → Int32), l.length < n → xhe = nI (i + l.length) → i + l.length ≤ 64 → K.length ≤ i → zl_At bS 0 sl K → zl_At bS i sl l → zl_At fS 0 id FS → FS.length + l.length ≤ 64 → (∀ x, x ∈ l → sl x < 64 ∧ rI (sl x) = nI (ip x) ∧ ip x ≤ 1 ∧ (x ∈ JO → ip x = 1) ∧ (ip x = 1 → rP (sl x) = if x ∈ JO then 1 else 0)) →
    (∀ bS' fS' : Nat → Int32, zl_At bS' 0 sl (K ++ l.filter (zj_kp ip JO)) → zl_At fS' 0 id (FS ++ (l.filter (fun x => !zj_kp ip JO x)).map sl) → post (xkc, xml, xhl, xnl, xla, xfl, nI (FS ++ (l.filter (fun x => !zj_kp ip JO x)).map sl).length, nI (K ++ l.filter (zj_kp ip JO)).length, xbc, xjr, xjl, xjt, xjo, xjh, xjs, xic, xsa, xse, xta, xoc, xgc, rS, rK, rL, rH, rV, rE, rI, rP, fS', bS', tB, tS, fi, bA, sO, sM, iO, iM, iL, iH, iP, iK, jI, jO, gu, oP)) →
    wX_dropLosers_4 post xkc xml xhl xnl xla xfl xhe xbc xjr xjl xjt xjo xjh xjs xic xsa xse xta xoc xgc n (nI K.length) (nI i) (nI FS.length) rS rK rL rH rV rE rI rP fS bS tB tS fi bA sO sM iO iM iL iH iP iK jI jO gu oP := by
  intro l
  induction l with
  | nil =>
    intro K FS i n bS fS hn hh hl hK hA hB hF hF2 hR h
    simp only [List.length_nil] at hn hh hl
    obtain ⟨n, rfl⟩ : ∃ q, n = q + 1 := ⟨n - 1, by omega⟩
    rw [wX_dropLosers_4]
    dsimp only
    rw [List.filter_nil, List.filter_nil, List.map_nil, List.append_nil, List.append_nil] at h
    exact br_t (by rw [hh]; exact nI_le (by omega) (by omega)) (h bS fS hA hF)
  | cons x l ih =>
    intro K FS i n bS fS hn hh hl hK hA hB hF hF2 hR h
    simp only [List.length_cons] at hn hh hl hF2
    obtain ⟨n, rfl⟩ : ∃ q, n = q + 1 := ⟨n - 1, by omega⟩
    obtain ⟨r1, r2, r3, r4, r5⟩ := hR x List.mem_cons_self
    have hbx : bS i = nI (sl x) := hB.1
    have hstay : zj_kp ip JO x = true → wX_dropLosers_60 post (wX_dropLosers_4 post xkc xml xhl xnl xla xfl xhe xbc xjr xjl xjt xjo xjh xjs xic xsa xse xta xoc xgc n) (nI K.length) (nI i) (nI (sl x)) xkc xml xhl xnl xla xfl (nI FS.length) xhe xbc xjr xjl xjt xjo xjh xjs xic xsa xse xta xoc xgc rS rK rL rH rV rE rI rP fS bS tB tS fi bA sO sM iO iM iL iH iP iK jI jO gu oP := fun z => by
      rw [List.filter_cons_of_pos z, List.filter_cons_of_neg (by rw [z]; exact Bool.false_ne_true)] at h
      refine zx_dl60 (by omega) ?_
      have key := ih (K ++ [x]) FS (i + 1) n (upd bS K.length (nI (sl x))) fS (by omega) (hh.trans (congrArg nI (by omega))) (by omega) (by rw [List.length_append, List.length_singleton]; omega) (by have := zl_at_snoc (x := x) (v := sl x) hA rfl; rw [Nat.zero_add] at this; exact this) (zl_at_fr (fun j h1 h2 => pk_un (by omega)) hB.2) hF (by omega) (fun y hy => hR y (List.mem_cons_of_mem x hy)) (fun bS' fS' h1 h2 => by
        rw [List.append_assoc] at h1 ⊢
        exact h bS' fS' h1 h2)
      rw [List.length_append, List.length_singleton] at key
      exact key
    rw [wX_dropLosers_4]
    dsimp only
    rw [nI_clamp (by omega : i < 2 ^ 31), hbx]
    refine br_f (by rw [hh]; exact nI_ge (by omega) (by omega)) ⟨vp_in_nI (by omega) (by omega), nm_e ?_⟩
    rw [nI_clamp (by omega : sl x < 2 ^ 31), r2]
    refine ⟨vp_in_nI r1 (by omega), pk_eq (ip x) 0 (fun e => hstay (zj_kpi.mpr (Or.inl e))) (fun e => ⟨vp_in_nI r1 (by omega), ?_⟩)⟩
    rw [r5 (by omega)]
    by_cases c : x ∈ JO
    · rw [if_pos c]
      exact br_f zl_10 (hstay (zj_kpi.mpr (Or.inr c)))
    · rw [if_neg c]
      have z : ¬ zj_kp ip JO x = true := fun w => (zj_kpi.mp w).elim e c
      rw [List.filter_cons_of_neg z, List.filter_cons_of_pos (by rw [Bool.eq_false_iff.mpr z]; rfl)] at h
      rw [nI_clamp (by omega : FS.length < 2 ^ 31)]
      refine br_t rfl ⟨vp_in_nI (by omega) (by omega), nm_e (nm_r (nI_1 _) (nm_r (nI_1 i) ?_))⟩
      have key := ih K (FS ++ [sl x]) (i + 1) n bS (upd fS FS.length (nI (sl x))) (by omega) (hh.trans (congrArg nI (by omega))) (by omega) (by omega) hA hB.2 (by have := zl_at_snoc (f := id) (x := sl x) (v := sl x) hF rfl; rw [Nat.zero_add] at this; exact this) (by rw [List.length_append, List.length_singleton]; omega) (fun y hy => hR y (List.mem_cons_of_mem x hy)) (fun bS' fS' h1 h2 => by
        rw [List.append_assoc] at h2 ⊢
        exact h bS' fS' h1 h2)
      rw [List.length_append, List.length_singleton] at key
      exact key
theorem zx_ej_l {post : SX → Prop} : ∀ (l : List Nat) (i n : Nat) (rI rP : Nat → Int32), l.length < n → xic = nI (i + l.length) → i + l.length ≤ 64 → zl_At jI i sl l → (∀ x, x ∈ l → sl x < 64) → post (xkc, xml, xhl, xnl, xla, xfl, xfc, xhe, xbc, 0, xjl, xjt, xjo, xjh, 0, 0, 0, 0, 0, 0, 0, rS, rK, rL, rH, rV, rE, zl_set sl l 0 rI, zl_set sl l 0 rP, fS, bS, tB, tS, fi, bA, sO, sM, iO, iM, iL, iH, iP, iK, jI, jO, gu, oP) → wX_endJob_2 post xkc xml xhl xnl xla xfl xfc xhe xbc xjr xjl xjt xjo xjh xjs xic xsa xse xta xoc xgc n (nI i) rS rK rL rH rV rE rI rP fS bS tB tS fi bA sO sM iO iM iL iH iP iK jI jO gu oP := by
  intro l
  induction l with
  | nil =>
    intro i n rI rP hn hi' hl hA hR h
    simp only [List.length_nil] at hn hi' hl
    obtain ⟨n, rfl⟩ : ∃ q, n = q + 1 := ⟨n - 1, by omega⟩
    rw [wX_endJob_2]
    dsimp only
    rw [zl_set_nil, zl_set_nil] at h
    exact br_t (by rw [hi']; exact nI_le (by omega) (by omega)) h
  | cons x l ih =>
    intro i n rI rP hn hi' hl hA hR h
    simp only [List.length_cons] at hn hi' hl
    obtain ⟨n, rfl⟩ : ∃ q, n = q + 1 := ⟨n - 1, by omega⟩
    have r1 := hR x List.mem_cons_self
    have hx : jI i = nI (sl x) := hA.1
    rw [wX_endJob_2]
    dsimp only
    rw [nI_clamp (by omega : i < 2 ^ 31), hx]
    refine br_f (by rw [hi']; exact nI_ge (by omega) (by omega)) ⟨vp_in_nI (by omega) (by omega), nm_e ?_⟩
    rw [nI_clamp (by omega : sl x < 2 ^ 31), zl_nb0]
    refine ⟨vp_in_nI r1 (by omega), nm_e ⟨vp_in_nI r1 (by omega), nm_e (nm_r (nI_1 i) ?_)⟩⟩
    rw [zl_set_cons, zl_set_cons] at h
    exact ih (i + 1) n _ _ (by omega) (hi'.trans (congrArg nI (by omega))) (by omega) hA.2 (fun y hy => hR y (List.mem_cons_of_mem x hy)) h
theorem zx_ej {post : SX → Prop} {JI : List Nat} (hA : zl_At jI 0 sl JI) (hic : xic = nI JI.length) (hl : JI.length ≤ 64) (hR : ∀ x, x ∈ JI → sl x < 64) (h : post (xkc, xml, xhl, xnl, xla, xfl, xfc, xhe, xbc, 0, xjl, xjt, xjo, xjh, 0, 0, 0, 0, 0, 0, 0, rS, rK, rL, rH, rV, rE, zl_set sl JI 0 rI, zl_set sl JI 0 rP, fS, bS, tB, tS, fi, bA, sO, sM, iO, iM, iL, iH, iP, iK, jI, jO, gu, oP)) : wpX_endJob post (xkc, xml, xhl, xnl, xla, xfl, xfc, xhe, xbc, xjr, xjl, xjt, xjo, xjh, xjs, xic, xsa, xse, xta, xoc, xgc, rS, rK, rL, rH, rV, rE, rI, rP, fS, bS, tB, tS, fi, bA, sO, sM, iO, iM, iL, iH, iP, iK, jI, jO, gu, oP) := by
  unfold wpX_endJob
  dsimp only
  exact ⟨JI.length + 1, zx_ej_l JI 0 _ rI rP (by omega) (hic.trans (congrArg nI (by omega))) (by omega) hA hR h⟩
end
end
section
theorem zl_flen (p : Nat → Bool) : ∀ l : List Nat, (l.filter p).length + (l.filter (fun x => !p x)).length = l.length
  | [] => rfl
  | x :: l => by
    have ih := zl_flen p l
    by_cases c : p x = true
    · rw [List.filter_cons_of_pos c, List.filter_cons_of_neg (by rw [c]; exact Bool.false_ne_true), List.length_cons, List.length_cons]; omega
    · rw [List.filter_cons_of_neg c, List.filter_cons_of_pos (by rw [Bool.eq_false_iff.mpr c]; rfl), List.length_cons, List.length_cons]; omega
/-- the pool: all held by seq, the free slots -/
def zp_P (al : Nat → Bool) (sl : Nat → Nat) (BS FS : List Nat) (xhe xfc : Int32) (bS fS : Nat → Int32) : Prop :=
  (zl_At bS 0 sl BS ∧ xhe = nI BS.length ∧ BS.Pairwise (fun a b => a < b) ∧ ∀ n, n ∈ BS ↔ al n = true) ∧ (zl_At fS 0 id FS ∧ xfc = nI FS.length ∧ FS.Nodup ∧ (∀ s, s ∈ FS → s < 64) ∧ ∀ n, al n = true → ¬ sl n ∈ FS) ∧ FS.length + BS.length = 64
theorem zp_C {al : Nat → Bool} {sl : Nat → Nat} {BS FS : List Nat} {xhe xfc : Int32} {bS fS : Nat → Int32} (h : zp_P al sl BS FS xhe xfc bS fS) : ∀ l : List Nat, l.Nodup → (∀ x, x ∈ l → al x = true) → l.length ≤ BS.length :=
  fun l h1 h2 => h1.length_le_of_subset (fun x hx => (h.1.2.2.2 x).mpr (h2 x hx))
theorem zp_C64 {al : Nat → Bool} {sl : Nat → Nat} {BS FS : List Nat} {xhe xfc : Int32} {bS fS : Nat → Int32} (h : zp_P al sl BS FS xhe xfc bS fS) : ∀ l : List Nat, l.Nodup → (∀ x, x ∈ l → al x = true) → l.length ≤ 64 :=
  fun l h1 h2 => by have := zp_C h l h1 h2; have := h.2.2; omega
theorem zp_drop {al : Nat → Bool} {ip sl : Nat → Nat} {BS FS JO : List Nat} {xhe xfc : Int32} {bS fS bS' fS' : Nat → Int32} (h : zp_P al sl BS FS xhe xfc bS fS) (hinj : ∀ a b, al a = true → al b = true → sl a = sl b → a = b) (h64 : ∀ n, al n = true → sl n < 64) (h1 : zl_At bS' 0 sl (BS.filter (zj_kp ip JO))) (h2 : zl_At fS' 0 id (FS ++ (BS.filter (fun x => !zj_kp ip JO x)).map sl)) :
    zp_P (fun n => al n && zj_kp ip JO n) sl (BS.filter (zj_kp ip JO)) (FS ++ (BS.filter (fun x => !zj_kp ip JO x)).map sl) (nI (BS.filter (zj_kp ip JO)).length) (nI (FS ++ (BS.filter (fun x => !zj_kp ip JO x)).map sl).length) bS' fS' := by
  obtain ⟨⟨q1, q2, q3, q4⟩, ⟨q5, q6, q7, q8, q9⟩, q10⟩ := h
  have hm : ∀ s, s ∈ (BS.filter (fun x => !zj_kp ip JO x)).map sl → ∃ x, al x = true ∧ ¬ zj_kp ip JO x = true ∧ sl x = s := by
    intro s hs
    obtain ⟨x, hx, e⟩ := List.mem_map.mp hs
    obtain ⟨x1, x2⟩ := List.mem_filter.mp hx
    refine ⟨x, (q4 x).mp x1, fun z => ?_, e⟩
    rw [z] at x2
    exact Bool.false_ne_true x2
  refine ⟨⟨h1, rfl, q3.filter _, fun n => ?_⟩, ⟨h2, rfl, ?_, ?_, ?_⟩, ?_⟩
  · rw [List.mem_filter, q4, Bool.and_eq_true]
  · refine List.nodup_append.mpr ⟨q7, ?_, fun a ha b hb e => ?_⟩
    · refine List.pairwise_map.mpr ((q3.filter _).imp_of_mem (fun {a b} ha hb z e => ?_))
      have := hinj a b ((q4 a).mp (List.mem_filter.mp ha).1) ((q4 b).mp (List.mem_filter.mp hb).1) e
      omega
    · obtain ⟨x, x1, x2, x3⟩ := hm b hb
      exact q9 x x1 (by rw [x3, ← e]; exact ha)
  · intro s hs
    rcases List.mem_append.mp hs with z | z
    · exact q8 s z
    · obtain ⟨x, x1, x2, x3⟩ := hm s z
      rw [← x3]; exact h64 x x1
  · intro n hn hs
    obtain ⟨n1, n2⟩ := Bool.and_eq_true_iff.mp hn
    rcases List.mem_append.mp hs with z | z
    · exact q9 n n1 z
    · obtain ⟨x, x1, x2, x3⟩ := hm _ z
      have := hinj x n x1 n1 x3
      rw [this] at x2
      exact x2 n2
  · rw [List.length_append, List.length_map]
    have := zl_flen (zj_kp ip JO) BS
    omega
section
variable {xkc xml xhl xnl xla xfl xfc xhe xbc xjr xjl xjt xjo xjh xjs xic xsa xse xta xoc xgc : Int32} {rS rK rL rH rV rE rI rP fS bS tB tS fi bA sO sM iO iM iL iH iP iK jI jO gu oP : Nat → Int32} {al : Nat → Bool} {kd lo hi lv ip : Nat → Nat} {va : Nat → Int32} {sl : Nat → Nat} {L : Nat → List Nat} {NL : Nat}
theorem zx_dl {post : SX → Prop} {BS FS JO : List Nat} (hp : zp_P al sl BS FS xhe xfc bS fS) (hR : ∀ x, al x = true → sl x < 64 ∧ rI (sl x) = nI (ip x) ∧ ip x ≤ 1 ∧ (x ∈ JO → ip x = 1) ∧ (ip x = 1 → rP (sl x) = if x ∈ JO then 1 else 0)) (hinj : ∀ a b, al a = true → al b = true → sl a = sl b → a = b)
    (h : ∀ (xhe' xfc' : Int32) (bS' fS' : Nat → Int32) (BS' FS' : List Nat), zp_P (fun n => al n && zj_kp ip JO n) sl BS' FS' xhe' xfc' bS' fS' → post (xkc, xml, xhl, xnl, xla, xfl, xfc', xhe', xbc, xjr, xjl, xjt, xjo, xjh, xjs, xic, xsa, xse, xta, xoc, xgc, rS, rK, rL, rH, rV, rE, rI, rP, fS', bS', tB, tS, fi, bA, sO, sM, iO, iM, iL, iH, iP, iK, jI, jO, gu, oP)) : wpX_dropLosers post (xkc, xml, xhl, xnl, xla, xfl, xfc, xhe, xbc, xjr, xjl, xjt, xjo, xjh, xjs, xic, xsa, xse, xta, xoc, xgc, rS, rK, rL, rH, rV, rE, rI, rP, fS, bS, tB, tS, fi, bA, sO, sM, iO, iM, iL, iH, iP, iK, jI, jO, gu, oP) := by
  have hp0 := hp
  obtain ⟨⟨q1, q2, q3, q4⟩, ⟨q5, q6, q7, q8, q9⟩, q10⟩ := hp
  unfold wpX_dropLosers
  dsimp only
  refine ⟨BS.length + 1, ?_⟩
  have key : wX_dropLosers_4 post xkc xml xhl xnl xla xfl xhe xbc xjr xjl xjt xjo xjh xjs xic xsa xse xta xoc xgc (BS.length + 1) (nI ([] : List Nat).length) (nI 0) (nI FS.length) rS rK rL rH rV rE rI rP fS bS tB tS fi bA sO sM iO iM iL iH iP iK jI jO gu oP := zx_dl_l (post := post) (JO := JO) (ip := ip) (sl := sl) BS [] FS 0 (BS.length + 1) bS fS (by omega) (q2.trans (congrArg nI (by omega))) (by omega) (by rw [List.length_nil]; omega) trivial q1 q5 (by omega) (fun x hx => hR x ((q4 x).mp hx)) (fun bS' fS' h1 h2 => by
    rw [List.nil_append] at h1 ⊢
    exact h _ _ bS' fS' _ _ (zp_drop hp0 hinj (fun n hn => (hR n hn).1) h1 h2))
  rw [← q6] at key
  exact key
theorem zx_c55 {post : SX → Prop} {JT : Nat} {L2 : Nat → List Nat} {BS FS JI JO : List Nat} (hjt : xjt = nI JT) (hJT : JT ≤ 4) (hT : zt_Tab kd lo hi sl L2 tB tS fi) (hL2 : ∀ t n, n ∈ L2 t ↔ al n = true ∧ zt_tb kd lv n = t ∧ ip n = 0) (hS : ∀ n, al n = true → zg_R kd lo hi va sl rS rK rL rH rV n) (hE : ∀ n, al n = true → rE (sl n) = nI (lv n)) (hI : ∀ n, al n = true → rI (sl n) = nI (ip n)) (hip : ∀ n, al n = true → ip n = 0 ∨ ip n = 1)
    (hp : zp_P al sl BS FS xhe xfc bS fS) (hJO : zl_At jO 0 sl JO) (hoc : xoc = nI JO.length) (hJp : JO.Pairwise (zd kd lo)) (hJm : ∀ n, n ∈ JO → al n = true ∧ ip n = 1) (hJI : zl_At jI 0 sl JI) (hic : xic = nI JI.length) (hJl : JI.length ≤ 64) (hJIm : ∀ n, n ∈ JI ↔ al n = true ∧ ip n = 1) (hkp : ∀ n, n ∈ JI → rP (sl n) = if n ∈ JO then 1 else 0)
    (h : ∀ (xhe' xfc' xbc' : Int32) (rE' rI' rP' fS' bS' tB' tS' fi' bA' : Nat → Int32) (BS' FS' : List Nat) (L' : Nat → List Nat), zt_Tab kd lo hi sl L' tB' tS' fi' → zt_Mem (fun n => al n && zj_kp ip JO n) kd (fun n => if ip n = 1 then JT else lv n) L' → (∀ n, (al n && zj_kp ip JO n) = true → rE' (sl n) = nI (if ip n = 1 then JT else lv n)) → (∀ n, (al n && zj_kp ip JO n) = true → rI' (sl n) = 0) → zp_P (fun n => al n && zj_kp ip JO n) sl BS' FS' xhe' xfc' bS' fS' →
      post (xkc, xml, xhl, xnl, xla, xfl, xfc', xhe', xbc', 0, xjl, xjt, xjo, xjh, 0, 0, 0, 0, 0, 0, 0, rS, rK, rL, rH, rV, rE', rI', rP', fS', bS', tB', tS', fi', bA', sO, sM, iO, iM, iL, iH, iP, iK, jI, jO, gu, oP)) : wX_completeJob_55 post xkc xml xhl xnl xla xfl xfc xhe xbc xjr xjl xjt xjo xjh xjs xic xsa xse xta xoc xgc rS rK rL rH rV rE rI rP fS bS tB tS fi bA sO sM iO iM iL iH iP iK jI jO gu oP := by
  have hC := zp_C64 hp
  have hinj : ∀ a b, al a = true → al b = true → sl a = sl b → a = b := fun a b ha hb e => zg_inj (hS a ha) (hS b hb) e
  have hJn := zd_nodup hJp
  have hJ64 := hC JO hJn (fun x hx => (hJm x hx).1)
  have hlen : ∀ t, t < 10 → (L2 t).length + JO.length ≤ 64 := fun t ht => by
    have := hC (L2 t ++ JO) (List.nodup_append.mpr ⟨zo_nodup (hT t ht).2.2.2.1, hJn, fun a ha b hb e => by
      have h1 := ((hL2 t a).mp ha).2.2
      have h2 := (hJm b hb).2
      rw [← e] at h2
      omega⟩) (fun x hx => (List.mem_append.mp hx).elim (fun z => ((hL2 t x).mp z).1) (fun z => (hJm x z).1))
    rw [List.length_append] at this
    exact this
  have hdis : ∀ t x, x ∈ L2 t → x ∈ JO → False := fun t x h1 h2 => by
    have h1 := ((hL2 t x).mp h1).2.2
    have h2 := (hJm x h2).2
    omega
  have e3 : ∀ M, zl_uL L2 (2 * JT + 0) M (2 * JT + 1) = L2 (2 * JT + 1) := fun M => zl_uLn (by omega)
  unfold wX_completeJob_55
  refine zx_io (c := 0) (L := L2) (JO := JO) (hi := hi) (va := va) (kd := kd) (lo := lo) (sl := sl) (by omega) hjt hJT hT hJO hoc hJ64 hJp (fun x hx => hS x (hx.elim (fun z => ((hL2 _ x).mp z).1) (fun z => (hJm x z).1))) (hdis _) (hlen _ (by omega)) (fun xbc1 bA1 tB1 tS1 fi1 M0 hT1 hM0 => ?_)
  refine zx_io (c := 1) (L := zl_uL L2 (2 * JT + 0) M0) (JO := JO) (hi := hi) (va := va) (kd := kd) (lo := lo) (sl := sl) (by omega) hjt hJT hT1 hJO hoc hJ64 hJp (fun x hx => hS x (hx.elim (fun z => by rw [e3] at z; exact ((hL2 _ x).mp z).1) (fun z => (hJm x z).1))) (by rw [e3]; exact hdis _) (by rw [e3]; exact hlen _ (by omega)) (fun xbc2 bA2 tB2 tS2 fi2 M1 hT2 hM1 => ?_)
  refine zx_dl (al := al) (ip := ip) (sl := sl) (JO := JO) (BS := BS) (FS := FS) hp (fun x hx => ⟨(hS x hx).1.1, hI x hx, by rcases hip x hx with z | z <;> omega, fun z => (hJm x z).2, fun z => hkp x ((hJIm x).mpr ⟨hx, z⟩)⟩) hinj (fun xhe' xfc' bS' fS' BS' FS' hp' => ?_)
  refine zx_ej (JI := JI) (sl := sl) hJI hic hJl (fun x hx => (hS x ((hJIm x).mp hx).1).1.1) ?_
  refine h xhe' xfc' xbc2 _ _ _ fS' bS' tB2 tS2 fi2 bA2 BS' FS' _ hT2 (fun t n => ?_) (fun n hn => ?_) (fun n hn => ?_) hp'
  · rw [Bool.and_eq_true, zj_kpi]
    by_cases i1 : ip n = 1
    · have nL : ∀ t, ¬ n ∈ L2 t := fun t z => by have := ((hL2 t n).mp z).2.2; omega
      by_cases k3 : kd n = 3
      · rw [zt_tb3 k3, if_pos i1]
        by_cases t1 : t = 2 * JT + 1
        · subst t1
          rw [zl_uLs, hM1, e3]
          exact ⟨fun z => z.elim (fun y => absurd y (nL _)) (fun y => ⟨⟨(hJm n y.1).1, Or.inr y.1⟩, rfl⟩), fun z => Or.inr ⟨z.1.2.elim (fun y => absurd y (by omega)) id, (zj_p3 k3).mpr rfl⟩⟩
        · rw [zl_uLn t1]
          refine ⟨fun z => ?_, fun z => absurd z.2.symm t1⟩
          by_cases t0 : t = 2 * JT + 0
          · subst t0
            rw [zl_uLs, hM0] at z
            exact z.elim (fun y => absurd y (nL _)) (fun y => absurd ((zj_p3 k3).mp y.2) (by omega))
          · rw [zl_uLn t0] at z
            exact absurd z (nL _)
      · rw [zt_tbn k3, if_pos i1]
        by_cases t1 : t = 2 * JT + 1
        · subst t1
          rw [zl_uLs, hM1, e3]
          exact ⟨fun z => z.elim (fun y => absurd y (nL _)) (fun y => absurd ((zj_pn k3).mp y.2) (by omega)), fun z => absurd z.2 (by omega)⟩
        · rw [zl_uLn t1]
          by_cases t0 : t = 2 * JT + 0
          · subst t0
            rw [zl_uLs, hM0]
            exact ⟨fun z => z.elim (fun y => absurd y (nL _)) (fun y => ⟨⟨(hJm n y.1).1, Or.inr y.1⟩, rfl⟩), fun z => Or.inr ⟨z.1.2.elim (fun y => absurd y (by omega)) id, (zj_pn k3).mpr rfl⟩⟩
          · rw [zl_uLn t0]
            exact ⟨fun z => absurd z (nL _), fun z => absurd z.2.symm t0⟩
    · have nJ : ¬ n ∈ JO := fun z => i1 (hJm n z).2
      have etb : zt_tb kd (fun n => if ip n = 1 then JT else lv n) n = zt_tb kd lv n := by unfold zt_tb; dsimp only; rw [if_neg i1]
      have key : n ∈ zl_uL (zl_uL L2 (2 * JT + 0) M0) (2 * JT + 1) M1 t ↔ n ∈ L2 t := by
        by_cases t1 : t = 2 * JT + 1
        · subst t1
          rw [zl_uLs, hM1, e3]
          exact ⟨fun z => z.elim id (fun y => absurd y.1 nJ), Or.inl⟩
        · rw [zl_uLn t1]
          by_cases t0 : t = 2 * JT + 0
          · subst t0
            rw [zl_uLs, hM0]
            exact ⟨fun z => z.elim id (fun y => absurd y.1 nJ), Or.inl⟩
          · rw [zl_uLn t0]
      rw [key, hL2, etb]
      exact ⟨fun z => ⟨⟨z.1, Or.inl z.2.2⟩, z.2.1⟩, fun z => ⟨z.1.1, z.2, z.1.2.elim id (fun y => absurd y nJ)⟩⟩
  · obtain ⟨n1, n2⟩ := Bool.and_eq_true_iff.mp hn
    by_cases i1 : ip n = 1
    · rw [if_pos i1]
      have nJ : n ∈ JO := (zj_kpi.mp n2).elim (fun y => absurd y (by omega)) id
      by_cases k3 : kd n = 3
      · exact zl_set_in (List.mem_filter.mpr ⟨nJ, (zj_p3 k3).mpr rfl⟩)
      · rw [zl_set_out (fun x hx e => ?_)]
        · exact zl_set_in (List.mem_filter.mpr ⟨nJ, (zj_pn k3).mpr rfl⟩)
        · obtain ⟨x1, x2⟩ := List.mem_filter.mp hx
          rw [hinj x n (hJm x x1).1 n1 e] at x2
          exact absurd ((zj_pn k3).mp x2) (by omega)
    · rw [if_neg i1]
      have nJ : ∀ (c : Nat) x, x ∈ JO.filter (zj_p kd c) → sl x ≠ sl n := fun c x hx e => by
        obtain ⟨x1, x2⟩ := List.mem_filter.mp hx
        have := (hJm x x1).2
        rw [hinj x n (hJm x x1).1 n1 e] at this
        exact i1 this
      rw [zl_set_out (nJ 1), zl_set_out (nJ 0)]
      exact hE n n1
  · obtain ⟨n1, n2⟩ := Bool.and_eq_true_iff.mp hn
    by_cases i1 : ip n = 1
    · exact zl_set_in ((hJIm n).mpr ⟨n1, i1⟩)
    · rw [zl_set_out (fun x hx e => ?_), hI n n1]
      · have := hip n n1
        rw [show ip n = 0 by omega]
        rfl
      · have := (hJIm x).mp hx
        rw [hinj x n this.1 n1 e] at this
        exact i1 this.2
/-- a table after strips at some places -/
def zt_pS (ip : Nat → Nat) (L L' : Nat → List Nat) : Prop := ∀ t, L' t = L t ∨ L' t = (L t).filter (fun x => ip x == 0)
end
theorem zt_pS1 {ip : Nat → Nat} {L L' : Nat → List Nat} {t : Nat} (h : zt_pS ip L L') : zt_pS ip L (zl_uL L' t ((L' t).filter (fun x => ip x == 0))) ∧ zl_uL L' t ((L' t).filter (fun x => ip x == 0)) t = (L t).filter (fun x => ip x == 0) := by
  have e : (L' t).filter (fun x => ip x == 0) = (L t).filter (fun x => ip x == 0) := by
    rcases h t with z | z
    · rw [z]
    · rw [z]
      exact List.filter_eq_self.mpr (fun x hx => (List.mem_filter.mp hx).2)
  constructor
  · intro s
    by_cases c : s = t
    · subst c; rw [zl_uLs]; exact Or.inr e
    · rw [zl_uLn c]; exact h s
  · rw [zl_uLs]; exact e
theorem zt_pSk {ip : Nat → Nat} {L L' : Nat → List Nat} {t s : Nat} (h : L' s = (L s).filter (fun x => ip x == 0)) : zl_uL L' t ((L' t).filter (fun x => ip x == 0)) s = (L s).filter (fun x => ip x == 0) := by
  by_cases c : s = t
  · subst c
    rw [zl_uLs, h]
    exact List.filter_eq_self.mpr (fun x hx => (List.mem_filter.mp hx).2)
  · rw [zl_uLn c]; exact h
theorem zt_pSm {ip : Nat → Nat} {L L' : Nat → List Nat} (h : zt_pS ip L L') {t n : Nat} (hn : n ∈ L' t) : n ∈ L t := by
  rcases h t with z | z
  · rw [z] at hn; exact hn
  · rw [z] at hn; exact (List.mem_filter.mp hn).1
section
variable {xkc xml xhl xnl xla xfl xfc xhe xbc xjr xjl xjt xjo xjh xjs xic xsa xse xta xoc xgc : Int32} {rS rK rL rH rV rE rI rP fS bS tB tS fi bA sO sM iO iM iL iH iP iK jI jO gu oP : Nat → Int32} {al : Nat → Bool} {kd lo hi lv ip : Nat → Nat} {va : Nat → Int32} {sl : Nat → Nat} {L : Nat → List Nat} {NL : Nat}
theorem zx_comp {post : SX → Prop} {JL JT : Nat} {BS FS JI JO : List Nat} (hjl : xjl = nI JL) (hJL : JL ≤ 4) (hjt : xjt = nI JT) (hJT : JT ≤ 4) (hT : zt_Tab kd lo hi sl L tB tS fi) (hM : zt_Mem al kd lv L) (hlv : ∀ n, al n = true → ip n = 1 → lv n = JL ∨ lv n = JT) (hS : ∀ n, al n = true → zg_R kd lo hi va sl rS rK rL rH rV n) (hE : ∀ n, al n = true → rE (sl n) = nI (lv n)) (hI : ∀ n, al n = true → rI (sl n) = nI (ip n)) (hip : ∀ n, al n = true → ip n = 0 ∨ ip n = 1)
    (hp : zp_P al sl BS FS xhe xfc bS fS) (hJO : zl_At jO 0 sl JO) (hoc : xoc = nI JO.length) (hJp : JO.Pairwise (zd kd lo)) (hJm : ∀ n, n ∈ JO → al n = true ∧ ip n = 1) (hJI : zl_At jI 0 sl JI) (hic : xic = nI JI.length) (hJl : JI.length ≤ 64) (hJIm : ∀ n, n ∈ JI ↔ al n = true ∧ ip n = 1) (hkp : ∀ n, n ∈ JI → rP (sl n) = if n ∈ JO then 1 else 0)
    (h : ∀ (xhe' xfc' xbc' : Int32) (rE' rI' rP' fS' bS' tB' tS' fi' bA' : Nat → Int32) (BS' FS' : List Nat) (L' : Nat → List Nat), zt_Tab kd lo hi sl L' tB' tS' fi' → zt_Mem (fun n => al n && zj_kp ip JO n) kd (fun n => if ip n = 1 then JT else lv n) L' → (∀ n, (al n && zj_kp ip JO n) = true → rE' (sl n) = nI (if ip n = 1 then JT else lv n)) → (∀ n, (al n && zj_kp ip JO n) = true → rI' (sl n) = 0) → zp_P (fun n => al n && zj_kp ip JO n) sl BS' FS' xhe' xfc' bS' fS' →
      post (xkc, xml, xhl, xnl, xla, xfl, xfc', xhe', xbc', 0, xjl, xjt, xjo, xjh, 0, 0, 0, 0, 0, 0, 0, rS, rK, rL, rH, rV, rE', rI', rP', fS', bS', tB', tS', fi', bA', sO, sM, iO, iM, iL, iH, iP, iK, jI, jO, gu, oP)) : wpX_completeJob post (xkc, xml, xhl, xnl, xla, xfl, xfc, xhe, xbc, xjr, xjl, xjt, xjo, xjh, xjs, xic, xsa, xse, xta, xoc, xgc, rS, rK, rL, rH, rV, rE, rI, rP, fS, bS, tB, tS, fi, bA, sO, sM, iO, iM, iL, iH, iP, iK, jI, jO, gu, oP) := by
  have hRL : ∀ t x, x ∈ L t → zg_R kd lo hi va sl rS rK rL rH rV x ∧ rI (sl x) = nI (ip x) ∧ ip x ≤ 1 := fun t x hx => by
    have ha := ((hM t x).mp hx).1
    exact ⟨hS x ha, hI x ha, by rcases hip x ha with z | z <;> omega⟩
  have hfin : ∀ (L' : Nat → List Nat), zt_pS ip L L' → L' (2 * JL) = (L (2 * JL)).filter (fun x => ip x == 0) → L' (2 * JL + 1) = (L (2 * JL + 1)).filter (fun x => ip x == 0) → L' (2 * JT) = (L (2 * JT)).filter (fun x => ip x == 0) → L' (2 * JT + 1) = (L (2 * JT + 1)).filter (fun x => ip x == 0) → ∀ t n, n ∈ L' t ↔ al n = true ∧ zt_tb kd lv n = t ∧ ip n = 0 := by
    intro L' h0 h1 h2 h3 h4 t n
    have hg : L' t = (L t).filter (fun x => ip x == 0) → (n ∈ L' t ↔ al n = true ∧ zt_tb kd lv n = t ∧ ip n = 0) := fun e => by
      rw [e, List.mem_filter, hM, beq_iff_eq, and_assoc]
    by_cases c1 : t = 2 * JL
    · subst c1; exact hg h1
    by_cases c2 : t = 2 * JL + 1
    · subst c2; exact hg h2
    by_cases c3 : t = 2 * JT
    · subst c3; exact hg h3
    by_cases c4 : t = 2 * JT + 1
    · subst c4; exact hg h4
    · refine hg ((h0 t).elim (fun e => ?_) id)
      rw [e]
      refine (List.filter_eq_self.mpr (fun x hx => ?_)).symm
      obtain ⟨x1, x2⟩ := (hM t x).mp hx
      rcases hip x x1 with z | z
      · exact beq_iff_eq.mpr z
      · by_cases k3 : kd x = 3
        · rw [zt_tb3 k3] at x2
          rcases hlv x x1 z with w | w <;> omega
        · rw [zt_tbn k3] at x2
          rcases hlv x x1 z with w | w <;> omega
  have h55 : ∀ (L' : Nat → List Nat) (tB tS fi : Nat → Int32), zt_Tab kd lo hi sl L' tB tS fi → (∀ t n, n ∈ L' t ↔ al n = true ∧ zt_tb kd lv n = t ∧ ip n = 0) → wX_completeJob_55 post xkc xml xhl xnl xla xfl xfc xhe xbc xjr xjl xjt xjo xjh xjs xic xsa xse xta xoc xgc rS rK rL rH rV rE rI rP fS bS tB tS fi bA sO sM iO iM iL iH iP iK jI jO gu oP := fun L' tB tS fi hT' hL' =>
    zx_c55 hjt hJT hT' hL' hS hE hI hip hp hJO hoc hJp hJm hJI hic hJl hJIm hkp h
  have hpS0 : zt_pS ip L L := fun t => Or.inl rfl
  unfold wpX_completeJob
  dsimp only
  rw [show (2 * xjl) = nI (2 * JL) by rw [hjl, zl_2m]]
  refine zx_strip (ip := ip) (L := L) (hi := hi) (va := va) (kd := kd) (lo := lo) (sl := sl) hT (by omega) (hRL _) (fun tB1 tS1 fi1 hT1 => ?_)
  obtain ⟨a1, a2⟩ := zt_pS1 (t := 2 * JL) hpS0
  generalize zl_uL L (2 * JL) ((L (2 * JL)).filter (fun x => ip x == 0)) = L1 at *
  dsimp only
  rw [show (2 * xjl + 1) = nI (2 * JL + 1) by rw [hjl, zl_2m, nI_1]]
  refine zx_strip (ip := ip) (L := L1) (hi := hi) (va := va) (kd := kd) (lo := lo) (sl := sl) hT1 (by omega) (fun x hx => hRL _ x (zt_pSm a1 hx)) (fun tB2 tS2 fi2 hT2 => ?_)
  obtain ⟨b1, b2⟩ := zt_pS1 (t := 2 * JL + 1) a1
  have b3 := zt_pSk (t := 2 * JL + 1) a2
  generalize zl_uL L1 (2 * JL + 1) ((L1 (2 * JL + 1)).filter (fun x => ip x == 0)) = L2 at *
  dsimp only
  rw [hjt, hjl]
  refine pk_eq JT JL (fun e => ?_) (fun e => ?_)
  · subst e
    have := h55 L2 tB2 tS2 fi2 hT2 (hfin L2 b1 b3 b2 b3 b2)
    rw [hjt, hjl] at this
    exact this
  · rw [zl_2m]
    refine zx_strip (ip := ip) (L := L2) (hi := hi) (va := va) (kd := kd) (lo := lo) (sl := sl) hT2 (by omega) (fun x hx => hRL _ x (zt_pSm b1 hx)) (fun tB3 tS3 fi3 hT3 => ?_)
    obtain ⟨c1, c2⟩ := zt_pS1 (t := 2 * JT) b1
    have c3 := zt_pSk (t := 2 * JT) b2
    have c4 := zt_pSk (t := 2 * JT) b3
    generalize zl_uL L2 (2 * JT) ((L2 (2 * JT)).filter (fun x => ip x == 0)) = L3 at *
    dsimp only
    rw [zl_2m, nI_1]
    refine zx_strip (ip := ip) (L := L3) (hi := hi) (va := va) (kd := kd) (lo := lo) (sl := sl) hT3 (by omega) (fun x hx => hRL _ x (zt_pSm c1 hx)) (fun tB4 tS4 fi4 hT4 => ?_)
    obtain ⟨d1, d2⟩ := zt_pS1 (t := 2 * JT + 1) c1
    have d3 := zt_pSk (t := 2 * JT + 1) c2
    have d4 := zt_pSk (t := 2 * JT + 1) c3
    have d5 := zt_pSk (t := 2 * JT + 1) c4
    have := h55 _ tB4 tS4 fi4 hT4 (hfin _ d1 d5 d4 d3 d2)
    rw [hjt, hjl] at this
    exact this
end
end
section
def zf_in (lo hi : Nat → Nat) (a b : Nat) (x : Nat) : Bool := decide (a ≤ lo x) && decide (hi x ≤ b)
theorem zf_iff {lo hi : Nat → Nat} {a b x : Nat} : zf_in lo hi a b x = true ↔ a ≤ lo x ∧ hi x ≤ b := by
  unfold zf_in
  rw [Bool.and_eq_true, decide_eq_true_eq, decide_eq_true_eq]
def zj_ip (lo hi lv : Nat → Nat) (a b JL JT : Nat) : Nat → Nat := fun n => if zf_in lo hi a b n = true ∧ (lv n = JL ∨ lv n = JT) then 1 else 0
theorem zj_ip1 {lo hi lv : Nat → Nat} {a b JL JT n : Nat} : zj_ip lo hi lv a b JL JT n = 1 ↔ zf_in lo hi a b n = true ∧ (lv n = JL ∨ lv n = JT) := by
  unfold zj_ip
  by_cases c : zf_in lo hi a b n = true ∧ (lv n = JL ∨ lv n = JT)
  · rw [if_pos c]; exact ⟨fun _ => c, fun _ => rfl⟩
  · rw [if_neg c]; exact ⟨fun z => by omega, fun z => absurd z c⟩
theorem zj_ip01 {lo hi lv : Nat → Nat} {a b JL JT n : Nat} : zj_ip lo hi lv a b JL JT n = 0 ∨ zj_ip lo hi lv a b JL JT n = 1 := by
  unfold zj_ip
  by_cases c : zf_in lo hi a b n = true ∧ (lv n = JL ∨ lv n = JT)
  · rw [if_pos c]; exact Or.inr rfl
  · rw [if_neg c]; exact Or.inl rfl
/-- the frozen part of a level -/
def zj_F (lo hi : Nat → Nat) (L : Nat → List Nat) (a b v : Nat) : List Nat := (L (2 * v)).reverse.filter (zf_in lo hi a b) ++ (L (2 * v + 1)).reverse.filter (zf_in lo hi a b)
theorem zj_Fm {al : Nat → Bool} {kd lo hi lv : Nat → Nat} {L : Nat → List Nat} {a b v n : Nat} (hM : zt_Mem al kd lv L) : n ∈ zj_F lo hi L a b v ↔ al n = true ∧ lv n = v ∧ zf_in lo hi a b n = true := by
  unfold zj_F
  rw [List.mem_append, List.mem_filter, List.mem_filter, List.mem_reverse, List.mem_reverse, hM, hM]
  by_cases k : kd n = 3
  · rw [zt_tb3 k]
    constructor
    · rintro (⟨⟨z1, z2⟩, z3⟩ | ⟨⟨z1, z2⟩, z3⟩)
      · omega
      · exact ⟨z1, by omega, z3⟩
    · rintro ⟨z1, z2, z3⟩
      exact Or.inr ⟨⟨z1, by omega⟩, z3⟩
  · rw [zt_tbn k]
    constructor
    · rintro (⟨⟨z1, z2⟩, z3⟩ | ⟨⟨z1, z2⟩, z3⟩)
      · exact ⟨z1, by omega, z3⟩
      · omega
    · rintro ⟨z1, z2, z3⟩
      exact Or.inl ⟨⟨z1, by omega⟩, z3⟩
theorem zj_Fp {kd lo hi sl : Nat → Nat} {L : Nat → List Nat} {tB tS fi : Nat → Int32} {a b v : Nat} (hT : zt_Tab kd lo hi sl L tB tS fi) (hv : v < 5) : (zj_F lo hi L a b v).Pairwise (zd kd lo) := by
  have hone : ∀ t, t < 10 → ((L t).reverse.filter (zf_in lo hi a b)).Pairwise (zd kd lo) := fun t ht => by
    obtain ⟨q1, q2, q3, q4, q5, q6⟩ := hT t ht
    refine ((List.pairwise_reverse.mpr q4).filter _).imp_of_mem (fun {x y} hx hy z => Or.inr ⟨?_, z⟩)
    exact (q6 x (List.mem_reverse.mp (List.mem_filter.mp hx).1)).trans (q6 y (List.mem_reverse.mp (List.mem_filter.mp hy).1)).symm
  refine List.pairwise_append.mpr ⟨hone _ (by omega), hone _ (by omega), fun x hx y hy => Or.inl ⟨fun e => ?_, ?_⟩⟩
  · have := ((hT (2 * v) (by omega)).2.2.2.2.2 x (List.mem_reverse.mp (List.mem_filter.mp hx).1)).mp e
    omega
  · exact ((hT (2 * v + 1) (by omega)).2.2.2.2.2 y (List.mem_reverse.mp (List.mem_filter.mp hy).1)).mpr (by omega)
def zj_gs (LA : Nat) (sO sM iO iM : Nat → Int32) (x : Nat) : Prop := x = LA ∨ (∃ j, j < 3 ∧ ¬ sO j = 0 ∧ sM j = nI x ∧ x ≤ 600) ∨ (∃ j, j < 2 ∧ ¬ iO j = 0 ∧ iM j = nI x ∧ x ≤ 600)
section
variable {xkc xml xhl xnl xla xfl xfc xhe xbc xjr xjl xjt xjo xjh xjs xic xsa xse xta xoc xgc : Int32} {rS rK rL rH rV rE rI rP fS bS tB tS fi bA sO sM iO iM iL iH iP iK jI jO gu oP : Nat → Int32} {al : Nat → Bool} {kd lo hi lv ip : Nat → Nat} {va : Nat → Int32} {sl : Nat → Nat} {L : Nat → List Nat} {NL : Nat}
theorem zx_fz_l {post : SX → Prop} {t a b : Nat} (ht : t < 10) (ha : a < 100) (hb : b < 100) : ∀ (n : Nat) (L1 JI : List Nat) (rI rP jI : Nat → Int32), L1.length < n → JI.length + L1.length ≤ 64 → zl_At tB (64 * t) sl L1 → (∀ x, x ∈ L1 → zg_R kd lo hi va sl rS rK rL rH rV x) → zl_At jI 0 sl JI →
    (∀ jI' : Nat → Int32, zl_At jI' 0 sl (JI ++ L1.reverse.filter (zf_in lo hi a b)) → post (xkc, xml, xhl, xnl, xla, xfl, xfc, xhe, xbc, xjr, xjl, xjt, xjo, xjh, xjs, nI (JI ++ L1.reverse.filter (zf_in lo hi a b)).length, xsa, xse, xta, xoc, xgc, rS, rK, rL, rH, rV, rE, zl_set sl (L1.reverse.filter (zf_in lo hi a b)) 1 rI, zl_set sl (L1.reverse.filter (zf_in lo hi a b)) 0 rP, fS, bS, tB, tS, fi, bA, sO, sM, iO, iM, iL, iH, iP, iK, jI', jO, gu, oP)) →
    wX_freezeTable_16 post (nI a) (nI b) (nI (64 * t)) xkc xml xhl xnl xla xfl xfc xhe xbc xjr xjl xjt xjo xjh xjs xsa xse xta xoc xgc n (nI L1.length - 1) (nI JI.length) rS rK rL rH rV rE rI rP fS bS tB tS fi bA sO sM iO iM iL iH iP iK jI jO gu oP := by
  intro n
  induction n with
  | zero => intro L1 JI rI rP jI hn; omega
  | succ n ih =>
    intro L1 JI rI rP jI hn hl hA hR hJ h
    rw [wX_freezeTable_16]
    dsimp only
    rcases zl_snoc L1 with rfl | ⟨L', x, rfl⟩
    · have e : List.filter (zf_in lo hi a b) ([] : List Nat).reverse = [] := rfl
      rw [e, List.append_nil, zl_set_nil, zl_set_nil] at h
      exact br_t zl_neg (h jI hJ)
    · have eL : (L' ++ [x]).length = L'.length + 1 := by rw [List.length_append]; rfl
      have e4 : nI (L' ++ [x]).length - 1 = nI L'.length := by rw [List.length_append]; exact nI_pred _
      rw [eL] at hn hl
      have hr := hR x (List.mem_append.mpr (Or.inr List.mem_cons_self))
      have r1 := hr.1.1
      have r4 := hr.1.2.2.2.1
      have r5 := hr.1.2.2.2.2.1
      have r9 := hr.2.2.2.2.2.1
      have r10 := hr.2.2.2.2.2.2.1
      have hLx : tB (64 * t + L'.length) = nI (sl x) := zl_at_mid hA
      have erv : (L' ++ [x]).reverse = x :: L'.reverse := by rw [List.reverse_append]; rfl
      rw [erv] at h
      have hskip : ¬ zf_in lo hi a b x = true → wX_freezeTable_16 post (nI a) (nI b) (nI (64 * t)) xkc xml xhl xnl xla xfl xfc xhe xbc xjr xjl xjt xjo xjh xjs xsa xse xta xoc xgc n (nI L'.length - 1) (nI JI.length) rS rK rL rH rV rE rI rP fS bS tB tS fi bA sO sM iO iM iL iH iP iK jI jO gu oP := fun z => by
        rw [List.filter_cons_of_neg z] at h
        exact ih L' JI rI rP jI (by omega) (by omega) (zl_at_app.mp hA).1 (fun y hy => hR y (List.mem_append.mpr (Or.inl hy))) hJ h
      rw [e4]
      refine br_f (nI_pos (by omega)) ?_
      rw [nI_add (64 * t) L'.length, nI_clamp (by omega : 64 * t + L'.length < 2 ^ 31), hLx]
      refine ⟨vp_in_nI (by omega) (by omega), nm_e ?_⟩
      rw [nI_clamp (by omega : sl x < 2 ^ 31), r4, r5, nI_clamp (by omega : JI.length < 2 ^ 31), zl_nb0, zl_nb1]
      refine ⟨vp_in_nI r1 (by omega), pk_lt (lo x) a (fun z => nm_r (zl_sub1 _) (hskip (fun w => by have := (zf_iff.mp w).1; omega))) (fun z => ⟨vp_in_nI r1 (by omega), pk_lt b (hi x) (fun y => nm_r (zl_sub1 _) (hskip (fun w => by have := (zf_iff.mp w).2; omega))) (fun y => br_f (nI_ge (b := 64) (by omega) (by omega)) ⟨vp_in_nI r1 (by omega), nm_e ⟨vp_in_nI r1 (by omega), nm_e ⟨vp_in_nI (by omega) (by omega), nm_e (nm_r (nI_1 _) (nm_r (zl_sub1 _) ?_))⟩⟩⟩)⟩)⟩
      rw [List.filter_cons_of_pos (zf_iff.mpr ⟨z, y⟩)] at h
      have key := ih L' (JI ++ [x]) (upd rI (sl x) 1) (upd rP (sl x) 0) (upd jI JI.length (nI (sl x))) (by omega) (by rw [List.length_append, List.length_singleton]; omega) (zl_at_app.mp hA).1 (fun y hy => hR y (List.mem_append.mpr (Or.inl hy))) (by have := zl_at_snoc (x := x) (v := sl x) hJ rfl; rw [Nat.zero_add] at this; exact this) (fun jI' hj => by
        rw [List.append_assoc] at hj ⊢
        have := h jI' hj
        rw [zl_set_cons, zl_set_cons] at this
        exact this)
      rw [List.length_append, List.length_singleton] at key
      exact key
theorem zx_fz {post : SX → Prop} {t a b : Nat} {JI : List Nat} (ht : t < 10) (ha : a < 100) (hb : b < 100) (hT : zt_Tab kd lo hi sl L tB tS fi) (hR : ∀ x, x ∈ L t → zg_R kd lo hi va sl rS rK rL rH rV x) (hJ : zl_At jI 0 sl JI) (hic : xic = nI JI.length) (hn : JI.length + (L t).length ≤ 64)
    (h : ∀ jI' : Nat → Int32, zl_At jI' 0 sl (JI ++ (L t).reverse.filter (zf_in lo hi a b)) → post (xkc, xml, xhl, xnl, xla, xfl, xfc, xhe, xbc, xjr, xjl, xjt, xjo, xjh, xjs, nI (JI ++ (L t).reverse.filter (zf_in lo hi a b)).length, xsa, xse, xta, xoc, xgc, rS, rK, rL, rH, rV, rE, zl_set sl ((L t).reverse.filter (zf_in lo hi a b)) 1 rI, zl_set sl ((L t).reverse.filter (zf_in lo hi a b)) 0 rP, fS, bS, tB, tS, fi, bA, sO, sM, iO, iM, iL, iH, iP, iK, jI', jO, gu, oP)) : wpX_freezeTable post (xkc, xml, xhl, xnl, xla, xfl, xfc, xhe, xbc, xjr, xjl, xjt, xjo, xjh, xjs, xic, xsa, xse, xta, xoc, xgc, rS, rK, rL, rH, rV, rE, rI, rP, fS, bS, tB, tS, fi, bA, sO, sM, iO, iM, iL, iH, iP, iK, jI, jO, gu, oP) (nI t) (nI a) (nI b) := by
  obtain ⟨q1, q2, q3, q4, q5, q6⟩ := hT t ht
  unfold wpX_freezeTable
  dsimp only
  rw [nI_clamp (by omega : t < 2 ^ 31), q2]
  refine nm_r (zl_m64 t) ⟨vp_in_nI ht (by omega), nm_e ⟨(L t).length + 1, ?_⟩⟩
  have key : wX_freezeTable_16 post (nI a) (nI b) (nI (64 * t)) xkc xml xhl xnl xla xfl xfc xhe xbc xjr xjl xjt xjo xjh xjs xsa xse xta xoc xgc ((L t).length + 1) (nI (L t).length - 1) (nI JI.length) rS rK rL rH rV rE rI rP fS bS tB tS fi bA sO sM iO iM iL iH iP iK jI jO gu oP := zx_fz_l (post := post) (hi := hi) (va := va) (kd := kd) (lo := lo) ht ha hb ((L t).length + 1) (L t) JI rI rP jI (by omega) hn q1 hR hJ h
  rw [← hic] at key
  exact key
/-! X: guards -/
theorem zx_ag_l {post : SX → Prop} {m : Nat} (hm : m ≤ 600) : ∀ (l : List Nat) (i n : Nat), l.length < n → xgc = nI (i + l.length) → i + l.length < 6 → zl_At gu i id l → (∀ g, g ∈ l → g ≤ 600) → (m ∈ l → post (xkc, xml, xhl, xnl, xla, xfl, xfc, xhe, xbc, xjr, xjl, xjt, xjo, xjh, xjs, xic, xsa, xse, xta, xoc, xgc, rS, rK, rL, rH, rV, rE, rI, rP, fS, bS, tB, tS, fi, bA, sO, sM, iO, iM, iL, iH, iP, iK, jI, jO, gu, oP)) → (¬ m ∈ l → post (xkc, xml, xhl, xnl, xla, xfl, xfc, xhe, xbc, xjr, xjl, xjt, xjo, xjh, xjs, xic, xsa, xse, xta, xoc, nI (i + l.length + 1), rS, rK, rL, rH, rV, rE, rI, rP, fS, bS, tB, tS, fi, bA, sO, sM, iO, iM, iL, iH, iP, iK, jI, jO, upd gu (i + l.length) (nI m), oP)) → wX_addGuard_2 post (nI m) xkc xml xhl xnl xla xfl xfc xhe xbc xjr xjl xjt xjo xjh xjs xic xsa xse xta xoc xgc rS rK rL rH rV rE rI rP fS bS tB tS fi bA sO sM iO iM iL iH iP iK jI jO gu oP n (nI i) := by
  intro l
  induction l with
  | nil =>
    intro i n hn hg h6 hA hl h1 h0
    simp only [List.length_nil, Nat.add_zero] at hn hg h6 h0
    obtain ⟨n, rfl⟩ : ∃ q, n = q + 1 := ⟨n - 1, by omega⟩
    rw [wX_addGuard_2]
    dsimp only
    subst hg
    rw [nI_clamp (by omega : i < 2 ^ 31)]
    exact br_t (nI_le (Nat.le_refl i) (by omega)) (br_f (nI_ge (b := 6) h6 (by omega)) ⟨vp_in_nI h6 (by omega), nm_e (nm_r (nI_1 i) (h0 List.not_mem_nil))⟩)
  | cons g l ih =>
    intro i n hn hg h6 hA hl h1 h0
    simp only [List.length_cons] at hn hg h6
    obtain ⟨n, rfl⟩ : ∃ q, n = q + 1 := ⟨n - 1, by omega⟩
    have hgu : gu i = nI g := hA.1
    have hg6 := hl g List.mem_cons_self
    rw [wX_addGuard_2]
    dsimp only
    rw [nI_clamp (by omega : i < 2 ^ 31), hgu]
    refine br_f (by rw [hg]; exact nI_ge (by omega) (by omega)) ⟨vp_in_nI (by omega) (by omega), pk_eq g m (fun e => h1 (by rw [e]; exact List.mem_cons_self)) (fun e => nm_r (nI_1 i) ?_)⟩
    refine ih (i + 1) n (by omega) (hg.trans (congrArg nI (by omega))) (by omega) hA.2 (fun y hy => hl y (List.mem_cons_of_mem g hy)) (fun z => h1 (List.mem_cons_of_mem g z)) (fun z => ?_)
    have := h0 (fun w => (List.mem_cons.mp w).elim (fun y => e y.symm) z)
    rw [List.length_cons, show i + (l.length + 1) = i + 1 + l.length by omega] at this
    exact this
theorem zx_ag {post : SX → Prop} {m : Nat} {G : List Nat} (hm : m ≤ 600) (hA : zl_At gu 0 id G) (hg : xgc = nI G.length) (h6 : G.length < 6) (hl : ∀ g, g ∈ G → g ≤ 600)
    (h : ∀ (xgc' : Int32) (gu' : Nat → Int32) (G' : List Nat), zl_At gu' 0 id G' → xgc' = nI G'.length → G'.length ≤ G.length + 1 → (∀ x, x ∈ G' ↔ x ∈ G ∨ x = m) → post (xkc, xml, xhl, xnl, xla, xfl, xfc, xhe, xbc, xjr, xjl, xjt, xjo, xjh, xjs, xic, xsa, xse, xta, xoc, xgc', rS, rK, rL, rH, rV, rE, rI, rP, fS, bS, tB, tS, fi, bA, sO, sM, iO, iM, iL, iH, iP, iK, jI, jO, gu', oP)) : wpX_addGuard post (xkc, xml, xhl, xnl, xla, xfl, xfc, xhe, xbc, xjr, xjl, xjt, xjo, xjh, xjs, xic, xsa, xse, xta, xoc, xgc, rS, rK, rL, rH, rV, rE, rI, rP, fS, bS, tB, tS, fi, bA, sO, sM, iO, iM, iL, iH, iP, iK, jI, jO, gu, oP) (nI m) := by
  unfold wpX_addGuard
  dsimp only
  refine ⟨G.length + 1, zx_ag_l hm G 0 _ (by omega) (hg.trans (congrArg nI (by omega))) (by omega) hA hl (fun z => h _ _ G hA hg (by omega) (fun x => ⟨Or.inl, fun w => w.elim id (fun e => e ▸ z)⟩)) (fun z => ?_)⟩
  rw [Nat.zero_add]
  refine h _ _ (G ++ [m]) ?_ (by rw [List.length_append]; rfl) (by rw [List.length_append, List.length_singleton]; omega) (fun x => by rw [List.mem_append, List.mem_singleton])
  have := zl_at_snoc (f := id) (x := m) (v := m) hA rfl
  rw [Nat.zero_add] at this
  exact this
theorem zx_g47 {post : SX → Prop} (hi2 : ∀ j, j < 2 → ¬ iO j = 0 → ∃ m, m ≤ 600 ∧ iM j = nI m) : ∀ (d i : Nat) (G : List Nat) (xgc : Int32) (gu : Nat → Int32), i + d = 2 → zl_At gu 0 id G → xgc = nI G.length → G.length ≤ 4 + i → (∀ g, g ∈ G → g ≤ 600) →
    (∀ (xgc' : Int32) (gu' : Nat → Int32) (G' : List Nat), zl_At gu' 0 id G' → xgc' = nI G'.length → G'.length ≤ 6 → (∀ x, x ∈ G' ↔ x ∈ G ∨ ∃ j, i ≤ j ∧ j < 2 ∧ ¬ iO j = 0 ∧ iM j = nI x ∧ x ≤ 600) → post (xkc, xml, xhl, xnl, xla, xfl, xfc, xhe, xbc, xjr, xjl, xjt, xjo, xjh, xjs, xic, xsa, xse, xta, xoc, xgc', rS, rK, rL, rH, rV, rE, rI, rP, fS, bS, tB, tS, fi, bA, sO, sM, iO, iM, iL, iH, iP, iK, jI, jO, gu', oP)) → wX_collectGuards_47 post (d + 1) (nI i) xkc xml xhl xnl xla xfl xfc xhe xbc xjr xjl xjt xjo xjh xjs xic xsa xse xta xoc xgc rS rK rL rH rV rE rI rP fS bS tB tS fi bA sO sM iO iM iL iH iP iK jI jO gu oP := by
  intro d
  induction d with
  | zero =>
    intro i G xgc gu hd hA hg hl hG h
    rw [wX_collectGuards_47]
    dsimp only
    exact br_t (nI_le (a := 2) (by omega) (by omega)) (h xgc gu G hA hg (by omega) (fun x => ⟨Or.inl, fun z => z.elim id (fun ⟨j, j1, j2, _⟩ => by omega)⟩))
  | succ d ih =>
    intro i G xgc gu hd hA hg hl hG h
    rw [wX_collectGuards_47]
    dsimp only
    rw [nI_clamp (by omega : i < 2 ^ 31)]
    refine br_f (nI_ge (b := 2) (by omega) (by omega)) ⟨vp_in_nI (by omega) (by omega), br_c (fun e => nm_r (nI_1 i) ?_) (fun e => ⟨vp_in_nI (by omega) (by omega), ?_⟩)⟩
    · refine ih (i + 1) G xgc gu (by omega) hA hg (by omega) hG (fun xgc' gu' G' m1 m2 m3 m4 => h xgc' gu' G' m1 m2 m3 (fun x => (m4 x).trans ⟨fun z => z.imp id (fun ⟨j, j1, j2⟩ => ⟨j, by omega, j2⟩), fun z => z.imp id (fun ⟨j, j1, j2⟩ => ⟨j, ?_, j2⟩)⟩))
      by_cases c : j = i
      · subst c; exact absurd e j2.2.1
      · omega
    · obtain ⟨m, m1, m2⟩ := hi2 i (by omega) e
      rw [m2]
      refine zx_ag m1 hA hg (by omega) hG (fun xgc1 gu1 G1 n1 n2 n3 n4 => nm_r (nI_1 i) ?_)
      refine ih (i + 1) G1 xgc1 gu1 (by omega) n1 n2 (by omega) (fun g hg' => ((n4 g).mp hg').elim (hG g) (fun z => by omega)) (fun xgc' gu' G' k1 k2 k3 k4 => h xgc' gu' G' k1 k2 k3 (fun x => (k4 x).trans ⟨fun z => ?_, fun z => ?_⟩))
      · rcases z with z | ⟨j, j1, j2⟩
        · rcases (n4 x).mp z with w | w
          · exact Or.inl w
          · subst w; exact Or.inr ⟨i, Nat.le_refl i, by omega, e, m2, m1⟩
        · exact Or.inr ⟨j, by omega, j2⟩
      · rcases z with z | ⟨j, j1, j2, j3, j4, j5⟩
        · exact Or.inl ((n4 x).mpr (Or.inl z))
        · by_cases c : j = i
          · subst c
            refine Or.inl ((n4 x).mpr (Or.inr ?_))
            exact (nI_eq (by omega) (by omega)).mp (j4.symm.trans m2)
          · exact Or.inr ⟨j, by omega, j2, j3, j4, j5⟩
theorem zx_g15 {post : SX → Prop} (hi2 : ∀ j, j < 2 → ¬ iO j = 0 → ∃ m, m ≤ 600 ∧ iM j = nI m) (hs3 : ∀ j, j < 3 → ¬ sO j = 0 → ∃ m, m ≤ 600 ∧ sM j = nI m) : ∀ (d i : Nat) (G : List Nat) (xgc : Int32) (gu : Nat → Int32), i + d = 3 → zl_At gu 0 id G → xgc = nI G.length → G.length ≤ 1 + i → (∀ g, g ∈ G → g ≤ 600) →
    (∀ (xgc' : Int32) (gu' : Nat → Int32) (G' : List Nat), zl_At gu' 0 id G' → xgc' = nI G'.length → G'.length ≤ 6 → (∀ x, x ∈ G' ↔ x ∈ G ∨ (∃ j, i ≤ j ∧ j < 3 ∧ ¬ sO j = 0 ∧ sM j = nI x ∧ x ≤ 600) ∨ (∃ j, 0 ≤ j ∧ j < 2 ∧ ¬ iO j = 0 ∧ iM j = nI x ∧ x ≤ 600)) → post (xkc, xml, xhl, xnl, xla, xfl, xfc, xhe, xbc, xjr, xjl, xjt, xjo, xjh, xjs, xic, xsa, xse, xta, xoc, xgc', rS, rK, rL, rH, rV, rE, rI, rP, fS, bS, tB, tS, fi, bA, sO, sM, iO, iM, iL, iH, iP, iK, jI, jO, gu', oP)) → wX_collectGuards_15 post (d + 1) (nI i) xkc xml xhl xnl xla xfl xfc xhe xbc xjr xjl xjt xjo xjh xjs xic xsa xse xta xoc xgc rS rK rL rH rV rE rI rP fS bS tB tS fi bA sO sM iO iM iL iH iP iK jI jO gu oP := by
  intro d
  induction d with
  | zero =>
    intro i G xgc gu hd hA hg hl hG h
    rw [wX_collectGuards_15]
    dsimp only
    exact br_t (nI_le (a := 3) (by omega) (by omega)) ⟨3, zx_g47 hi2 2 0 G xgc gu (by omega) hA hg (by omega) hG (fun xgc' gu' G' k1 k2 k3 k4 => h xgc' gu' G' k1 k2 k3 (fun x => (k4 x).trans ⟨fun z => z.imp id Or.inr, fun z => z.imp id (fun w => w.elim (fun ⟨j, j1, j2, _⟩ => by omega) id)⟩))⟩
  | succ d ih =>
    intro i G xgc gu hd hA hg hl hG h
    rw [wX_collectGuards_15]
    dsimp only
    rw [nI_clamp (by omega : i < 2 ^ 31)]
    refine br_f (nI_ge (b := 3) (by omega) (by omega)) ⟨vp_in_nI (by omega) (by omega), br_c (fun e => nm_r (nI_1 i) ?_) (fun e => ⟨vp_in_nI (by omega) (by omega), ?_⟩)⟩
    · refine ih (i + 1) G xgc gu (by omega) hA hg (by omega) hG (fun xgc' gu' G' m1 m2 m3 m4 => h xgc' gu' G' m1 m2 m3 (fun x => (m4 x).trans ⟨fun z => z.imp id (fun w => w.imp (fun ⟨j, j1, j2⟩ => ⟨j, by omega, j2⟩) id), fun z => z.imp id (fun w => w.imp (fun ⟨j, j1, j2⟩ => ⟨j, ?_, j2⟩) id)⟩))
      by_cases c : j = i
      · subst c; exact absurd e j2.2.1
      · omega
    · obtain ⟨m, m1, m2⟩ := hs3 i (by omega) e
      rw [m2]
      refine zx_ag m1 hA hg (by omega) hG (fun xgc1 gu1 G1 n1 n2 n3 n4 => nm_r (nI_1 i) ?_)
      refine ih (i + 1) G1 xgc1 gu1 (by omega) n1 n2 (by omega) (fun g hg' => ((n4 g).mp hg').elim (hG g) (fun z => by omega)) (fun xgc' gu' G' k1 k2 k3 k4 => h xgc' gu' G' k1 k2 k3 (fun x => (k4 x).trans ⟨fun z => ?_, fun z => ?_⟩))
      · rcases z with z | ⟨j, j1, j2⟩ | z
        · rcases (n4 x).mp z with w | w
          · exact Or.inl w
          · subst w; exact Or.inr (Or.inl ⟨i, Nat.le_refl i, by omega, e, m2, m1⟩)
        · exact Or.inr (Or.inl ⟨j, by omega, j2⟩)
        · exact Or.inr (Or.inr z)
      · rcases z with z | ⟨j, j1, j2, j3, j4, j5⟩ | z
        · exact Or.inl ((n4 x).mpr (Or.inl z))
        · by_cases c : j = i
          · subst c
            refine Or.inl ((n4 x).mpr (Or.inr ?_))
            exact (nI_eq (by omega) (by omega)).mp (j4.symm.trans m2)
          · exact Or.inr (Or.inl ⟨j, by omega, j2, j3, j4, j5⟩)
        · exact Or.inr (Or.inr z)
theorem zx_cg {post : SX → Prop} {LA : Nat} (hla : xla = nI LA) (hLA : LA ≤ 600) (hi2 : ∀ j, j < 2 → ¬ iO j = 0 → ∃ m, m ≤ 600 ∧ iM j = nI m) (hs3 : ∀ j, j < 3 → ¬ sO j = 0 → ∃ m, m ≤ 600 ∧ sM j = nI m)
    (h : ∀ (xgc' : Int32) (gu' : Nat → Int32) (G' : List Nat), zl_At gu' 0 id G' → xgc' = nI G'.length → G'.length ≤ 6 → (∀ x, x ∈ G' ↔ zj_gs LA sO sM iO iM x) → post (xkc, xml, xhl, xnl, xla, xfl, xfc, xhe, xbc, xjr, xjl, xjt, xjo, xjh, xjs, xic, xsa, xse, xta, xoc, xgc', rS, rK, rL, rH, rV, rE, rI, rP, fS, bS, tB, tS, fi, bA, sO, sM, iO, iM, iL, iH, iP, iK, jI, jO, gu', oP)) : wpX_collectGuards post (xkc, xml, xhl, xnl, xla, xfl, xfc, xhe, xbc, xjr, xjl, xjt, xjo, xjh, xjs, xic, xsa, xse, xta, xoc, xgc, rS, rK, rL, rH, rV, rE, rI, rP, fS, bS, tB, tS, fi, bA, sO, sM, iO, iM, iL, iH, iP, iK, jI, jO, gu, oP) := by
  unfold wpX_collectGuards
  dsimp only
  rw [hla]
  refine zx_ag (G := []) hLA trivial rfl (by rw [List.length_nil]; omega) (fun g hg => absurd hg List.not_mem_nil) (fun xgc1 gu1 G1 n1 n2 n3 n4 => ?_)
  refine ⟨4, ?_⟩
  rw [List.length_nil] at n3
  refine zx_g15 hi2 hs3 3 0 G1 xgc1 gu1 (by omega) n1 n2 (by omega) (fun g hg => ((n4 g).mp hg).elim (fun z => absurd z List.not_mem_nil) (fun z => by omega)) (fun xgc' gu' G' k1 k2 k3 k4 => ?_)
  have key := h xgc' gu' G' k1 k2 k3 (fun x => (k4 x).trans ?_)
  · rw [hla] at key
    exact key
  · unfold zj_gs
    rw [n4 x]
    simp only [List.not_mem_nil, false_or, Nat.zero_le, true_and]
/-! X: the oldest puts -/
theorem zx_o25 {post : SX → Prop} {FL : Nat} : ∀ (l : List Nat) (i n : Nat) (oP : Nat → Int32) (N : Nat → Prop), l.length < n → xhe = nI (i + l.length) → i + l.length ≤ 64 → zl_At bS i sl l → (∀ x, x ∈ l → zg_R kd lo hi va sl rS rK rL rH rV x ∧ rI (sl x) = nI (ip x) ∧ ip x ≤ 1) → zj_O lo N FL oP → (∀ oP' : Nat → Int32, zj_O lo (fun p => N p ∨ (p ∈ l ∧ kd p = 1 ∧ ip p = 0)) FL oP' → post (xkc, xml, xhl, xnl, xla, xfl, xfc, xhe, xbc, xjr, xjl, xjt, xjo, xjh, xjs, xic, xsa, xse, xta, xoc, xgc, rS, rK, rL, rH, rV, rE, rI, rP, fS, bS, tB, tS, fi, bA, sO, sM, iO, iM, iL, iH, iP, iK, jI, jO, gu, oP')) → wX_collectOldestPuts_25 post n (nI i) xkc xml xhl xnl xla xfl xfc xhe xbc xjr xjl xjt xjo xjh xjs xic xsa xse xta xoc xgc rS rK rL rH rV rE rI rP fS bS tB tS fi bA sO sM iO iM iL iH iP iK jI jO gu oP := by
  intro l
  induction l with
  | nil =>
    intro i n oP N hn hh hl hA hR hO h
    simp only [List.length_nil] at hn hh hl
    obtain ⟨n, rfl⟩ : ∃ q, n = q + 1 := ⟨n - 1, by omega⟩
    rw [wX_collectOldestPuts_25]
    dsimp only
    exact br_t (by rw [hh]; exact nI_le (by omega) (by omega)) (h oP (zj_Oc hO (fun p _ => ⟨Or.inl, fun z => z.elim id (fun w => absurd w.1 List.not_mem_nil)⟩)))
  | cons x l ih =>
    intro i n oP N hn hh hl hA hR hO h
    simp only [List.length_cons] at hn hh hl
    obtain ⟨n, rfl⟩ : ∃ q, n = q + 1 := ⟨n - 1, by omega⟩
    obtain ⟨hr, hix, hx1⟩ := hR x List.mem_cons_self
    have r1 := hr.1.1
    have r3 := hr.1.2.2.1
    have r8 := hr.2.2.2.2.1
    have hbx : bS i = nI (sl x) := hA.1
    have hskip : ¬ (kd x = 1 ∧ ip x = 0) → wX_collectOldestPuts_25 post n (nI (i + 1)) xkc xml xhl xnl xla xfl xfc xhe xbc xjr xjl xjt xjo xjh xjs xic xsa xse xta xoc xgc rS rK rL rH rV rE rI rP fS bS tB tS fi bA sO sM iO iM iL iH iP iK jI jO gu oP := fun hno =>
      ih (i + 1) n oP N (by omega) (hh.trans (congrArg nI (by omega))) (by omega) hA.2 (fun y hy => hR y (List.mem_cons_of_mem x hy)) hO (fun oP' hO' => h oP' (zj_Oc hO' (fun p _ => ⟨fun z => z.imp id (fun w => ⟨List.mem_cons_of_mem x w.1, w.2⟩), fun z => z.imp id (fun w => ⟨(List.mem_cons.mp w.1).elim (fun e => absurd (e ▸ w.2) hno) id, w.2⟩)⟩)))
    rw [wX_collectOldestPuts_25]
    dsimp only
    rw [nI_clamp (by omega : i < 2 ^ 31), hbx]
    refine br_f (by rw [hh]; exact nI_ge (by omega) (by omega)) ⟨vp_in_nI (by omega) (by omega), nm_e ?_⟩
    rw [nI_clamp (by omega : sl x < 2 ^ 31), r3, hix]
    refine ⟨vp_in_nI r1 (by omega), pk_eq (kd x) 1 (fun e => ⟨vp_in_nI r1 (by omega), pk_eq (ip x) 0 (fun e0 => zx_ns hr hO (fun oP1 hO1 => nm_r (nI_1 i) ?_)) (fun e0 => nm_r (nI_1 i) (hskip (fun w => e0 w.2)))⟩) (fun e => nm_r (nI_1 i) (hskip (fun w => e w.1)))⟩
    refine ih (i + 1) n oP1 (fun p => N p ∨ p = x) (by omega) (hh.trans (congrArg nI (by omega))) (by omega) hA.2 (fun y hy => hR y (List.mem_cons_of_mem x hy)) hO1 (fun oP' hO' => h oP' (zj_Oc hO' (fun p _ => ⟨fun z => ?_, fun z => ?_⟩)))
    · rcases z with (z | z) | z
      · exact Or.inl z
      · subst z; exact Or.inr ⟨List.mem_cons_self, e, e0⟩
      · exact Or.inr ⟨List.mem_cons_of_mem x z.1, z.2⟩
    · rcases z with z | z
      · exact Or.inl (Or.inl z)
      · rcases List.mem_cons.mp z.1 with w | w
        · exact Or.inl (Or.inr w)
        · exact Or.inr ⟨w, z.2⟩
theorem zx_o2 {post : SX → Prop} : ∀ (d k : Nat) (oP : Nat → Int32), k + d = 24 → (∀ j, j < k → oP j = 1000001) → (∀ oP' : Nat → Int32, (∀ j, j < 24 → oP' j = 1000001) → ∃ n25 : Nat, wX_collectOldestPuts_25 post n25 0 xkc xml xhl xnl xla xfl xfc xhe xbc xjr xjl xjt xjo xjh xjs xic xsa xse xta xoc xgc rS rK rL rH rV rE rI rP fS bS tB tS fi bA sO sM iO iM iL iH iP iK jI jO gu oP') → wX_collectOldestPuts_2 post xkc xml xhl xnl xla xfl xfc xhe xbc xjr xjl xjt xjo xjh xjs xic xsa xse xta xoc xgc (d + 1) (nI k) rS rK rL rH rV rE rI rP fS bS tB tS fi bA sO sM iO iM iL iH iP iK jI jO gu oP := by
  intro d
  induction d with
  | zero =>
    intro k oP hd ho h
    rw [wX_collectOldestPuts_2]
    dsimp only
    exact br_t (nI_le (a := 24) (by omega) (by omega)) (h oP (fun j hj => ho j (by omega)))
  | succ d ih =>
    intro k oP hd ho h
    rw [wX_collectOldestPuts_2]
    dsimp only
    rw [nI_clamp (by omega : k < 2 ^ 31)]
    refine br_f (nI_ge (b := 24) (by omega) (by omega)) ⟨vp_in_nI (by omega) (by omega), nm_e (nm_r (nI_1 k) (ih (k + 1) _ (by omega) (fun j hj => ?_) h))⟩
    by_cases c : j = k
    · subst c; exact pk_us
    · rw [pk_un c]; exact ho j (by omega)
theorem zx_co {post : SX → Prop} {FL : Nat} {BS FS : List Nat} (hF : FL ≤ 600) (hp : zp_P al sl BS FS xhe xfc bS fS) (hR : ∀ x, al x = true → zg_R kd lo hi va sl rS rK rL rH rV x ∧ rI (sl x) = nI (ip x) ∧ ip x ≤ 1) (h : ∀ oP' : Nat → Int32, zj_O lo (fun p => al p = true ∧ kd p = 1 ∧ ip p = 0) FL oP' → post (xkc, xml, xhl, xnl, xla, xfl, xfc, xhe, xbc, xjr, xjl, xjt, xjo, xjh, xjs, xic, xsa, xse, xta, xoc, xgc, rS, rK, rL, rH, rV, rE, rI, rP, fS, bS, tB, tS, fi, bA, sO, sM, iO, iM, iL, iH, iP, iK, jI, jO, gu, oP')) : wpX_collectOldestPuts post (xkc, xml, xhl, xnl, xla, xfl, xfc, xhe, xbc, xjr, xjl, xjt, xjo, xjh, xjs, xic, xsa, xse, xta, xoc, xgc, rS, rK, rL, rH, rV, rE, rI, rP, fS, bS, tB, tS, fi, bA, sO, sM, iO, iM, iL, iH, iP, iK, jI, jO, gu, oP) := by
  obtain ⟨⟨q1, q2, q3, q4⟩, ⟨q5, q6, q7, q8, q9⟩, q10⟩ := hp
  unfold wpX_collectOldestPuts
  dsimp only
  refine ⟨25, zx_o2 24 0 oP (by omega) (fun j hj => by omega) (fun oP' ho => ⟨BS.length + 1, ?_⟩)⟩
  refine zx_o25 (FL := FL) (kd := kd) (lo := lo) (hi := hi) (va := va) (ip := ip) (sl := sl) BS 0 _ oP' (fun _ => False) (by omega) (q2.trans (congrArg nI (by omega))) (by omega) q1 (fun x hx => hR x ((q4 x).mp hx)) (fun k hk => ⟨1000001, ho k hk, by omega, fun n hn => ⟨fun z => by omega, fun ⟨p, hp, _⟩ => hp.elim⟩⟩) (fun oP2 hO => h oP2 (zj_Oc hO (fun p _ => ⟨fun z => z.elim False.elim (fun w => ⟨(q4 p).mp w.1, w.2⟩), fun z => Or.inr ⟨(q4 p).mpr z.1, z.2⟩⟩)))
end
end
section
theorem zl_set_app {f : Nat → Nat} {l1 l2 : List Nat} {v : Int32} {a : Nat → Int32} : zl_set f l2 v (zl_set f l1 v a) = zl_set f (l1 ++ l2) v a := by
  funext s
  unfold zl_set
  by_cases c : s ∈ l2.map f
  · rw [if_pos c, if_pos (by rw [List.map_append]; exact List.mem_append.mpr (Or.inr c))]
  · rw [if_neg c]
    by_cases d : s ∈ l1.map f
    · rw [if_pos d, if_pos (by rw [List.map_append]; exact List.mem_append.mpr (Or.inl d))]
    · rw [if_neg d, if_neg (by rw [List.map_append]; exact fun z => (List.mem_append.mp z).elim d c)]
theorem zj_len {al : Nat → Bool} {kd lo hi lv sl : Nat → Nat} {L : Nat → List Nat} {tB tS fi : Nat → Int32} {JI : List Nat} {t : Nat} (hC : ∀ l : List Nat, l.Nodup → (∀ x, x ∈ l → al x = true) → l.length ≤ 64) (hT : zt_Tab kd lo hi sl L tB tS fi) (hM : zt_Mem al kd lv L) (ht : t < 10) (hn : JI.Nodup) (hm : ∀ x, x ∈ JI → al x = true ∧ ¬ zt_tb kd lv x = t) : JI.length + (L t).length ≤ 64 := by
  have := hC (JI ++ L t) (List.nodup_append.mpr ⟨hn, zo_nodup (hT t ht).2.2.2.1, fun a ha b hb e => (hm a ha).2 (by rw [e]; exact ((hM t b).mp hb).2)⟩) (fun x hx => (List.mem_append.mp hx).elim (fun z => (hm x z).1) (fun z => ((hM t x).mp z).1))
  rw [List.length_append] at this
  exact this
section
variable {xkc xml xhl xnl xla xfl xfc xhe xbc xjr xjl xjt xjo xjh xjs xic xsa xse xta xoc xgc : Int32} {rS rK rL rH rV rE rI rP fS bS tB tS fi bA sO sM iO iM iL iH iP iK jI jO gu oP : Nat → Int32} {al : Nat → Bool} {kd lo hi lv ip : Nat → Nat} {va : Nat → Int32} {sl : Nat → Nat} {L : Nat → List Nat} {NL : Nat}
theorem zx_115 {post : Int32 → SX → Prop} {LA : Nat} {BS FS JI : List Nat} {x1 x2 x3 x4 : Int32} (hla : xla = nI LA) (hLA : LA ≤ 600) (hi2 : ∀ j, j < 2 → ¬ iO j = 0 → ∃ m, m ≤ 600 ∧ iM j = nI m) (hs3 : ∀ j, j < 3 → ¬ sO j = 0 → ∃ m, m ≤ 600 ∧ sM j = nI m) (hp : zp_P al sl BS FS xhe xfc bS fS) (hR : ∀ x, al x = true → zg_R kd lo hi va sl rS rK rL rH rV x ∧ rI (sl x) = nI (ip x) ∧ ip x ≤ 1) (hic : xic = nI JI.length) (hl : JI.length ≤ 64)
    (h0 : JI.length = 0 → post 0 (xkc, xml, xhl, xnl, xla, xfl, xfc, xhe, xbc, xjr, xjl, xjt, xjo, xjh, xjs, xic, xsa, xse, xta, xoc, xgc, rS, rK, rL, rH, rV, rE, rI, rP, fS, bS, tB, tS, fi, bA, sO, sM, iO, iM, iL, iH, iP, iK, jI, jO, gu, oP)) (h1 : ¬ JI.length = 0 → ∀ (xgc' : Int32) (gu' oP' : Nat → Int32) (G' : List Nat), zl_At gu' 0 id G' → xgc' = nI G'.length → G'.length ≤ 6 → (∀ x, x ∈ G' ↔ zj_gs LA sO sM iO iM x) → zj_O lo (fun p => al p = true ∧ kd p = 1 ∧ ip p = 0) LA oP' → post (nI JI.length) (xkc, xml, xhl, xnl, xla, xla, xfc, xhe, xbc, 1, x1, x4, x2, x3, nI JI.length, xic, 0, xse, xse, 0, xgc', rS, rK, rL, rH, rV, rE, rI, rP, fS, bS, tB, tS, fi, bA, sO, sM, iO, iM, iL, iH, iP, iK, jI, jO, gu', oP')) : wX_startCompaction_115 post x1 x2 x3 x4 xkc xml xhl xnl xla xfl xfc xhe xbc xjr xjl xjt xjo xjh xjs xic xsa xse xta xoc xgc rS rK rL rH rV rE rI rP fS bS tB tS fi bA sO sM iO iM iL iH iP iK jI jO gu oP := by
  unfold wX_startCompaction_115
  refine br_c (fun z => h0 ?_) (fun z => ?_)
  · rw [hic] at z
    exact (nI_eq (b := 0) (by omega) (by omega)).mp z
  · have hne : ¬ JI.length = 0 := fun e => z (by rw [hic, e]; rfl)
    refine zx_cg hla hLA hi2 hs3 (fun xgc' gu' G' k1 k2 k3 k4 => ?_)
    refine zx_co (FL := LA) (al := al) (kd := kd) (lo := lo) (hi := hi) (va := va) (ip := ip) (sl := sl) hLA hp hR (fun oP' hO => ?_)
    have key := h1 hne xgc' gu' oP' G' k1 k2 k3 k4 hO
    rw [← hic] at key
    exact key
theorem zx_54 {post : Int32 → SX → Prop} {JL JT a b : Nat} (hJL : JL ≤ 4) (hJT : JT ≤ 4) (ha : a < 100) (hb : b < 100) (hT : zt_Tab kd lo hi sl L tB tS fi) (hM : zt_Mem al kd lv L) (hS : ∀ n, al n = true → zg_R kd lo hi va sl rS rK rL rH rV n) (hC : ∀ l : List Nat, l.Nodup → (∀ x, x ∈ l → al x = true) → l.length ≤ 64)
    (h : ∀ (jI' : Nat → Int32) (RT : List Nat), RT = (if JT = JL then [] else zj_F lo hi L a b JT) → zl_At jI' 0 sl (zj_F lo hi L a b JL ++ RT) → wX_startCompaction_115 post (nI JL) (nI a) (nI b) (nI JT) xkc xml xhl xnl xla xfl xfc xhe xbc xjr xjl xjt xjo xjh xjs (nI (zj_F lo hi L a b JL ++ RT).length) xsa (nI (zj_F lo hi L a b JL).length) xta xoc xgc rS rK rL rH rV rE (zl_set sl (zj_F lo hi L a b JL ++ RT) 1 rI) (zl_set sl (zj_F lo hi L a b JL ++ RT) 0 rP) fS bS tB tS fi bA sO sM iO iM iL iH iP iK jI' jO gu oP) : wX_startCompaction_54 post (nI JL) (nI a) (nI b) (nI JT) xkc xml xhl xnl xla xfl xfc xhe xbc xjr xjl xjt xjo xjh xjs xic xsa xse xta xoc xgc rS rK rL rH rV rE rI rP fS bS tB tS fi bA sO sM iO iM iL iH iP iK jI jO gu oP := by
  have hRL : ∀ t x, x ∈ L t → zg_R kd lo hi va sl rS rK rL rH rV x := fun t x hx => hS x ((hM t x).mp hx).1
  have hFt : ∀ t x, x ∈ (L t).reverse.filter (zf_in lo hi a b) → al x = true ∧ zt_tb kd lv x = t := fun t x hx => (hM t x).mp (List.mem_reverse.mp (List.mem_filter.mp hx).1)
  have hFn : ∀ t, t < 10 → ((L t).reverse.filter (zf_in lo hi a b)).Nodup := fun t ht => (List.pairwise_reverse.mpr ((zo_nodup (hT t ht).2.2.2.1).imp (fun z e => z e.symm))).filter _
  have hFl : zj_F lo hi L a b JL = (L (2 * JL)).reverse.filter (zf_in lo hi a b) ++ (L (2 * JL + 1)).reverse.filter (zf_in lo hi a b) := rfl
  unfold wX_startCompaction_54
  rw [zl_2m, nI_1, zl_2m, nI_1]
  refine zx_fz (JI := []) (L := L) (hi := hi) (va := va) (kd := kd) (lo := lo) (by omega) ha hb hT (hRL _) trivial rfl (by rw [List.length_nil]; have := (hT (2 * JL) (by omega)).2.2.1; omega) (fun jI1 hj1 => ?_)
  rw [List.nil_append] at hj1 ⊢
  refine zx_fz (JI := (L (2 * JL)).reverse.filter (zf_in lo hi a b)) (L := L) (hi := hi) (va := va) (kd := kd) (lo := lo) (by omega) ha hb hT (hRL _) hj1 rfl (zj_len hC hT hM (by omega) (hFn _ (by omega)) (fun x hx => ⟨(hFt _ x hx).1, by have := (hFt _ x hx).2; omega⟩)) (fun jI2 hj2 => ?_)
  rw [zl_set_app, zl_set_app, ← hFl] at *
  have hn12 : (zj_F lo hi L a b JL).Nodup := zd_nodup (zj_Fp hT (by omega))
  have hm12 : ∀ x, x ∈ zj_F lo hi L a b JL → al x = true ∧ lv x = JL := fun x hx => ⟨((zj_Fm hM).mp hx).1, ((zj_Fm hM).mp hx).2.1⟩
  dsimp only
  refine pk_eq JT JL (fun e => ?_) (fun e => ?_)
  · have key := h jI2 [] (by rw [if_pos e]) (by rw [List.append_nil]; exact hj2)
    rw [List.append_nil] at key
    exact key
  · have htb : ∀ x, x ∈ zj_F lo hi L a b JL → zt_tb kd lv x = 2 * JL ∨ zt_tb kd lv x = 2 * JL + 1 := fun x hx => by
      have := (hm12 x hx).2
      by_cases k3 : kd x = 3
      · rw [zt_tb3 k3]; omega
      · rw [zt_tbn k3]; omega
    refine zx_fz (JI := zj_F lo hi L a b JL) (L := L) (hi := hi) (va := va) (kd := kd) (lo := lo) (by omega) ha hb hT (hRL _) hj2 rfl (zj_len hC hT hM (by omega) hn12 (fun x hx => ⟨(hm12 x hx).1, by have := htb x hx; omega⟩)) (fun jI3 hj3 => ?_)
    refine zx_fz (JI := zj_F lo hi L a b JL ++ (L (2 * JT)).reverse.filter (zf_in lo hi a b)) (L := L) (hi := hi) (va := va) (kd := kd) (lo := lo) (by omega) ha hb hT (hRL _) hj3 rfl (zj_len hC hT hM (by omega) (List.nodup_append.mpr ⟨hn12, hFn _ (by omega), fun x hx y hy e2 => by
      have h1 := htb x hx
      have h2 := (hFt _ y hy).2
      rw [e2] at h1
      omega⟩) (fun x hx => (List.mem_append.mp hx).elim (fun z => ⟨(hm12 x z).1, by have := htb x z; omega⟩) (fun z => ⟨(hFt _ x z).1, by have := (hFt _ x z).2; omega⟩))) (fun jI4 hj4 => ?_)
    have key := h jI4 (zj_F lo hi L a b JT) (by rw [if_neg e]) (by rw [List.append_assoc] at hj4; exact hj4)
    rw [zl_set_app, zl_set_app, zl_set_app, zl_set_app, List.append_assoc]
    exact key
theorem zx_go {post : Int32 → SX → Prop} {JL JT a b LA : Nat} {BS FS : List Nat} (hJL : JL ≤ 4) (hJT : JT ≤ 4) (ha : a < 100) (hb : b < 100) (hla : xla = nI LA) (hLA : LA ≤ 600) (hal : ∀ n, al n = true → n ≤ LA) (hi2 : ∀ j, j < 2 → ¬ iO j = 0 → ∃ m, m ≤ LA ∧ iM j = nI m) (hs3 : ∀ j, j < 3 → ¬ sO j = 0 → ∃ m, m ≤ LA ∧ sM j = nI m) (hp : zp_P al sl BS FS xhe xfc bS fS) (hT : zt_Tab kd lo hi sl L tB tS fi) (hM : zt_Mem al kd lv L) (hS : ∀ n, al n = true → zg_R kd lo hi va sl rS rK rL rH rV n) (hI : ∀ n, al n = true → rI (sl n) = 0)
    (h0 : (∀ n, al n = true → zj_ip lo hi lv a b JL JT n = 0) → ∀ (jI' : Nat → Int32), post 0 (xkc, xml, xhl, xnl, xla, xfl, xfc, xhe, xbc, xjr, xjl, xjt, xjo, xjh, xjs, 0, xsa, 0, xta, xoc, xgc, rS, rK, rL, rH, rV, rE, rI, rP, fS, bS, tB, tS, fi, bA, sO, sM, iO, iM, iL, iH, iP, iK, jI', jO, gu, oP))
    (h1 : ∀ (JI RS RT GX : List Nat) (xgc' : Int32) (rI' rP' jI' gu' oP' : Nat → Int32), ¬ JI.length = 0 → JI.length ≤ 64 → JI.Nodup → JI.length = RS.length + RT.length → zj_P al kd lo hi (zj_ip lo hi lv a b JL JT) LA GX JI RS RT [] → zj_J al kd lo (zj_ip lo hi lv a b JL JT) sl LA GX JI RS RT [] 0 RS.length (nI JI.length) 0 (nI RS.length) (nI RS.length) 0 xgc' rP' jI' jO gu' oP' → (∀ n, al n = true → rI' (sl n) = nI (zj_ip lo hi lv a b JL JT n)) → (∀ x, x ∈ GX ↔ zj_gs LA sO sM iO iM x) →
      post (nI JI.length) (xkc, xml, xhl, xnl, xla, nI LA, xfc, xhe, xbc, 1, nI JL, nI JT, nI a, nI b, nI JI.length, nI JI.length, 0, nI RS.length, nI RS.length, 0, xgc', rS, rK, rL, rH, rV, rE, rI', rP', fS, bS, tB, tS, fi, bA, sO, sM, iO, iM, iL, iH, iP, iK, jI', jO, gu', oP')) : wX_startCompaction_54 post (nI JL) (nI a) (nI b) (nI JT) xkc xml xhl xnl xla xfl xfc xhe xbc xjr xjl xjt xjo xjh xjs xic xsa xse xta xoc xgc rS rK rL rH rV rE rI rP fS bS tB tS fi bA sO sM iO iM iL iH iP iK jI jO gu oP := by
  have hC := zp_C64 hp
  refine zx_54 hJL hJT ha hb hT hM hS hC (fun jI' RT hRT hj => ?_)
  have hmem : ∀ n, n ∈ zj_F lo hi L a b JL ++ RT ↔ al n = true ∧ zj_ip lo hi lv a b JL JT n = 1 := fun n => by
    rw [zj_ip1, List.mem_append, zj_Fm hM, hRT]
    by_cases e : JT = JL
    · rw [if_pos e]
      constructor
      · rintro (z | z)
        · exact ⟨z.1, z.2.2, Or.inl z.2.1⟩
        · exact absurd z List.not_mem_nil
      · rintro ⟨z1, z2, z3⟩
        exact Or.inl ⟨z1, by omega, z2⟩
    · rw [if_neg e, zj_Fm hM]
      constructor
      · rintro (z | z)
        · exact ⟨z.1, z.2.2, Or.inl z.2.1⟩
        · exact ⟨z.1, z.2.2, Or.inr z.2.1⟩
      · rintro ⟨z1, z2, z3 | z3⟩
        · exact Or.inl ⟨z1, z3, z2⟩
        · exact Or.inr ⟨z1, z3, z2⟩
  have hdis : ∀ n, n ∈ zj_F lo hi L a b JL → n ∈ RT → False := fun n q1 q2 => by
    rw [hRT] at q2
    by_cases e : JT = JL
    · rw [if_pos e] at q2; exact absurd q2 List.not_mem_nil
    · rw [if_neg e] at q2
      have w1 := ((zj_Fm hM).mp q1).2.1
      have w2 := ((zj_Fm hM).mp q2).2.1
      omega
  have hpRS : (zj_F lo hi L a b JL).Pairwise (zd kd lo) := zj_Fp hT (by omega)
  have hpRT : RT.Pairwise (zd kd lo) := by
    rw [hRT]
    by_cases e : JT = JL
    · rw [if_pos e]; exact List.Pairwise.nil
    · rw [if_neg e]; exact zj_Fp hT (by omega)
  have hnd : (zj_F lo hi L a b JL ++ RT).Nodup := List.nodup_append.mpr ⟨zd_nodup hpRS, zd_nodup hpRT, fun x hx y hy e => hdis x hx (e ▸ hy)⟩
  have hlen := hC _ hnd (fun x hx => ((hmem x).mp hx).1)
  have hinj : ∀ x y, al x = true → al y = true → sl x = sl y → x = y := fun x y hx hy e => zg_inj (hS x hx) (hS y hy) e
  have hrI : ∀ n, al n = true → zl_set sl (zj_F lo hi L a b JL ++ RT) 1 rI (sl n) = nI (zj_ip lo hi lv a b JL JT n) := fun n hn => by
    by_cases e : n ∈ zj_F lo hi L a b JL ++ RT
    · rw [zl_set_in e, ((hmem n).mp e).2]
      rfl
    · have : zj_ip lo hi lv a b JL JT n = 0 := zj_ip01.elim id (fun z => absurd ((hmem n).mpr ⟨hn, z⟩) e)
      rw [zl_set_out (fun x hx q => e (by rw [← hinj x n ((hmem x).mp hx).1 hn q]; exact hx)), hI n hn, this]
      rfl
  refine zx_115 (al := al) (kd := kd) (lo := lo) (hi := hi) (va := va) (sl := sl) (ip := zj_ip lo hi lv a b JL JT) (BS := BS) (FS := FS) (JI := zj_F lo hi L a b JL ++ RT) hla hLA (fun j hj e => by obtain ⟨m, m1, m2⟩ := hi2 j hj e; exact ⟨m, by omega, m2⟩) (fun j hj e => by obtain ⟨m, m1, m2⟩ := hs3 j hj e; exact ⟨m, by omega, m2⟩) hp (fun x hx => ⟨hS x hx, hrI x hx, by rcases zj_ip01 (lo := lo) (hi := hi) (lv := lv) (a := a) (b := b) (JL := JL) (JT := JT) (n := x) with z | z <;> omega⟩) rfl hlen (fun z => ?_) (fun z xgc' gu' oP' G' k1 k2 k3 k4 k5 => ?_)
  · have hJ0 : zj_F lo hi L a b JL ++ RT = [] := List.eq_nil_of_length_eq_zero z
    have hF0 : zj_F lo hi L a b JL = [] := (List.append_eq_nil_iff.mp hJ0).1
    rw [hJ0, zl_set_nil, zl_set_nil, hF0]
    refine h0 (fun n hn => zj_ip01.elim id (fun q => ?_)) jI'
    have := (hmem n).mpr ⟨hn, q⟩
    rw [hJ0] at this
    exact absurd this List.not_mem_nil
  · have key := h1 (zj_F lo hi L a b JL ++ RT) (zj_F lo hi L a b JL) RT G' xgc' _ (zl_set sl (zj_F lo hi L a b JL ++ RT) 0 rP) jI' gu' oP' z hlen hnd (by rw [List.length_append]) ⟨⟨hmem, fun n hn => hal n ((hmem n).mp hn).1, fun n hn => List.mem_append.mpr (Or.inl hn), fun n hn => List.mem_append.mpr (Or.inr hn), fun n hn => absurd hn List.not_mem_nil, hdis⟩, hpRS, hpRT, fun n q1 q2 q3 => ((List.mem_append.mp q1).elim (fun w => absurd w q2) (fun w => absurd w q3))⟩ ⟨⟨hj, rfl, hlen⟩, ⟨(zl_at_app.mp hj).1, rfl, congrArg nI (by omega), by rw [List.length_append] at hlen; omega⟩, ⟨by have := (zl_at_app.mp hj).2; rw [Nat.zero_add] at this; exact this, rfl, by rw [List.length_append]⟩, ⟨trivial, rfl⟩, ⟨k1, k2, k3, fun g hg => ?_⟩, fun n hn => ?_, zj_Oc k5 (fun p _ => ⟨fun w => ⟨w.1, w.2.1, Or.inl w.2.2⟩, fun w => ⟨w.1, w.2.1, w.2.2.elim id (fun y => absurd y List.not_mem_nil)⟩⟩)⟩ hrI k4
    · rw [← hla] at key
      exact key
    · rcases (k4 g).mp hg with e | ⟨j, j1, j2, j3, j4⟩ | ⟨j, j1, j2, j3, j4⟩
      · omega
      · obtain ⟨m, m1, m2⟩ := hs3 j j1 j2
        have : m = g := (nI_eq (by omega) (by omega)).mp (m2.symm.trans j3)
        omega
      · obtain ⟨m, m1, m2⟩ := hi2 j j1 j2
        have : m = g := (nI_eq (by omega) (by omega)).mp (m2.symm.trans j3)
        omega
    · rw [zl_set_in hn, if_neg List.not_mem_nil]
/-! X: the steps -/
theorem zx_steps {post : Int32 → SX → Prop} {FL TD : Nat} {GX JI : List Nat} (H : zx_H al kd lo hi lv va sl L NL xnl rS rK rL rH rV tB tS fi) (hF : FL ≤ 600) (hip : ∀ n, al n = true → ip n = 0 ∨ ip n = 1) (hC : ∀ l : List Nat, l.Nodup → (∀ x, x ∈ l → al x = true) → l.length ≤ 64) (hTD : TD ≤ 64) : ∀ (d c : Nat) (RS RT JO : List Nat) (SA TA : Nat) (xsa xta xoc : Int32) (rP jO oP : Nat → Int32), c + d = TD → d ≤ RS.length + RT.length → zj_P al kd lo hi ip FL GX JI RS RT JO → zj_J al kd lo ip sl FL GX JI RS RT JO SA TA xic xsa xse xta xoc xgc rP jI jO gu oP →
    (∀ (RS' RT' JO' : List Nat) (SA' TA' n : Nat) (xsa' xta' xoc' : Int32) (rP' jO' oP' : Nat → Int32), RS'.length + RT'.length + d = RS.length + RT.length → zj_P al kd lo hi ip FL GX JI RS' RT' JO' → zj_J al kd lo ip sl FL GX JI RS' RT' JO' SA' TA' xic xsa' xse xta' xoc' xgc rP' jI jO' gu oP' → wX_step_32 post (nI TD) (n + 1) (nI TD) xkc xml xhl xnl xla xfl xfc xhe xbc xjr xjl xjt xjo xjh xjs xic xsa' xse xta' xoc' xgc rS rK rL rH rV rE rI rP' fS bS tB tS fi bA sO sM iO iM iL iH iP iK jI jO' gu oP') → wX_step_32 post (nI TD) (d + 1) (nI c) xkc xml xhl xnl xla xfl xfc xhe xbc xjr xjl xjt xjo xjh xjs xic xsa xse xta xoc xgc rS rK rL rH rV rE rI rP fS bS tB tS fi bA sO sM iO iM iL iH iP iK jI jO gu oP := by
  intro d
  induction d with
  | zero =>
    intro c RS RT JO SA TA xsa xta xoc rP jO oP hc hd hP hJ h
    have e : c = TD := by omega
    subst e
    exact h RS RT JO SA TA 0 xsa xta xoc rP jO oP (by omega) hP hJ
  | succ d ih =>
    intro c RS RT JO SA TA xsa xta xoc rP jO oP hc hd hP hJ h
    rw [wX_step_32]
    dsimp only
    refine br_f (nI_ge (by omega) (by omega)) (zx_deal H hF hip hC hP hJ (by omega) (fun RS' RT' JO' SA' TA' xsa' xta' xoc' rP' jO' oP' k1 k2 k3 => nm_r (nI_1 c) ?_))
    exact ih (c + 1) RS' RT' JO' SA' TA' xsa' xta' xoc' rP' jO' oP' (by omega) (by omega) k2 k3 (fun RS2 RT2 JO2 SA2 TA2 n xsa2 xta2 xoc2 rP2 jO2 oP2 q1 q2 q3 => h RS2 RT2 JO2 SA2 TA2 n xsa2 xta2 xoc2 rP2 jO2 oP2 (by omega) q2 q3)
end
end
section
/-- Y holds the records of the ghosts, each at its place -/
def zy_H (al : Nat → Bool) (kd lo hi lv ip : Nat → Nat) (va : Nat → Int32) (pl : Nat → Nat) (yS yK yL yH yV yE yI : Nat → Int32) : Prop :=
  (∀ n, al n = true → zg_R kd lo hi va pl yS yK yL yH yV n) ∧ (∀ n, al n = true → yE (pl n) = nI (lv n) ∧ lv n ≤ 4) ∧ (∀ n, al n = true → yI (pl n) = nI (ip n) ∧ (ip n = 0 ∨ ip n = 1)) ∧ (∀ i, i < 64 → ¬ yS i = 0 → ∃ n, al n = true ∧ pl n = i) ∧ (∀ i, i < 64 → yS i = 0 → yI i = 0)
theorem zy_pl {al : Nat → Bool} {kd lo hi lv ip : Nat → Nat} {va : Nat → Int32} {pl : Nat → Nat} {yS yK yL yH yV yE yI : Nat → Int32} (H : zy_H al kd lo hi lv ip va pl yS yK yL yH yV yE yI) {i : Nat} (hi' : i < 64) : (yS i = 0 ∧ ∀ n, al n = true → pl n ≠ i) ∨ ∃ n, al n = true ∧ pl n = i ∧ ¬ yS i = 0 := by
  by_cases e : yS i = 0
  · refine Or.inl ⟨e, fun n hn q => ?_⟩
    have hr := H.1 n hn
    have h1 := hr.2.1
    have h2 := hr.2.2.1
    have := hr.1.2.1
    rw [q, e] at this
    exact nI_ne0 (by omega) (by omega) this.symm
  · obtain ⟨n, h1, h2⟩ := H.2.2.2.1 i hi' e
    exact Or.inr ⟨n, h1, h2, e⟩
theorem zy_inj {al : Nat → Bool} {kd lo hi lv ip : Nat → Nat} {va : Nat → Int32} {pl : Nat → Nat} {yS yK yL yH yV yE yI : Nat → Int32} (H : zy_H al kd lo hi lv ip va pl yS yK yL yH yV yE yI) {a b : Nat} (ha : al a = true) (hb : al b = true) (e : pl a = pl b) : a = b := zg_inj (H.1 a ha) (H.1 b hb) e
/-- one more in a list of those at lower places -/
theorem zy_more {al : Nat → Bool} {pl : Nat → Nat} {Q : Nat → Prop} {D : List Nat} {n : Nat} (hn : al n = true) (hq : Q n) (hinj : ∀ m, al m = true → pl m = pl n → m = n) (h1 : D.Nodup) (h2 : ∀ m, m ∈ D ↔ al m = true ∧ Q m ∧ pl m < pl n) : (n :: D).Nodup ∧ ∀ m, m ∈ n :: D ↔ al m = true ∧ Q m ∧ pl m < pl n + 1 := by
  refine ⟨List.nodup_cons.mpr ⟨fun z => by have := ((h2 n).mp z).2.2; omega, h1⟩, fun m => ?_⟩
  rw [List.mem_cons, h2]
  constructor
  · rintro (z | ⟨z1, z2, z3⟩)
    · subst z; exact ⟨hn, hq, by omega⟩
    · exact ⟨z1, z2, by omega⟩
  · rintro ⟨z1, z2, z3⟩
    by_cases c : pl m = pl n
    · exact Or.inl (hinj m z1 c)
    · exact Or.inr ⟨z1, z2, by omega⟩
theorem zy_less {al : Nat → Bool} {pl : Nat → Nat} {Q : Nat → Prop} {D : List Nat} {i : Nat} (h : ∀ m, al m = true → pl m = i → ¬ Q m) (h2 : ∀ m, m ∈ D ↔ al m = true ∧ Q m ∧ pl m < i) : ∀ m, m ∈ D ↔ al m = true ∧ Q m ∧ pl m < i + 1 := by
  intro m
  rw [h2]
  constructor
  · rintro ⟨z1, z2, z3⟩
    exact ⟨z1, z2, by omega⟩
  · rintro ⟨z1, z2, z3⟩
    refine ⟨z1, z2, ?_⟩
    by_cases c : pl m = i
    · exact absurd z2 (h m z1 c)
    · omega
section
variable {ykc yml yhl ynl yla yfl yjr yjs yjl yjt yjo yjh ygc : Int32} {yS yK yL yH yV yE yI yT ysO ysM yiO yiM yiL yiH yiP yiK yg : Nat → Int32} {al : Nat → Bool} {kd lo hi lv ip : Nat → Nat} {va : Nat → Int32} {pl : Nat → Nat}
theorem zy_sz_l {post : Int32 → Prop} {p0 : Int32} (H : zy_H al kd lo hi lv ip va pl yS yK yL yH yV yE yI) (h : ∀ D : List Nat, D.Nodup → (∀ n, n ∈ D ↔ al n = true ∧ (p0 = -1 ∨ nI (lv n) = p0)) → post (nI D.length)) :
    ∀ (d i : Nat) (D : List Nat), i + d = 64 → D.Nodup → (∀ n, n ∈ D ↔ al n = true ∧ (p0 = -1 ∨ nI (lv n) = p0) ∧ pl n < i) → wY_size_4 post p0 ykc yml yhl ynl yla yfl yjr yjs yjl yjt yjo yjh ygc yS yK yL yH yV yE yI yT ysO ysM yiO yiM yiL yiH yiP yiK yg (d + 1) (nI D.length) (nI i) := by
  intro d
  induction d with
  | zero =>
    intro i D hd h1 h2
    rw [wY_size_4]
    dsimp only
    refine br_t (nI_le (a := 64) (by omega) (by omega)) (h D h1 (fun n => (h2 n).trans ⟨fun z => ⟨z.1, z.2.1⟩, fun z => ⟨z.1, z.2, by have := (H.1 n z.1).1.1; omega⟩⟩))
  | succ d ih =>
    intro i D hd h1 h2
    rw [wY_size_4]
    dsimp only
    rw [nI_clamp (by omega : i < 2 ^ 31)]
    refine br_f (nI_ge (b := 64) (by omega) (by omega)) ⟨vp_in_nI (by omega) (by omega), ?_⟩
    rcases zy_pl H (i := i) (by omega) with ⟨e, hno⟩ | ⟨n, hn, e, hne⟩
    · exact br_t e (nm_r (nI_1 i) (ih (i + 1) D (by omega) h1 (zy_less (fun m h3 h4 => absurd h4 (hno m h3)) h2)))
    · subst e
      have hE := (H.2.1 n hn).1
      refine br_f hne ?_
      rw [hE]
      have hyes : (p0 = -1 ∨ nI (lv n) = p0) → wY_size_4 post p0 ykc yml yhl ynl yla yfl yjr yjs yjl yjt yjo yjh ygc yS yK yL yH yV yE yI yT ysO ysM yiO yiM yiL yiH yiP yiK yg (d + 1) (nI (D.length + 1)) (nI (pl n + 1)) := fun hq => by
        obtain ⟨k1, k2⟩ := zy_more (Q := fun n => p0 = -1 ∨ nI (lv n) = p0) hn hq (fun m h3 h4 => zy_inj H h3 hn h4) h1 h2
        exact ih (pl n + 1) (n :: D) (by omega) k1 k2
      refine br_c (fun q => nm_r (nI_1 _) (nm_r (nI_1 _) (hyes (Or.inl q)))) (fun q => ⟨vp_in_nI (by omega) (by omega), br_c (fun q2 => nm_r (nI_1 _) (nm_r (nI_1 _) (hyes (Or.inr q2)))) (fun q2 => nm_r (nI_1 _) (ih _ D (by omega) h1 (zy_less (fun m h3 h4 h5 => ?_) h2)))⟩)
      rw [zy_inj H h3 hn h4] at h5
      exact h5.elim q q2
theorem zy_sz {post : Int32 → Prop} {p0 : Int32} (H : zy_H al kd lo hi lv ip va pl yS yK yL yH yV yE yI) (h : ∀ D : List Nat, D.Nodup → (∀ n, n ∈ D ↔ al n = true ∧ (p0 = -1 ∨ nI (lv n) = p0)) → post (nI D.length)) : wpY_size post (ykc, yml, yhl, ynl, yla, yfl, yjr, yjs, yjl, yjt, yjo, yjh, ygc, yS, yK, yL, yH, yV, yE, yI, yT, ysO, ysM, yiO, yiM, yiL, yiH, yiP, yiK, yg) p0 := by
  unfold wpY_size
  dsimp only
  exact ⟨65, zy_sz_l H h 64 0 [] (by omega) List.nodup_nil (fun n => ⟨fun z => absurd z List.not_mem_nil, fun z => by omega⟩)⟩
theorem zy_szv {post : Int32 → Prop} {v : Nat} (H : zy_H al kd lo hi lv ip va pl yS yK yL yH yV yE yI) (hv : v ≤ 4) (h : ∀ D : List Nat, D.Nodup → (∀ n, n ∈ D ↔ al n = true ∧ lv n = v) → post (nI D.length)) : wpY_size post (ykc, yml, yhl, ynl, yla, yfl, yjr, yjs, yjl, yjt, yjo, yjh, ygc, yS, yK, yL, yH, yV, yE, yI, yT, ysO, ysM, yiO, yiM, yiL, yiH, yiP, yiK, yg) (nI v) :=
  zy_sz H (fun D h1 h2 => h D h1 (fun n => (h2 n).trans ⟨fun z => ⟨z.1, z.2.elim (fun e => absurd e (zl_nIm1 (by omega))) (fun e => (nI_eq (by have := (H.2.1 n z.1).2; omega) (by omega)).mp e)⟩, fun z => ⟨z.1, Or.inr (by rw [z.2])⟩⟩))
theorem zy_sza {post : Int32 → Prop} (H : zy_H al kd lo hi lv ip va pl yS yK yL yH yV yE yI) (h : ∀ D : List Nat, D.Nodup → (∀ n, n ∈ D ↔ al n = true) → post (nI D.length)) : wpY_size post (ykc, yml, yhl, ynl, yla, yfl, yjr, yjs, yjl, yjt, yjo, yjh, ygc, yS, yK, yL, yH, yV, yE, yI, yT, ysO, ysM, yiO, yiM, yiL, yiH, yiP, yiK, yg) (-1) :=
  zy_sz H (fun D h1 h2 => h D h1 (fun n => (h2 n).trans ⟨fun z => z.1, fun z => ⟨z, Or.inl rfl⟩⟩))
theorem zy_full {post : Int32 → Prop} {HL LA : Nat} {BS : List Nat} (H : zy_H al kd lo hi lv ip va pl yS yK yL yH yV yE yI) (hhl : yhl = nI HL) (hHL : HL ≤ 64) (hla : yla = nI LA) (hLA : LA ≤ 600) (hB : BS.Nodup) (hBm : ∀ n, n ∈ BS ↔ al n = true) (hB6 : BS.length ≤ 64) (h1 : HL ≤ BS.length → post 1) (h0 : BS.length < HL → post 0) : wpY_full post (ykc, yml, yhl, ynl, yla, yfl, yjr, yjs, yjl, yjt, yjo, yjh, ygc, yS, yK, yL, yH, yV, yE, yI, yT, ysO, ysM, yiO, yiM, yiL, yiH, yiP, yiK, yg) := by
  unfold wpY_full
  dsimp only
  refine zy_sza H (fun D k1 k2 => ?_)
  have e : D.length = BS.length := zl_card k1 hB (fun n => (k2 n).trans (hBm n).symm)
  rw [e, hhl]
  refine pk_le HL BS.length h1 (fun z => br_t (by rw [hla]; exact nI_lt (b := 1000000) (by omega) (by omega)) (h0 z))
theorem zy_dc_l {post : Int32 → Prop} {k m : Nat} (H : zy_H al kd lo hi lv ip va pl yS yK yL yH yV yE yI) (hk : k < 24) (hm : m < 2 ^ 31) (h : post (zg_sI pl (zg_dc al lo hi k m))) :
    ∀ (d i b : Nat), i + d = 64 → zg_M (fun n => zg_cv al lo hi k m n ∧ pl n < i) b → wY_decider_5 post (nI k) (nI m) ykc yml yhl ynl yla yfl yjr yjs yjl yjt yjo yjh ygc yS yK yL yH yV yE yI yT ysO ysM yiO yiM yiL yiH yiP yiK yg (d + 1) (zg_sI pl b) (nI i) := by
  intro d
  induction d with
  | zero =>
    intro i b hd hM
    rw [wY_decider_5]
    dsimp only
    have e : b = zg_dc al lo hi k m := zg_Mu (zg_Mc hM (fun n => ⟨fun z => z.1, fun z => ⟨z, by have := (H.1 n z.1).1.1; omega⟩⟩)) (zg_dcM al lo hi k m)
    subst e
    exact br_t (nI_le (a := 64) (by omega) (by omega)) h
  | succ d ih =>
    intro i b hd hM
    have hskip : (∀ n, al n = true → pl n = i → ¬ zg_cv al lo hi k m n) → wY_decider_5 post (nI k) (nI m) ykc yml yhl ynl yla yfl yjr yjs yjl yjt yjo yjh ygc yS yK yL yH yV yE yI yT ysO ysM yiO yiM yiL yiH yiP yiK yg (d + 1) (zg_sI pl b) (nI (i + 1)) := fun hno =>
      ih (i + 1) b (by omega) (zg_Mc hM (fun n => ⟨fun z => ⟨z.1, by have := z.2; omega⟩, fun z => ⟨z.1, by
        by_cases c : pl n = i
        · exact absurd z.1 (hno n z.1.1 c)
        · have := z.2; omega⟩⟩))
    rw [wY_decider_5]
    dsimp only
    rw [nI_clamp (by omega : i < 2 ^ 31)]
    refine br_f (nI_ge (b := 64) (by omega) (by omega)) ⟨vp_in_nI (by omega) (by omega), ?_⟩
    rcases zy_pl H (i := i) (by omega) with ⟨e, hno⟩ | ⟨n, hn, e, hne⟩
    · exact br_t e (nm_r (nI_1 i) (hskip (fun n h1 h2 => absurd h2 (hno n h1))))
    · subst e
      obtain ⟨⟨r1, r2, r3, r4, r45, -⟩, r5, r6, r7, r8, r9, r10, -⟩ := H.1 n hn
      have wi : vp_in (nI (pl n)) 64 := vp_in_nI (by omega) (by omega)
      have hsk2 : ¬ zg_cv al lo hi k m n → wY_decider_5 post (nI k) (nI m) ykc yml yhl ynl yla yfl yjr yjs yjl yjt yjo yjh ygc yS yK yL yH yV yE yI yT ysO ysM yiO yiM yiL yiH yiP yiK yg (d + 1) (zg_sI pl b) (nI (pl n + 1)) := fun hc => hskip (fun x h1 h2 => by rw [zy_inj H h1 hn h2]; exact hc)
      refine br_f hne ⟨wi, ?_⟩
      rw [r2, r4, r45]
      refine pk_lt m n (fun z => nm_r (nI_1 _) (hsk2 (fun w => by have := w.2.2.2; omega))) (fun z => ⟨wi, pk_lt k (lo n) (fun z2 => nm_r (nI_1 _) (hsk2 (fun w => by have := w.2.1; omega))) (fun z2 => ⟨wi, pk_lt (hi n) k (fun z3 => nm_r (nI_1 _) (hsk2 (fun w => by have := w.2.2.1; omega))) (fun z3 => ?_)⟩)⟩)
      have hcv : zg_cv al lo hi k m n := ⟨hn, z2, z3, z⟩
      have htake : b < n → wY_decider_5 post (nI k) (nI m) ykc yml yhl ynl yla yfl yjr yjs yjl yjt yjo yjh ygc yS yK yL yH yV yE yI yT ysO ysM yiO yiM yiL yiH yiP yiK yg (d + 1) (nI (pl n)) (nI (pl n + 1)) := fun hb => by
        have key := ih (pl n + 1) n (by omega) ⟨Or.inr ⟨hcv, by omega⟩, fun x hx => by
          by_cases c : pl x = pl n
          · rw [zy_inj H hx.1.1 hn c]; omega
          · have := hM.2 x ⟨hx.1, by have := hx.2; omega⟩
            omega⟩
        rw [zg_sIs (by omega : n ≠ 0)] at key
        exact key
      by_cases b0 : b = 0
      · rw [b0, zg_sI0]
        exact br_t zl_m1neg (nm_r (nI_1 _) (htake (by omega)))
      · rcases hM.1 with w | w
        · exact absurd w b0
        · have hrb := H.1 b w.1.1
          have s1 := hrb.1.1
          have s2 := hrb.1.2.1
          have s3 := hrb.2.2.1
          have hb' : zg_sI pl b = nI (pl b) := zg_sIs b0
          have hkeep : n ≤ b → wY_decider_5 post (nI k) (nI m) ykc yml yhl ynl yla yfl yjr yjs yjl yjt yjo yjh ygc yS yK yL yH yV yE yI yT ysO ysM yiO yiM yiL yiH yiP yiK yg (d + 1) (zg_sI pl b) (nI (pl n + 1)) := fun hb =>
            ih (pl n + 1) b (by omega) ⟨Or.inr ⟨w.1, by have := w.2; omega⟩, fun x hx => by
              by_cases c : pl x = pl n
              · rw [zy_inj H hx.1.1 hn c]; exact hb
              · exact hM.2 x ⟨hx.1, by have := hx.2; omega⟩⟩
          rw [hb'] at hkeep ⊢
          rw [nI_clamp (by omega : pl b < 2 ^ 31), s2]
          exact br_f (nI_pos (by omega)) ⟨wi, vp_in_nI s1 (by omega), pk_le n b (fun y => nm_r (nI_1 _) (hkeep y)) (fun y => nm_r (nI_1 _) (htake y))⟩
theorem zy_dc {post : Int32 → Prop} {k m : Nat} (H : zy_H al kd lo hi lv ip va pl yS yK yL yH yV yE yI) (hk : k < 24) (hm : m < 2 ^ 31) (h : post (zg_sI pl (zg_dc al lo hi k m))) : wpY_decider post (ykc, yml, yhl, ynl, yla, yfl, yjr, yjs, yjl, yjt, yjo, yjh, ygc, yS, yK, yL, yH, yV, yE, yI, yT, ysO, ysM, yiO, yiM, yiL, yiH, yiP, yiK, yg) (nI k) (nI m) := by
  unfold wpY_decider
  dsimp only
  refine ⟨65, ?_⟩
  have key : wY_decider_5 post (nI k) (nI m) ykc yml yhl ynl yla yfl yjr yjs yjl yjt yjo yjh ygc yS yK yL yH yV yE yI yT ysO ysM yiO yiM yiL yiH yiP yiK yg (64 + 1) (zg_sI pl 0) (nI 0) := zy_dc_l H hk hm h 64 0 0 (by omega) (zg_M0 (fun n z => by have := z.2; omega))
  rw [zg_sI0] at key
  exact key
theorem zy_va {post : Int32 → Prop} {k m : Nat} (H : zy_H al kd lo hi lv ip va pl yS yK yL yH yV yE yI) (hk : k < 24) (hm : m < 2 ^ 31) (h : post (zg_vl al kd lo hi va k m)) : wpY_valueAt post (ykc, yml, yhl, ynl, yla, yfl, yjr, yjs, yjl, yjt, yjo, yjh, ygc, yS, yK, yL, yH, yV, yE, yI, yT, ysO, ysM, yiO, yiM, yiL, yiH, yiP, yiK, yg) (nI k) (nI m) := by
  unfold wpY_valueAt
  dsimp only
  refine zy_dc H hk hm ?_
  unfold zg_vl at h
  by_cases e : zg_dc al lo hi k m = 0
  · rw [e, zg_sI0]
    rw [if_pos e] at h
    exact br_t zl_m1neg h
  · rw [if_neg e] at h
    rcases (zg_dcM al lo hi k m).1 with z | z
    · exact absurd z e
    · have hr := H.1 _ z.1
      have h64 := hr.1.1
      have hv := hr.1.2.2.2.2.2
      have h3 := hr.2.2.2.2.1
      rw [zg_sIs e, nI_clamp (by omega : pl (zg_dc al lo hi k m) < 2 ^ 31), hr.1.2.2.1, hv]
      refine br_f (nI_pos (by omega)) ⟨vp_in_nI h64 (by omega), pk_eq (kd (zg_dc al lo hi k m)) 1 (fun y => ?_) (fun y => ?_)⟩
      · rw [if_pos y] at h
        exact ⟨vp_in_nI h64 (by omega), h⟩
      · rw [if_neg y] at h
        exact h
/-! Y: flush, write -/
theorem zy_fl_l {post : Int32 → SY → Prop} {x1 : Int32} (hS : ∀ n, al n = true → zg_R kd lo hi va pl yS yK yL yH yV n) (hP : ∀ i, i < 64 → ¬ yS i = 0 → ∃ n, al n = true ∧ pl n = i) (hlv : ∀ n, al n = true → lv n ≤ 4) (h : ∀ yE' : Nat → Int32, (∀ n, al n = true → yE' (pl n) = nI (zt_fl lv n)) → post x1 (ykc, yml, yhl, ynl, yla, yfl, yjr, yjs, yjl, yjt, yjo, yjh, ygc, yS, yK, yL, yH, yV, yE', yI, yT, ysO, ysM, yiO, yiM, yiL, yiH, yiP, yiK, yg)) :
    ∀ (d i : Nat) (yE : Nat → Int32), i + d = 64 → (∀ n, al n = true → yE (pl n) = nI (if pl n < i then zt_fl lv n else lv n)) → wY_flush_8 post x1 ykc yml yhl ynl yla yfl yjr yjs yjl yjt yjo yjh ygc (d + 1) (nI i) yS yK yL yH yV yE yI yT ysO ysM yiO yiM yiL yiH yiP yiK yg := by
  intro d
  induction d with
  | zero =>
    intro i yE hd hE
    rw [wY_flush_8]
    dsimp only
    exact br_t (nI_le (a := 64) (by omega) (by omega)) (h yE (fun n hn => by rw [hE n hn, if_pos (by have := (hS n hn).1.1; omega)]))
  | succ d ih =>
    intro i yE hd hE
    rw [wY_flush_8]
    dsimp only
    rw [nI_clamp (by omega : i < 2 ^ 31)]
    have wi : vp_in (nI i) 64 := vp_in_nI (by omega) (by omega)
    have hno1 : ∀ n, al n = true → ¬ yS (pl n) = 0 := fun n hn e => by
      have hr := hS n hn
      have h1 := hr.2.1
      have h2 := hr.2.2.1
      have := hr.1.2.1
      rw [e] at this
      exact nI_ne0 (by omega) (by omega) this.symm
    refine br_f (nI_ge (b := 64) (by omega) (by omega)) ⟨wi, br_c (fun e => nm_r (nI_1 i) (ih (i + 1) yE (by omega) (fun n hn => ?_))) (fun e => ?_)⟩
    · have hne : pl n ≠ i := fun q => hno1 n hn (by rw [q]; exact e)
      rw [hE n hn]
      by_cases c : pl n < i
      · rw [if_pos c, if_pos (by omega)]
      · rw [if_neg c, if_neg (by omega)]
    · obtain ⟨n, hn, q⟩ := hP i (by omega) e
      have hEn := hE n hn
      rw [if_neg (by omega), q] at hEn
      have hln := hlv n hn
      have hfl : ∀ yE1 : Nat → Int32, (∀ j, j ≠ i → yE1 j = yE j) → yE1 i = nI (zt_fl lv n) → wY_flush_8 post x1 ykc yml yhl ynl yla yfl yjr yjs yjl yjt yjo yjh ygc (d + 1) (nI (i + 1)) yS yK yL yH yV yE1 yI yT ysO ysM yiO yiM yiL yiH yiP yiK yg := fun yE1 hf hv => by
        refine ih (i + 1) yE1 (by omega) (fun m hm => ?_)
        by_cases c : pl m = i
        · have : m = n := zg_inj (hS m hm) (hS n hn) (by omega)
          subst this
          rw [if_pos (by omega), c]
          exact hv
        · rw [hf _ c, hE m hm]
          by_cases c2 : pl m < i
          · rw [if_pos c2, if_pos (by omega)]
          · rw [if_neg c2, if_neg (by omega)]
      rw [hEn]
      refine ⟨wi, pk_eq (lv n) 0 (fun z => ⟨wi, nm_e (nm_r (nI_1 i) (hfl _ (fun j hj => pk_un hj) ?_))⟩) (fun z => nm_r (nI_1 i) (hfl yE (fun _ _ => rfl) ?_))⟩
      · rw [pk_us]
        unfold zt_fl
        rw [if_pos z]
        rfl
      · rw [hEn]
        unfold zt_fl
        rw [if_neg z]
theorem zt_fl4 {lv : Nat → Nat} {n : Nat} (h : lv n ≤ 4) : zt_fl lv n ≤ 4 := by
  unfold zt_fl
  by_cases c : lv n = 0
  · rw [if_pos c]; omega
  · rw [if_neg c]; exact h
theorem zy_flush {post : Int32 → SY → Prop} (H : zy_H al kd lo hi lv ip va pl yS yK yL yH yV yE yI) (h : ∀ (D : List Nat) (yE' : Nat → Int32), D.Nodup → (∀ n, n ∈ D ↔ al n = true ∧ lv n = 0) → zy_H al kd lo hi (zt_fl lv) ip va pl yS yK yL yH yV yE' yI → post (nI D.length) (ykc, yml, yhl, ynl, yla, yfl, yjr, yjs, yjl, yjt, yjo, yjh, ygc, yS, yK, yL, yH, yV, yE', yI, yT, ysO, ysM, yiO, yiM, yiL, yiH, yiP, yiK, yg)) : wpY_flush post (ykc, yml, yhl, ynl, yla, yfl, yjr, yjs, yjl, yjt, yjo, yjh, ygc, yS, yK, yL, yH, yV, yE, yI, yT, ysO, ysM, yiO, yiM, yiL, yiH, yiP, yiK, yg) := by
  unfold wpY_flush
  dsimp only
  refine zy_szv (v := 0) H (by omega) (fun D h1 h2 => ⟨65, ?_⟩)
  refine zy_fl_l (lv := lv) H.1 H.2.2.2.1 (fun n hn => (H.2.1 n hn).2) (fun yE' hE => h D yE' h1 h2 ⟨H.1, fun n hn => ⟨hE n hn, zt_fl4 (H.2.1 n hn).2⟩, H.2.2⟩) 64 0 yE (by omega) (fun n hn => ?_)
  rw [if_neg (by omega)]
  exact (H.2.1 n hn).1
end
/-- were all places used, 64 seqs would be alive -/
theorem zy_room {al : Nat → Bool} {pl : Nat → Nat} : ∀ i, (∀ j, j < i → ∃ n, al n = true ∧ pl n = j) → ∃ D : List Nat, D.Nodup ∧ D.length = i ∧ ∀ n, n ∈ D → al n = true ∧ pl n < i
  | 0, _ => ⟨[], List.nodup_nil, rfl, fun n hn => absurd hn List.not_mem_nil⟩
  | i + 1, h => by
    obtain ⟨D, d1, d2, d3⟩ := zy_room i (fun j hj => h j (by omega))
    obtain ⟨n, n1, n2⟩ := h i (by omega)
    refine ⟨n :: D, List.nodup_cons.mpr ⟨fun z => by have := (d3 n z).2; omega, d1⟩, by rw [List.length_cons, d2], fun m hm => ?_⟩
    rcases List.mem_cons.mp hm with e | e
    · subst e; exact ⟨n1, by omega⟩
    · exact ⟨(d3 m e).1, by have := (d3 m e).2; omega⟩
section
variable {ykc yml yhl ynl yla yfl yjr yjs yjl yjt yjo yjh ygc : Int32} {yS yK yL yH yV yE yI yT ysO ysM yiO yiM yiL yiH yiP yiK yg : Nat → Int32} {al : Nat → Bool} {kd lo hi lv ip : Nat → Nat} {va : Nat → Int32} {pl : Nat → Nat}
theorem zy_w30 {post : Int32 → SY → Prop} {x1 x2 x3 x4 : Int32} {NB : Nat} (H : zy_H al kd lo hi lv ip va pl yS yK yL yH yV yE yI) (hNB : NB < 64) (hC : ∀ l : List Nat, l.Nodup → (∀ x, x ∈ l → al x = true) → l.length ≤ NB) (h : ∀ p, p < 64 → yS p = 0 → (∀ n, al n = true → pl n ≠ p) → post yla (ykc, yml, yhl, ynl, yla, yfl, yjr, yjs, yjl, yjt, yjo, yjh, ygc, upd yS p yla, upd yK p x1, upd yL p x2, upd yH p x3, upd yV p x4, upd yE p 0, upd yI p 0, yT, ysO, ysM, yiO, yiM, yiL, yiH, yiP, yiK, yg)) :
    ∀ (d i : Nat), i + d = 64 → (∀ j, j < i → ∃ n, al n = true ∧ pl n = j) → wY_write_30 post x1 x2 x3 x4 ykc yml yhl ynl yla yfl yjr yjs yjl yjt yjo yjh ygc yS yK yL yH yV yE yI yT ysO ysM yiO yiM yiL yiH yiP yiK yg (d + 1) (nI i) := by
  intro d
  induction d with
  | zero =>
    intro i hd hall
    exfalso
    obtain ⟨D, d1, d2, d3⟩ := zy_room i hall
    have := hC D d1 (fun x hx => (d3 x hx).1)
    omega
  | succ d ih =>
    intro i hd hall
    rw [wY_write_30]
    dsimp only
    rw [nI_clamp (by omega : i < 2 ^ 31), zl_nb0]
    have wi : vp_in (nI i) 64 := vp_in_nI (by omega) (by omega)
    refine br_f (nI_ge (b := 64) (by omega) (by omega)) ⟨wi, ?_⟩
    rcases zy_pl H (i := i) (by omega) with ⟨e, hno⟩ | ⟨n, hn, e, hne⟩
    · exact br_t e ⟨wi, nm_e ⟨wi, nm_e ⟨wi, nm_e ⟨wi, nm_e ⟨wi, nm_e ⟨wi, nm_e ⟨wi, nm_e (h i (by omega) e hno)⟩⟩⟩⟩⟩⟩⟩
    · refine br_f hne (nm_r (nI_1 i) (ih (i + 1) (by omega) (fun j hj => ?_)))
      by_cases c : j = i
      · subst c; exact ⟨n, hn, e⟩
      · exact hall j (by omega)
theorem zy_w17 {post : Int32 → SY → Prop} {K lo0 hi0 NB LA : Nat} {val : Int32} (H : zy_H al kd lo hi lv ip va pl yS yK yL yH yV yE yI) (hNB : NB < 64) (hC : ∀ l : List Nat, l.Nodup → (∀ x, x ∈ l → al x = true) → l.length ≤ NB) (hla : yla = nI LA) (hLA : LA < 600) (hA : ∀ n, al n = true → n ≤ LA) (hK1 : 1 ≤ K) (hK3 : K ≤ 3) (hlh : lo0 ≤ hi0) (hh : hi0 < 24) (hkl : K ≠ 3 → lo0 = hi0) (hval : ¬ val < 0)
    (h : ∀ (pl' : Nat → Nat) (yS' yK' yL' yH' yV' yE' yI' : Nat → Int32), zy_H (zl_ub al (LA + 1) true) (zl_un kd (LA + 1) K) (zl_un lo (LA + 1) lo0) (zl_un hi (LA + 1) hi0) (zl_un lv (LA + 1) 0) (zl_un ip (LA + 1) 0) (upd va (LA + 1) val) pl' yS' yK' yL' yH' yV' yE' yI' → post (nI (LA + 1)) (ykc, yml, yhl, ynl, nI (LA + 1), yfl, yjr, yjs, yjl, yjt, yjo, yjh, ygc, yS', yK', yL', yH', yV', yE', yI', yT, ysO, ysM, yiO, yiM, yiL, yiH, yiP, yiK, yg)) : wY_write_17 post (nI K) (nI lo0) (nI hi0) val ykc yml yhl ynl yla yfl yjr yjs yjl yjt yjo yjh ygc yS yK yL yH yV yE yI yT ysO ysM yiO yiM yiL yiH yiP yiK yg := by
  unfold wY_write_17
  refine nm_r (e' := nI (LA + 1)) (by rw [hla, nI_1]) ⟨65, ?_⟩
  refine zy_w30 H hNB hC (fun p hp hp0 hpn => ?_) 64 0 (by omega) (fun j hj => by omega)
  have hne : ∀ n, al n = true → n ≠ LA + 1 := fun n hn e => by have := hA n hn; omega
  have hS' := zg_Rw (N := LA + 1) (v := p) (K0 := K) (lo0 := lo0) (hi0 := hi0) (val := val) H.1 (fun n hn => by have := hA n hn; omega) (by omega) (by omega) hp hpn hK1 hK3 hlh hh hkl hval
  have hcase : ∀ n, zl_ub al (LA + 1) true n = true → n = LA + 1 ∨ (n ≠ LA + 1 ∧ al n = true) := fun n hn => by
    by_cases e : n = LA + 1
    · exact Or.inl e
    · rw [zl_ubn e] at hn; exact Or.inr ⟨e, hn⟩
  refine h (zl_un pl (LA + 1) p) _ _ _ _ _ _ _ ⟨hS', fun n hn => ?_, fun n hn => ?_, fun i hi' hs => ?_, fun i hi' hs => ?_⟩
  · rcases hcase n hn with e | ⟨e, w⟩
    · subst e
      rw [zl_uns, zl_uns, pk_us]
      exact ⟨rfl, by omega⟩
    · rw [zl_unn e, zl_unn e, pk_un (hpn n w)]
      exact H.2.1 n w
  · rcases hcase n hn with e | ⟨e, w⟩
    · subst e
      rw [zl_uns, zl_uns, pk_us]
      exact ⟨rfl, Or.inl rfl⟩
    · rw [zl_unn e, zl_unn e, pk_un (hpn n w)]
      exact H.2.2.1 n w
  · by_cases c : i = p
    · subst c
      exact ⟨LA + 1, zl_ubs, zl_uns⟩
    · rw [pk_un c] at hs
      obtain ⟨n, n1, n2⟩ := H.2.2.2.1 i hi' hs
      exact ⟨n, by rw [zl_ubn (hne n n1)]; exact n1, by rw [zl_unn (hne n n1)]; exact n2⟩
  · by_cases c : i = p
    · subst c; exact pk_us
    · rw [pk_un c] at hs ⊢
      exact H.2.2.2.2 i hi' hs
theorem zy_write {post : Int32 → SY → Prop} {K lo0 hi0 NB LA ML : Nat} {val : Int32} {L0 : List Nat} (H : zy_H al kd lo hi lv ip va pl yS yK yL yH yV yE yI) (hNB : NB < 64) (hC : ∀ l : List Nat, l.Nodup → (∀ x, x ∈ l → al x = true) → l.length ≤ NB) (hla : yla = nI LA) (hLA : LA < 600) (hA : ∀ n, al n = true → n ≤ LA) (hml : yml = nI ML) (hML : ML ≤ 64) (hL0 : L0.Nodup) (hL0m : ∀ n, n ∈ L0 ↔ al n = true ∧ lv n = 0) (hL0l : L0.length ≤ ML) (hK1 : 1 ≤ K) (hK3 : K ≤ 3) (hlh : lo0 ≤ hi0) (hh : hi0 < 24) (hkl : K ≠ 3 → lo0 = hi0) (hval : ¬ val < 0)
    (h : ∀ (lw pl' : Nat → Nat) (yS' yK' yL' yH' yV' yE' yI' : Nat → Int32), lw = (if L0.length < ML then lv else zt_fl lv) → zy_H (zl_ub al (LA + 1) true) (zl_un kd (LA + 1) K) (zl_un lo (LA + 1) lo0) (zl_un hi (LA + 1) hi0) (zl_un lw (LA + 1) 0) (zl_un ip (LA + 1) 0) (upd va (LA + 1) val) pl' yS' yK' yL' yH' yV' yE' yI' → post (nI (LA + 1)) (ykc, yml, yhl, ynl, nI (LA + 1), yfl, yjr, yjs, yjl, yjt, yjo, yjh, ygc, yS', yK', yL', yH', yV', yE', yI', yT, ysO, ysM, yiO, yiM, yiL, yiH, yiP, yiK, yg)) : wpY_write post (ykc, yml, yhl, ynl, yla, yfl, yjr, yjs, yjl, yjt, yjo, yjh, ygc, yS, yK, yL, yH, yV, yE, yI, yT, ysO, ysM, yiO, yiM, yiL, yiH, yiP, yiK, yg) (nI K) (nI lo0) (nI hi0) val := by
  unfold wpY_write
  dsimp only
  refine zy_szv (v := 0) H (by omega) (fun D h1 h2 => ?_)
  have e : D.length = L0.length := zl_card h1 hL0 (fun n => (h2 n).trans (hL0m n).symm)
  rw [e, show (nI L0.length = yml ↔ nI L0.length = nI ML) by rw [hml]]
  refine pk_eq L0.length ML (fun z => ?_) (fun z => ?_)
  · refine zy_flush H (fun D' yE' _ _ H' => ?_)
    exact zy_w17 H' hNB hC hla hLA hA hK1 hK3 hlh hh hkl hval (fun pl' yS' yK' yL' yH' yV' yE' yI' q => h (zt_fl lv) pl' yS' yK' yL' yH' yV' yE' yI' (by rw [if_neg (by omega)]) q)
  · exact zy_w17 H hNB hC hla hLA hA hK1 hK3 hlh hh hkl hval (fun pl' yS' yK' yL' yH' yV' yE' yI' q => h lv pl' yS' yK' yL' yH' yV' yE' yI' (by rw [if_pos (by omega)]) q)
end
end
section
section
variable {ykc yml yhl ynl yla yfl yjr yjs yjl yjt yjo yjh ygc : Int32} {yS yK yL yH yV yE yI yT ysO ysM yiO yiM yiL yiH yiP yiK yg : Nat → Int32} {al : Nat → Bool} {kd lo hi lv ip : Nat → Nat} {va : Nat → Int32} {pl : Nat → Nat}
theorem zy_ej_l {post : SY → Prop} (h : ∀ yI' : Nat → Int32, (∀ i, i < 64 → yI' i = 0) → post (ykc, yml, yhl, ynl, yla, yfl, 0, 0, yjl, yjt, yjo, yjh, 0, yS, yK, yL, yH, yV, yE, yI', yT, ysO, ysM, yiO, yiM, yiL, yiH, yiP, yiK, yg)) : ∀ (d i : Nat) (yI : Nat → Int32), i + d = 64 → (∀ j, j < i → yI j = 0) → wY_endJob_2 post ykc yml yhl ynl yla yfl yjr yjs yjl yjt yjo yjh ygc (d + 1) (nI i) yS yK yL yH yV yE yI yT ysO ysM yiO yiM yiL yiH yiP yiK yg := by
  intro d
  induction d with
  | zero =>
    intro i yI hd hz
    rw [wY_endJob_2]
    dsimp only
    exact br_t (nI_le (a := 64) (by omega) (by omega)) (h yI (fun j hj => hz j (by omega)))
  | succ d ih =>
    intro i yI hd hz
    rw [wY_endJob_2]
    dsimp only
    rw [nI_clamp (by omega : i < 2 ^ 31), zl_nb0]
    refine br_f (nI_ge (b := 64) (by omega) (by omega)) ⟨vp_in_nI (by omega) (by omega), nm_e (nm_r (nI_1 i) (ih (i + 1) _ (by omega) (fun j hj => ?_)))⟩
    by_cases c : j = i
    · subst c; exact pk_us
    · rw [pk_un c]; exact hz j (by omega)
theorem zy_ej {post : SY → Prop} (h : ∀ yI' : Nat → Int32, (∀ i, i < 64 → yI' i = 0) → post (ykc, yml, yhl, ynl, yla, yfl, 0, 0, yjl, yjt, yjo, yjh, 0, yS, yK, yL, yH, yV, yE, yI', yT, ysO, ysM, yiO, yiM, yiL, yiH, yiP, yiK, yg)) : wpY_endJob post (ykc, yml, yhl, ynl, yla, yfl, yjr, yjs, yjl, yjt, yjo, yjh, ygc, yS, yK, yL, yH, yV, yE, yI, yT, ysO, ysM, yiO, yiM, yiL, yiH, yiP, yiK, yg) := by
  unfold wpY_endJob
  dsimp only
  exact ⟨65, zy_ej_l h 64 0 yI (by omega) (fun j hj => by omega)⟩
theorem zy_dg_t {post : Int32 → Prop} {x1 x2 : Int32} {GL : Nat} (hg : ygc = nI GL) (h : post 0) : ∀ (d i : Nat), i + d = 6 → GL ≤ i → wY_decidesGuarded_2 post x1 x2 ykc yml yhl ynl yla yfl yjr yjs yjl yjt yjo yjh ygc yS yK yL yH yV yE yI yT ysO ysM yiO yiM yiL yiH yiP yiK yg (d + 1) (nI i) := by
  intro d
  induction d with
  | zero =>
    intro i hd hi'
    rw [wY_decidesGuarded_2]
    dsimp only
    exact br_t (nI_le (a := 6) (by omega) (by omega)) h
  | succ d ih =>
    intro i hd hi'
    rw [wY_decidesGuarded_2]
    dsimp only
    exact br_f (nI_ge (b := 6) (by omega) (by omega)) (br_t (by rw [hg]; exact nI_le hi' (by omega)) (nm_r (nI_1 i) (ih (i + 1) (by omega) (by omega))))
theorem zy_dg_l {post : Int32 → Prop} {a k GL : Nat} (H : zy_H al kd lo hi lv ip va pl yS yK yL yH yV yE yI) (ha : al a = true) (hk : k < 24) (hg : ygc = nI GL) : ∀ (l : List Nat) (i d : Nat), i + d = 6 → GL = i + l.length → GL ≤ 6 → zl_At yg i id l → (∀ g, g ∈ l → g ≤ 600) → (zg_dg al lo hi l a k = true → post 1) → (¬ zg_dg al lo hi l a k = true → post 0) → wY_decidesGuarded_2 post (nI (pl a)) (nI k) ykc yml yhl ynl yla yfl yjr yjs yjl yjt yjo yjh ygc yS yK yL yH yV yE yI yT ysO ysM yiO yiM yiL yiH yiP yiK yg (d + 1) (nI i) := by
  have hr := H.1 a ha
  have r1 := hr.1.1
  have r5 := hr.2.1
  intro l
  induction l with
  | nil =>
    intro i d hd hGL h6 hA hG h1 h0
    exact zy_dg_t hg (h0 (fun z => by obtain ⟨g, hg, _⟩ := zg_dg_iff.mp z; exact absurd hg List.not_mem_nil)) d i hd (by rw [hGL, List.length_nil]; omega)
  | cons g l ih =>
    intro i d hd hGL h6 hA hG h1 h0
    rw [List.length_cons] at hGL
    obtain ⟨d, rfl⟩ : ∃ q, d = q + 1 := ⟨d - 1, by omega⟩
    have hgu : yg i = nI g := hA.1
    have hg6 := hG g List.mem_cons_self
    have hgo : ¬ zg_dc al lo hi k g = a → wY_decidesGuarded_2 post (nI (pl a)) (nI k) ykc yml yhl ynl yla yfl yjr yjs yjl yjt yjo yjh ygc yS yK yL yH yV yE yI yT ysO ysM yiO yiM yiL yiH yiP yiK yg (d + 1) (nI (i + 1)) := fun hno =>
      ih (i + 1) d (by omega) (by omega) h6 hA.2 (fun y hy => hG y (List.mem_cons_of_mem g hy)) (fun z => h1 (by
        obtain ⟨y, y1, y2⟩ := zg_dg_iff.mp z
        exact zg_dg_iff.mpr ⟨y, List.mem_cons_of_mem g y1, y2⟩)) (fun z => h0 (fun w => z (by
        obtain ⟨y, y1, y2⟩ := zg_dg_iff.mp w
        rcases List.mem_cons.mp y1 with e | e
        · subst e; exact absurd y2 hno
        · exact zg_dg_iff.mpr ⟨y, e, y2⟩)))
    rw [wY_decidesGuarded_2]
    dsimp only
    rw [nI_clamp (by omega : i < 2 ^ 31), hgu]
    refine br_f (nI_ge (b := 6) (by omega) (by omega)) (br_f (by rw [hg]; exact nI_ge (by omega) (by omega)) ⟨vp_in_nI (by omega) (by omega), zy_dc H hk (by omega) ?_⟩)
    by_cases e : zg_dc al lo hi k g = a
    · rw [e, zg_sIs (by omega : a ≠ 0)]
      exact br_t rfl (h1 (zg_dg_iff.mpr ⟨g, List.mem_cons_self, e⟩))
    · refine br_f (fun y => e ?_) (nm_r (nI_1 i) (hgo e))
      by_cases e0 : zg_dc al lo hi k g = 0
      · rw [e0, zg_sI0] at y
        exact absurd y.symm (zl_nIm1 (by omega))
      · rcases (zg_dcM al lo hi k g).1 with z0 | z0
        · exact absurd z0 e0
        · have hr2 := H.1 _ z0.1
          have h64 := hr2.1.1
          rw [zg_sIs e0, nI_eq (by omega) (by omega)] at y
          exact zg_inj hr2 hr y
theorem zy_dg {post : Int32 → Prop} {a k : Nat} {G : List Nat} (H : zy_H al kd lo hi lv ip va pl yS yK yL yH yV yE yI) (ha : al a = true) (hk : k < 24) (hg : ygc = nI G.length) (h6 : G.length ≤ 6) (hA : zl_At yg 0 id G) (hG : ∀ g, g ∈ G → g ≤ 600) (h1 : zg_dg al lo hi G a k = true → post 1) (h0 : ¬ zg_dg al lo hi G a k = true → post 0) : wpY_decidesGuarded post (ykc, yml, yhl, ynl, yla, yfl, yjr, yjs, yjl, yjt, yjo, yjh, ygc, yS, yK, yL, yH, yV, yE, yI, yT, ysO, ysM, yiO, yiM, yiL, yiH, yiP, yiK, yg) (nI (pl a)) (nI k) := by
  unfold wpY_decidesGuarded
  dsimp only
  exact ⟨7, zy_dg_l H ha hk hg G 0 6 (by omega) (by omega) h6 hA hG h1 h0⟩
theorem zy_op_l {post : Int32 → Prop} {k s : Nat} (H : zy_H al kd lo hi lv ip va pl yS yK yL yH yV yE yI) (hk : k < 24) (hs : s ≤ 600) (h1 : (∃ p, al p = true ∧ kd p = 1 ∧ lo p = k ∧ p < s ∧ ¬ yT (pl p) = 0) → post 1) (h0 : ¬ (∃ p, al p = true ∧ kd p = 1 ∧ lo p = k ∧ p < s ∧ ¬ yT (pl p) = 0) → post 0) :
    ∀ (d i : Nat), i + d = 64 → (∀ p, al p = true → pl p < i → ¬ (kd p = 1 ∧ lo p = k ∧ p < s ∧ ¬ yT (pl p) = 0)) → wY_olderPutStays_2 post (nI k) (nI s) ykc yml yhl ynl yla yfl yjr yjs yjl yjt yjo yjh ygc yS yK yL yH yV yE yI yT ysO ysM yiO yiM yiL yiH yiP yiK yg (d + 1) (nI i) := by
  intro d
  induction d with
  | zero =>
    intro i hd hno
    rw [wY_olderPutStays_2]
    dsimp only
    exact br_t (nI_le (a := 64) (by omega) (by omega)) (h0 (fun ⟨p, p1, p2⟩ => hno p p1 (by have := (H.1 p p1).1.1; omega) p2))
  | succ d ih =>
    intro i hd hno
    rw [wY_olderPutStays_2]
    dsimp only
    rw [nI_clamp (by omega : i < 2 ^ 31)]
    have wi : vp_in (nI i) 64 := vp_in_nI (by omega) (by omega)
    have hskip : (∀ p, al p = true → pl p = i → ¬ (kd p = 1 ∧ lo p = k ∧ p < s ∧ ¬ yT (pl p) = 0)) → wY_olderPutStays_2 post (nI k) (nI s) ykc yml yhl ynl yla yfl yjr yjs yjl yjt yjo yjh ygc yS yK yL yH yV yE yI yT ysO ysM yiO yiM yiL yiH yiP yiK yg (d + 1) (nI (i + 1)) := fun hn =>
      ih (i + 1) (by omega) (fun p p1 p2 => by
        by_cases c : pl p = i
        · exact hn p p1 c
        · exact hno p p1 (by omega))
    refine br_f (nI_ge (b := 64) (by omega) (by omega)) ⟨wi, ?_⟩
    rcases zy_pl H (i := i) (by omega) with ⟨e, hn⟩ | ⟨n, hn, e, hne⟩
    · exact br_t e (nm_r (nI_1 i) (hskip (fun p p1 p2 => absurd p2 (hn p p1))))
    · subst e
      obtain ⟨⟨r1, r2, r3, r4, r45, -⟩, r5, r6, r7, r8, r9, r10, -⟩ := H.1 n hn
      have hsk2 : ¬ (kd n = 1 ∧ lo n = k ∧ n < s ∧ ¬ yT (pl n) = 0) → wY_olderPutStays_2 post (nI k) (nI s) ykc yml yhl ynl yla yfl yjr yjs yjl yjt yjo yjh ygc yS yK yL yH yV yE yI yT ysO ysM yiO yiM yiL yiH yiP yiK yg (d + 1) (nI (pl n + 1)) := fun hc => hskip (fun x h3 h4 => by rw [zy_inj H h3 hn h4]; exact hc)
      refine br_f hne ⟨wi, ?_⟩
      rw [r3, r4, r2]
      exact pk_eq (kd n) 1 (fun e1 => ⟨wi, pk_eq (lo n) k (fun e2 => ⟨wi, pk_le s n (fun e3 => nm_r (nI_1 _) (hsk2 (fun w => by omega))) (fun e3 => ⟨wi, br_c (fun e4 => nm_r (nI_1 _) (hsk2 (fun w => w.2.2.2 e4))) (fun e4 => h1 ⟨n, hn, e1, e2, e3, e4⟩)⟩)⟩) (fun e2 => nm_r (nI_1 _) (hsk2 (fun w => e2 w.2.1)))⟩) (fun e1 => nm_r (nI_1 _) (hsk2 (fun w => e1 w.1)))
theorem zy_op {post : Int32 → Prop} {k s : Nat} (H : zy_H al kd lo hi lv ip va pl yS yK yL yH yV yE yI) (hk : k < 24) (hs : s ≤ 600) (h1 : (∃ p, al p = true ∧ kd p = 1 ∧ lo p = k ∧ p < s ∧ ¬ yT (pl p) = 0) → post 1) (h0 : ¬ (∃ p, al p = true ∧ kd p = 1 ∧ lo p = k ∧ p < s ∧ ¬ yT (pl p) = 0) → post 0) : wpY_olderPutStays post (ykc, yml, yhl, ynl, yla, yfl, yjr, yjs, yjl, yjt, yjo, yjh, ygc, yS, yK, yL, yH, yV, yE, yI, yT, ysO, ysM, yiO, yiM, yiL, yiH, yiP, yiK, yg) (nI k) (nI s) := by
  unfold wpY_olderPutStays
  dsimp only
  exact ⟨65, zy_op_l H hk hs h1 h0 64 0 (by omega) (fun p _ hp => by omega)⟩
end
/-- the two answers of 'stays' -/
def zc_1 (al : Nat → Bool) (kd lo hi ip : Nat → Nat) (G : List Nat) (n : Nat) : Int32 := if ip n = 0 ∨ (kd n = 1 ∧ zg_dg al lo hi G n (lo n) = true) then 1 else 0
def zc_2 (al : Nat → Bool) (kd lo hi ip : Nat → Nat) (G : List Nat) (n : Nat) : Int32 := if ip n = 0 ∨ zg_st al kd lo hi ip G n = true then 1 else 0
theorem zc_12 {al : Nat → Bool} {kd lo hi ip : Nat → Nat} {G : List Nat} {n : Nat} (h : ip n = 0 ∨ kd n = 1) : zc_2 al kd lo hi ip G n = zc_1 al kd lo hi ip G n := by
  unfold zc_1 zc_2
  by_cases e : ip n = 0
  · rw [if_pos (Or.inl e), if_pos (Or.inl e)]
  · have k := h.resolve_left e
    rw [zg_st1 k]
    by_cases c : zg_dg al lo hi G n (lo n) = true
    · rw [if_pos (Or.inr c), if_pos (Or.inr ⟨k, c⟩)]
    · rw [if_neg (fun z => z.elim e c), if_neg (fun z => z.elim e (fun w => c w.2))]
theorem zc_1p {al : Nat → Bool} {kd lo hi ip : Nat → Nat} {G : List Nat} {n : Nat} (k : kd n = 1) : (¬ zc_1 al kd lo hi ip G n = 0) ↔ (ip n = 0 ∨ zg_dg al lo hi G n (lo n) = true) := by
  unfold zc_1
  by_cases c : ip n = 0 ∨ (kd n = 1 ∧ zg_dg al lo hi G n (lo n) = true)
  · rw [if_pos c]
    exact ⟨fun _ => c.imp id (fun z => z.2), fun _ => zl_10⟩
  · rw [if_neg c]
    exact ⟨fun z => absurd rfl z, fun z => absurd (z.imp id (fun w => ⟨k, w⟩)) c⟩
section
variable {ykc yml yhl ynl yla yfl yjr yjs yjl yjt yjo yjh ygc : Int32} {yS yK yL yH yV yE yI yT ysO ysM yiO yiM yiL yiH yiP yiK yg : Nat → Int32} {al : Nat → Bool} {kd lo hi lv ip : Nat → Nat} {va : Nat → Int32} {pl : Nat → Nat}
theorem zy_c2 {post : SY → Prop} {G : List Nat} (H : zy_H al kd lo hi lv ip va pl yS yK yL yH yV yE yI) (hg : ygc = nI G.length) (h6 : G.length ≤ 6) (hA : zl_At yg 0 id G) (hG : ∀ g, g ∈ G → g ≤ 600)
    (h : ∀ yT' : Nat → Int32, (∀ n, al n = true → yT' (pl n) = zc_1 al kd lo hi ip G n) → ∃ n60 : Nat, wY_complete_60 post ykc yml yhl ynl yla yfl yjr yjs yjl yjt yjo yjh ygc n60 0 yS yK yL yH yV yE yI yT' ysO ysM yiO yiM yiL yiH yiP yiK yg) :
    ∀ (d i : Nat) (yT : Nat → Int32), i + d = 64 → (∀ n, al n = true → pl n < i → yT (pl n) = zc_1 al kd lo hi ip G n) → wY_complete_2 post ykc yml yhl ynl yla yfl yjr yjs yjl yjt yjo yjh ygc (d + 1) (nI i) yS yK yL yH yV yE yI yT ysO ysM yiO yiM yiL yiH yiP yiK yg := by
  intro d
  induction d with
  | zero =>
    intro i yT hd hT
    rw [wY_complete_2]
    dsimp only
    exact br_t (nI_le (a := 64) (by omega) (by omega)) (h yT (fun n hn => hT n hn (by have := (H.1 n hn).1.1; omega)))
  | succ d ih =>
    intro i yT hd hT
    have wi : vp_in (nI i) 64 := vp_in_nI (by omega) (by omega)
    have hset : ∀ v : Int32, (∀ n, al n = true → pl n = i → v = zc_1 al kd lo hi ip G n) → wY_complete_2 post ykc yml yhl ynl yla yfl yjr yjs yjl yjt yjo yjh ygc (d + 1) (nI (i + 1)) yS yK yL yH yV yE yI (upd yT i v) ysO ysM yiO yiM yiL yiH yiP yiK yg := fun v hv =>
      ih (i + 1) _ (by omega) (fun n hn hlt => by
        by_cases c : pl n = i
        · rw [c, pk_us]; exact hv n hn c
        · rw [pk_un c]; exact hT n hn (by omega))
    rw [wY_complete_2]
    dsimp only
    rw [nI_clamp (by omega : i < 2 ^ 31), zl_nb0, zl_nb1]
    refine br_f (nI_ge (b := 64) (by omega) (by omega)) ⟨wi, ?_⟩
    rcases zy_pl H (i := i) (by omega) with ⟨e, hno⟩ | ⟨n, hn, e, hne⟩
    · exact br_t (H.2.2.2.2 i (by omega) e) ⟨wi, nm_e (nm_r (nI_1 i) (hset 1 (fun n h1 h2 => absurd h2 (hno n h1))))⟩
    · subst e
      obtain ⟨⟨r1, r2, r3, r4, r45, -⟩, r5, r6, r7, r8, r9, r10, -⟩ := H.1 n hn
      have hset2 : ∀ v : Int32, v = zc_1 al kd lo hi ip G n → wY_complete_2 post ykc yml yhl ynl yla yfl yjr yjs yjl yjt yjo yjh ygc (d + 1) (nI (pl n + 1)) yS yK yL yH yV yE yI (upd yT (pl n) v) ysO ysM yiO yiM yiL yiH yiP yiK yg := fun v hv => hset v (fun m h1 h2 => by rw [zy_inj H h1 hn h2]; exact hv)
      rw [(H.2.2.1 n hn).1, r3, r4]
      have hi1 := (H.2.2.1 n hn).2
      refine pk_eq (ip n) 0 (fun e => ⟨wi, nm_e (nm_r (nI_1 _) (hset2 1 (by unfold zc_1; rw [if_pos (Or.inl e)])))⟩) (fun e => ⟨wi, pk_eq (kd n) 1 (fun e1 => ⟨wi, zy_dg H hn (by omega) hg h6 hA hG (fun w => br_f zl_10 ⟨wi, nm_e (nm_r (nI_1 _) (hset2 1 ?_))⟩) (fun w => br_t rfl ⟨wi, nm_e (nm_r (nI_1 _) (hset2 0 ?_))⟩)⟩) (fun e1 => ⟨wi, nm_e (nm_r (nI_1 _) (hset2 0 ?_))⟩)⟩)
      · unfold zc_1; rw [if_pos (Or.inr ⟨e1, w⟩)]
      · unfold zc_1; rw [if_neg (fun z => z.elim e (fun y => w y.2))]
      · unfold zc_1; rw [if_neg (fun z => z.elim e (fun y => e1 y.1))]
theorem zy_c87 {post : SY → Prop} {J : _} {G : List Nat} {n : Nat} (H : zy_H al kd lo hi lv ip va pl yS yK yL yH yV yE yI) (hg : ygc = nI G.length) (h6 : G.length ≤ 6) (hA : zl_At yg 0 id G) (hG : ∀ g, g ∈ G → g ≤ 600) (hn : al n = true) (hk1 : ¬ kd n = 1) (hi1 : ¬ ip n = 0)
    (h : ∀ yT' : Nat → Int32, yT' (pl n) = zc_2 al kd lo hi ip G n → (∀ m, al m = true → m ≠ n → yT' (pl m) = yT (pl m)) → J (nI (pl n + 1)) yS yK yL yH yV yE yI yT' ysO ysM yiO yiM yiL yiH yiP yiK yg) (hT1 : ∀ m, al m = true → kd m = 1 → yT (pl m) = zc_1 al kd lo hi ip G m) :
    ∀ (d k : Nat) (yT0 : Nat → Int32), k + d = 24 → yT0 (pl n) = (if ∃ j, j < k ∧ zg_op al kd lo hi ip G n j = true ∧ zg_dg al lo hi G n j = true then 1 else 0) → (∀ m, al m = true → m ≠ n → yT0 (pl m) = yT (pl m)) → wY_complete_87 post J (nI (pl n)) ykc yml yhl ynl yla yfl yjr yjs yjl yjt yjo yjh ygc (d + 1) (nI k) yS yK yL yH yV yE yI yT0 ysO ysM yiO yiM yiL yiH yiP yiK yg := by
  obtain ⟨⟨r1, r2, r3, r4, r45, -⟩, r5, r6, r7, r8, r9, r10, -⟩ := H.1 n hn
  have wi : vp_in (nI (pl n)) 64 := vp_in_nI r1 (by omega)
  intro d
  induction d with
  | zero =>
    intro k yT0 hd he ho
    rw [wY_complete_87]
    dsimp only
    refine br_t (nI_le (a := 24) (by omega) (by omega)) (nm_r (nI_1 _) (h yT0 ?_ ho))
    rw [he]
    unfold zc_2
    have ek : k = 24 := by omega
    subst ek
    by_cases c : ∃ j, j < 24 ∧ zg_op al kd lo hi ip G n j = true ∧ zg_dg al lo hi G n j = true
    · rw [if_pos c, if_pos (Or.inr ((zg_stn hk1).mpr c))]
    · rw [if_neg c, if_neg (fun z => z.elim hi1 (fun w => c ((zg_stn hk1).mp w)))]
  | succ d ih =>
    intro k yT0 hd he ho
    have hnext0 : ¬ (zg_op al kd lo hi ip G n k = true ∧ zg_dg al lo hi G n k = true) → wY_complete_87 post J (nI (pl n)) ykc yml yhl ynl yla yfl yjr yjs yjl yjt yjo yjh ygc (d + 1) (nI (k + 1)) yS yK yL yH yV yE yI yT0 ysO ysM yiO yiM yiL yiH yiP yiK yg := fun hno => by
      refine ih (k + 1) yT0 (by omega) ?_ ho
      rw [he]
      by_cases c : ∃ j, j < k ∧ zg_op al kd lo hi ip G n j = true ∧ zg_dg al lo hi G n j = true
      · obtain ⟨j, j1, j2⟩ := c
        rw [if_pos ⟨j, j1, j2⟩, if_pos ⟨j, by omega, j2⟩]
      · rw [if_neg c, if_neg (fun ⟨j, j1, j2⟩ => by
          by_cases e : j = k
          · subst e; exact hno j2
          · exact c ⟨j, by omega, j2⟩)]
    have hop : (∃ p, al p = true ∧ kd p = 1 ∧ lo p = k ∧ p < n ∧ ¬ yT0 (pl p) = 0) ↔ zg_op al kd lo hi ip G n k = true := by
      rw [zg_op_iff]
      constructor
      · rintro ⟨p, p1, p2, p3, p4, p5⟩
        refine ⟨p, p4, p1, p2, p3, ?_⟩
        rw [ho p p1 (by omega), hT1 p p1 p2, zc_1p p2, p3] at p5
        exact p5
      · rintro ⟨p, p4, p1, p2, p3, p5⟩
        refine ⟨p, p1, p2, p3, p4, ?_⟩
        rw [ho p p1 (by omega), hT1 p p1 p2, zc_1p p2, p3]
        exact p5
    rw [wY_complete_87]
    dsimp only
    rw [nI_clamp (by omega : pl n < 2 ^ 31), r2, zl_nb1]
    refine br_f (nI_ge (b := 24) (by omega) (by omega)) ⟨wi, zy_op H (by omega) (by omega) (fun w => br_f zl_10 (zy_dg H hn (by omega) hg h6 hA hG (fun w2 => br_f zl_10 ⟨wi, nm_e (nm_r (nI_1 k) (ih (k + 1) _ (by omega) ?_ (fun m m1 m2 => ?_)))⟩) (fun w2 => br_t rfl (nm_r (nI_1 k) (hnext0 (fun z => w2 z.2)))))) (fun w => br_t rfl (nm_r (nI_1 k) (hnext0 (fun z => w (hop.mpr z.1)))))⟩
    · rw [pk_us, if_pos ⟨k, by omega, hop.mp w, w2⟩]
    · rw [pk_un (fun e => m2 (zy_inj H m1 hn e))]
      exact ho m m1 m2
theorem zy_c60 {post : SY → Prop} {G : List Nat} (H : zy_H al kd lo hi lv ip va pl yS yK yL yH yV yE yI) (hg : ygc = nI G.length) (h6 : G.length ≤ 6) (hA : zl_At yg 0 id G) (hG : ∀ g, g ∈ G → g ≤ 600)
    (h : ∀ yT' : Nat → Int32, (∀ n, al n = true → yT' (pl n) = zc_2 al kd lo hi ip G n) → ∃ n137 : Nat, wY_complete_137 post ykc yml yhl ynl yla yfl yjr yjs yjl yjt yjo yjh ygc n137 0 yS yK yL yH yV yE yI yT' ysO ysM yiO yiM yiL yiH yiP yiK yg) :
    ∀ (d i : Nat) (yT : Nat → Int32), i + d = 64 → (∀ n, al n = true → yT (pl n) = if pl n < i then zc_2 al kd lo hi ip G n else zc_1 al kd lo hi ip G n) → wY_complete_60 post ykc yml yhl ynl yla yfl yjr yjs yjl yjt yjo yjh ygc (d + 1) (nI i) yS yK yL yH yV yE yI yT ysO ysM yiO yiM yiL yiH yiP yiK yg := by
  intro d
  induction d with
  | zero =>
    intro i yT hd hT
    rw [wY_complete_60]
    dsimp only
    exact br_t (nI_le (a := 64) (by omega) (by omega)) (h yT (fun n hn => by rw [hT n hn, if_pos (by have := (H.1 n hn).1.1; omega)]))
  | succ d ih =>
    intro i yT hd hT
    have wi : vp_in (nI i) 64 := vp_in_nI (by omega) (by omega)
    have hskip : (∀ n, al n = true → pl n = i → ip n = 0 ∨ kd n = 1) → wY_complete_60 post ykc yml yhl ynl yla yfl yjr yjs yjl yjt yjo yjh ygc (d + 1) (nI (i + 1)) yS yK yL yH yV yE yI yT ysO ysM yiO yiM yiL yiH yiP yiK yg := fun hs =>
      ih (i + 1) yT (by omega) (fun n hn => by
        rw [hT n hn]
        by_cases c : pl n < i
        · rw [if_pos c, if_pos (by omega)]
        · rw [if_neg c]
          by_cases c2 : pl n = i
          · rw [if_pos (by omega), zc_12 (hs n hn c2)]
          · rw [if_neg (by omega)])
    rw [wY_complete_60]
    dsimp only
    rw [nI_clamp (by omega : i < 2 ^ 31)]
    refine br_f (nI_ge (b := 64) (by omega) (by omega)) ⟨wi, ?_⟩
    rcases zy_pl H (i := i) (by omega) with ⟨e, hno⟩ | ⟨n, hn, e, hne⟩
    · exact br_t (H.2.2.2.2 i (by omega) e) (nm_r (nI_1 i) (hskip (fun n h1 h2 => absurd h2 (hno n h1))))
    · subst e
      obtain ⟨⟨r1, r2, r3, r4, r45, -⟩, r5, r6, r7, r8, r9, r10, -⟩ := H.1 n hn
      have hi1 := (H.2.2.1 n hn).2
      rw [(H.2.2.1 n hn).1, r3]
      refine pk_eq (ip n) 0 (fun e => nm_r (nI_1 _) (hskip (fun m h1 h2 => by rw [zy_inj H h1 hn h2]; exact Or.inl e))) (fun e => ⟨wi, pk_eq (kd n) 1 (fun e1 => nm_r (nI_1 _) (hskip (fun m h1 h2 => by rw [zy_inj H h1 hn h2]; exact Or.inr e1))) (fun e1 => ⟨25, ?_⟩)⟩)
      refine zy_c87 H hg h6 hA hG hn e1 e (fun yT' t1 t2 => ih (pl n + 1) yT' (by omega) (fun m hm => ?_)) (fun m m1 m2 => ?_) 24 0 yT (by omega) ?_ (fun m _ _ => rfl)
      · by_cases c : m = n
        · subst c
          rw [t1, if_pos (by omega)]
        · have hne2 : pl m ≠ pl n := fun q => c (zy_inj H hm hn q)
          rw [t2 m hm c, hT m hm]
          by_cases c2 : pl m < pl n
          · rw [if_pos c2, if_pos (by omega)]
          · rw [if_neg c2, if_neg (by omega)]
      · rw [hT m m1]
        by_cases c : pl m < pl n
        · rw [if_pos c, zc_12 (Or.inr m2)]
        · rw [if_neg c]
      · rw [hT n hn, if_neg (by omega), if_neg (fun ⟨j, j1, _⟩ => by omega)]
        unfold zc_1
        rw [if_neg (fun z => z.elim e (fun y => e1 y.1))]
theorem zy_c162 {post : SY → Prop} {J : _} {i : Nat} (hi' : i < 64) (h0 : yT i = 0 → J (nI (i + 1)) (upd yS i 0) yK yL yH yV yE yI yT ysO ysM yiO yiM yiL yiH yiP yiK yg) (h1 : ¬ yT i = 0 → J (nI (i + 1)) yS yK yL yH yV yE yI yT ysO ysM yiO yiM yiL yiH yiP yiK yg) : wY_complete_162 post J (nI i) ykc yml yhl ynl yla yfl yjr yjs yjl yjt yjo yjh ygc yS yK yL yH yV yE yI yT ysO ysM yiO yiM yiL yiH yiP yiK yg := by
  unfold wY_complete_162
  rw [nI_clamp (by omega : i < 2 ^ 31)]
  have wi : vp_in (nI i) 64 := vp_in_nI (by omega) (by omega)
  exact ⟨wi, br_c (fun z => ⟨wi, nm_e (nm_r (nI_1 i) (h0 z))⟩) (fun z => nm_r (nI_1 i) (h1 z))⟩
theorem zy_c137 {post : SY → Prop} {G : List Nat} {JT : Nat} (H : zy_H al kd lo hi lv ip va pl yS yK yL yH yV yE yI) (hT : ∀ n, al n = true → yT (pl n) = zc_2 al kd lo hi ip G n) (hjt : yjt = nI JT)
    (h : ∀ yS' yE' yI' : Nat → Int32, (∀ n, al n = true → yS' (pl n) = (if ip n = 0 ∨ zg_st al kd lo hi ip G n = true then nI n else 0) ∧ yE' (pl n) = nI (if ip n = 1 then JT else lv n)) → (∀ i, i < 64 → yS i = 0 → yS' i = 0) → (∀ i, i < 64 → yI' i = 0) → post (ykc, yml, yhl, ynl, yla, yfl, 0, 0, yjl, yjt, yjo, yjh, 0, yS', yK, yL, yH, yV, yE', yI', yT, ysO, ysM, yiO, yiM, yiL, yiH, yiP, yiK, yg)) :
    ∀ (d i : Nat) (yS1 yE1 : Nat → Int32), i + d = 64 → (∀ n, al n = true → pl n < i → yS1 (pl n) = (if ip n = 0 ∨ zg_st al kd lo hi ip G n = true then nI n else 0) ∧ yE1 (pl n) = nI (if ip n = 1 then JT else lv n)) → (∀ j, i ≤ j → j < 64 → yS1 j = yS j ∧ yE1 j = yE j) → (∀ j, j < 64 → yS j = 0 → yS1 j = 0) → wY_complete_137 post ykc yml yhl ynl yla yfl yjr yjs yjl yjt yjo yjh ygc (d + 1) (nI i) yS1 yK yL yH yV yE1 yI yT ysO ysM yiO yiM yiL yiH yiP yiK yg := by
  intro d
  induction d with
  | zero =>
    intro i yS1 yE1 hd k1 k2 k3
    rw [wY_complete_137]
    dsimp only
    exact br_t (nI_le (a := 64) (by omega) (by omega)) (zy_ej (fun yI' hz => h yS1 yE1 yI' (fun n hn => k1 n hn (by have := (H.1 n hn).1.1; omega)) k3 hz))
  | succ d ih =>
    intro i yS1 yE1 hd k1 k2 k3
    have wi : vp_in (nI i) 64 := vp_in_nI (by omega) (by omega)
    obtain ⟨s1, e1⟩ := k2 i (by omega) (by omega)
    have hgo : ∀ yS2 yE2 : Nat → Int32, (∀ j, j ≠ i → yS2 j = yS1 j ∧ yE2 j = yE1 j) → (yS i = 0 → yS2 i = 0) → (∀ n, al n = true → pl n = i → yS2 i = (if ip n = 0 ∨ zg_st al kd lo hi ip G n = true then nI n else 0) ∧ yE2 i = nI (if ip n = 1 then JT else lv n)) → wY_complete_137 post ykc yml yhl ynl yla yfl yjr yjs yjl yjt yjo yjh ygc (d + 1) (nI (i + 1)) yS2 yK yL yH yV yE2 yI yT ysO ysM yiO yiM yiL yiH yiP yiK yg := fun yS2 yE2 q1 q2 q3 =>
      ih (i + 1) yS2 yE2 (by omega) (fun n hn hlt => by
        by_cases c : pl n = i
        · rw [c]; exact q3 n hn c
        · rw [(q1 _ c).1, (q1 _ c).2]; exact k1 n hn (by omega)) (fun j j1 j2 => by
        rw [(q1 j (by omega)).1, (q1 j (by omega)).2]; exact k2 j (by omega) j2) (fun j j1 j2 => by
        by_cases c : j = i
        · rw [c]; rw [c] at j2; exact q2 j2
        · rw [(q1 j c).1]; exact k3 j j1 j2)
    rw [wY_complete_137]
    dsimp only
    rw [nI_clamp (by omega : i < 2 ^ 31)]
    refine br_f (nI_ge (b := 64) (by omega) (by omega)) ⟨wi, ?_⟩
    rcases zy_pl H (i := i) (by omega) with ⟨e, hno⟩ | ⟨n, hn, e, hne⟩
    · exact br_t (H.2.2.2.2 i (by omega) e) (zy_c162 (by omega) (fun _ => hgo _ yE1 (fun j hj => ⟨pk_un hj, rfl⟩) (fun _ => pk_us) (fun n h1 h2 => absurd h2 (hno n h1))) (fun _ => hgo yS1 yE1 (fun _ _ => ⟨rfl, rfl⟩) (fun z => s1.trans z) (fun n h1 h2 => absurd h2 (hno n h1))))
    · subst e
      have hTn := hT n hn
      have hi1 := (H.2.2.1 n hn).2
      have hsn : yS1 (pl n) = nI n := s1.trans (H.1 n hn).1.2.1
      have hen : yE1 (pl n) = nI (lv n) := e1.trans (H.2.1 n hn).1
      have hfin : ∀ yE2 : Nat → Int32, (∀ j, j ≠ pl n → yE2 j = yE1 j) → yE2 (pl n) = nI (if ip n = 1 then JT else lv n) → wY_complete_162 post (wY_complete_137 post ykc yml yhl ynl yla yfl yjr yjs yjl yjt yjo yjh ygc (d + 1)) (nI (pl n)) ykc yml yhl ynl yla yfl yjr yjs yjl yjt yjo yjh ygc yS1 yK yL yH yV yE2 yI yT ysO ysM yiO yiM yiL yiH yiP yiK yg := fun yE2 q1 q2 => by
        refine zy_c162 (by omega) (fun z => hgo _ yE2 (fun j hj => ⟨pk_un hj, q1 j hj⟩) (fun w => absurd w hne) (fun m h1 h2 => ?_)) (fun z => hgo yS1 yE2 (fun j hj => ⟨rfl, q1 j hj⟩) (fun w => absurd w hne) (fun m h1 h2 => ?_))
        · rw [zy_inj H h1 hn h2, pk_us]
          refine ⟨?_, q2⟩
          rw [hTn] at z
          unfold zc_2 at z
          by_cases c : ip n = 0 ∨ zg_st al kd lo hi ip G n = true
          · rw [if_pos c] at z; exact absurd z zl_10
          · rw [if_neg c]
        · rw [zy_inj H h1 hn h2]
          refine ⟨?_, q2⟩
          rw [hTn] at z
          unfold zc_2 at z
          by_cases c : ip n = 0 ∨ zg_st al kd lo hi ip G n = true
          · rw [if_pos c]; exact hsn
          · rw [if_neg c] at z; exact absurd rfl z
      rw [(H.2.2.1 n hn).1]
      refine pk_eq (ip n) 0 (fun e => hfin yE1 (fun _ _ => rfl) (by rw [if_neg (by omega)]; exact hen)) (fun e => ⟨wi, nm_e (hfin _ (fun j hj => pk_un hj) ?_)⟩)
      rw [pk_us, if_pos (by omega)]
      exact hjt
theorem zy_comp {post : SY → Prop} {G : List Nat} {JT : Nat} (H : zy_H al kd lo hi lv ip va pl yS yK yL yH yV yE yI) (hg : ygc = nI G.length) (h6 : G.length ≤ 6) (hA : zl_At yg 0 id G) (hG : ∀ g, g ∈ G → g ≤ 600) (hjt : yjt = nI JT) (hJT : JT ≤ 4)
    (h : ∀ yS' yE' yI' yT' : Nat → Int32, zy_H (fun n => al n && (ip n == 0 || zg_st al kd lo hi ip G n)) kd lo hi (fun n => if ip n = 1 then JT else lv n) (fun _ => 0) va pl yS' yK yL yH yV yE' yI' → post (ykc, yml, yhl, ynl, yla, yfl, 0, 0, yjl, yjt, yjo, yjh, 0, yS', yK, yL, yH, yV, yE', yI', yT', ysO, ysM, yiO, yiM, yiL, yiH, yiP, yiK, yg)) : wpY_complete post (ykc, yml, yhl, ynl, yla, yfl, yjr, yjs, yjl, yjt, yjo, yjh, ygc, yS, yK, yL, yH, yV, yE, yI, yT, ysO, ysM, yiO, yiM, yiL, yiH, yiP, yiK, yg) := by
  unfold wpY_complete
  dsimp only
  refine ⟨65, zy_c2 H hg h6 hA hG (fun yT1 hT1 => ⟨65, zy_c60 H hg h6 hA hG (fun yT2 hT2 => ⟨65, zy_c137 (G := G) H hT2 hjt (fun yS' yE' yI' q1 q2 q3 => h yS' yE' yI' yT2 ?_) 64 0 yS yE (by omega) (fun n _ hp => by omega) (fun _ _ _ => ⟨rfl, rfl⟩) (fun _ _ z => z)⟩) 64 0 yT1 (by omega) (fun n hn => by rw [hT1 n hn, if_neg (by omega)])⟩) 64 0 yT (by omega) (fun n _ hp => by omega)⟩
  have hsplit : ∀ n, (al n && (ip n == 0 || zg_st al kd lo hi ip G n)) = true ↔ al n = true ∧ (ip n = 0 ∨ zg_st al kd lo hi ip G n = true) := fun n => by
    rw [Bool.and_eq_true, Bool.or_eq_true, beq_iff_eq]
  refine ⟨fun n hn => ?_, fun n hn => ?_, fun n hn => ?_, fun i hi' hs => ?_, fun i hi' hs => q3 i hi'⟩
  · obtain ⟨n1, n2⟩ := (hsplit n).mp hn
    have hr := H.1 n n1
    have hs := (q1 n n1).1
    rw [if_pos n2] at hs
    exact ⟨⟨hr.1.1, hs, hr.1.2.2⟩, hr.2⟩
  · obtain ⟨n1, n2⟩ := (hsplit n).mp hn
    refine ⟨(q1 n n1).2, ?_⟩
    dsimp only
    have := (H.2.1 n n1).2
    by_cases c : ip n = 1
    · rw [if_pos c]; exact hJT
    · rw [if_neg c]; exact this
  · obtain ⟨n1, n2⟩ := (hsplit n).mp hn
    exact ⟨q3 _ (H.1 n n1).1.1, Or.inl rfl⟩
  · by_cases c : yS i = 0
    · exact absurd (q2 i hi' c) hs
    · obtain ⟨n, n1, n2⟩ := H.2.2.2.1 i hi' c
      refine ⟨n, (hsplit n).mpr ⟨n1, ?_⟩, n2⟩
      have hs2 := (q1 n n1).1
      rw [n2] at hs2
      by_cases c2 : ip n = 0 ∨ zg_st al kd lo hi ip G n = true
      · exact c2
      · rw [if_neg c2] at hs2; exact absurd hs2 hs
end
end
section
section
variable {ykc yml yhl ynl yla yfl yjr yjs yjl yjt yjo yjh ygc : Int32} {yS yK yL yH yV yE yI yT ysO ysM yiO yiM yiL yiH yiP yiK yg : Nat → Int32} {al : Nat → Bool} {kd lo hi lv ip : Nat → Nat} {va : Nat → Int32} {pl : Nat → Nat}
theorem zy_133 {post : Int32 → SY → Prop} {J : _} {x1 x2 x3 x4 : Int32} {N i : Nat} (hi' : i < 64) (h : J (nI N) (nI (i + 1)) yS yK yL yH yV yE (upd yI i 0) yT ysO ysM yiO yiM yiL yiH yiP yiK yg) : wY_startCompaction_133 post J x1 x2 x3 x4 (nI N) (nI i) (nI i) ykc yml yhl ynl yla yfl yjr yjs yjl yjt yjo yjh ygc yS yK yL yH yV yE yI yT ysO ysM yiO yiM yiL yiH yiP yiK yg := by
  unfold wY_startCompaction_133 wY_startCompaction_134
  rw [nI_clamp (by omega : i < 2 ^ 31), zl_nb0]
  have wi : vp_in (nI i) 64 := vp_in_nI hi' (by omega)
  exact ⟨wi, nm_e ⟨wi, br_t pk_us (nm_r (nI_1 i) h)⟩⟩
theorem zy_134 {post : Int32 → SY → Prop} {J : _} {x1 x2 x3 x4 : Int32} {N i : Nat} (hi' : i < 64) (h : J (nI (N + 1)) (nI (i + 1)) yS yK yL yH yV yE (upd yI i 1) yT ysO ysM yiO yiM yiL yiH yiP yiK yg) : wY_startCompaction_134 post J x1 x2 x3 x4 (nI N) (nI i) 1 (nI i) ykc yml yhl ynl yla yfl yjr yjs yjl yjt yjo yjh ygc yS yK yL yH yV yE yI yT ysO ysM yiO yiM yiL yiH yiP yiK yg := by
  unfold wY_startCompaction_134
  rw [nI_clamp (by omega : i < 2 ^ 31), zl_nb1]
  have wi : vp_in (nI i) 64 := vp_in_nI hi' (by omega)
  exact ⟨wi, nm_e ⟨wi, br_f (by rw [pk_us]; exact zl_10) (nm_r (nI_1 N) (nm_r (nI_1 i) h))⟩⟩
theorem zy_107 {yI1 : Nat → Int32} {post : Int32 → SY → Prop} {J : _} {x1 x4 : Int32} {N n a b : Nat} (H : zy_H al kd lo hi lv ip va pl yS yK yL yH yV yE yI) (hn : al n = true) (ha : a < 100) (hb : b < 100) (h1 : zf_in lo hi a b n = true → J (nI (N + 1)) (nI (pl n + 1)) yS yK yL yH yV yE (upd yI1 (pl n) 1) yT ysO ysM yiO yiM yiL yiH yiP yiK yg) (h0 : ¬ zf_in lo hi a b n = true → J (nI N) (nI (pl n + 1)) yS yK yL yH yV yE (upd yI1 (pl n) 0) yT ysO ysM yiO yiM yiL yiH yiP yiK yg) : wY_startCompaction_107 post J x1 (nI a) (nI b) x4 (nI N) (nI (pl n)) (nI (pl n)) ykc yml yhl ynl yla yfl yjr yjs yjl yjt yjo yjh ygc yS yK yL yH yV yE yI1 yT ysO ysM yiO yiM yiL yiH yiP yiK yg := by
  obtain ⟨⟨r1, r2, r3, r4, r45, -⟩, r5, r6, r7, r8, r9, r10, -⟩ := H.1 n hn
  have wi : vp_in (nI (pl n)) 64 := vp_in_nI r1 (by omega)
  unfold wY_startCompaction_107
  rw [nI_clamp (by omega : pl n < 2 ^ 31), r4, r45]
  exact ⟨wi, pk_lt (lo n) a (fun z => zy_133 r1 (h0 (fun w => by have := (zf_iff.mp w).1; omega))) (fun z => ⟨wi, pk_lt b (hi n) (fun y => zy_133 r1 (h0 (fun w => by have := (zf_iff.mp w).2; omega))) (fun y => zy_134 r1 (h1 (zf_iff.mpr ⟨z, y⟩)))⟩)⟩
theorem zy_61 {post : Int32 → SY → Prop} {JL JT a b : Nat} (H : zy_H al kd lo hi lv ip va pl yS yK yL yH yV yE yI) (hJL : JL ≤ 4) (hJT : JT ≤ 4) (ha : a < 100) (hb : b < 100)
    (h : ∀ (D : List Nat) (yI' : Nat → Int32), D.Nodup → (∀ m, m ∈ D ↔ al m = true ∧ zj_ip lo hi lv a b JL JT m = 1) → zy_H al kd lo hi lv (zj_ip lo hi lv a b JL JT) va pl yS yK yL yH yV yE yI' → ((nI D.length = 0 → post 0 (ykc, yml, yhl, ynl, yla, yfl, yjr, yjs, yjl, yjt, yjo, yjh, ygc, yS, yK, yL, yH, yV, yE, yI', yT, ysO, ysM, yiO, yiM, yiL, yiH, yiP, yiK, yg)) ∧ (¬ nI D.length = 0 → ∃ n169 : Nat, wY_startCompaction_169 post (nI JL) (nI a) (nI b) (nI JT) (nI D.length) n169 1 ykc yml yhl ynl yla yfl yjr yjs yjl yjt yjo yjh 0 yS yK yL yH yV yE yI' yT ysO ysM yiO yiM yiL yiH yiP yiK yg))) :
    ∀ (d i : Nat) (D : List Nat) (yI1 : Nat → Int32), i + d = 64 → D.Nodup → (∀ m, m ∈ D ↔ al m = true ∧ zj_ip lo hi lv a b JL JT m = 1 ∧ pl m < i) → (∀ m, al m = true → pl m < i → yI1 (pl m) = nI (zj_ip lo hi lv a b JL JT m)) → (∀ j, j < i → yS j = 0 → yI1 j = 0) → wY_startCompaction_61 post (nI JL) (nI a) (nI b) (nI JT) ykc yml yhl ynl yla yfl yjr yjs yjl yjt yjo yjh ygc (d + 1) (nI D.length) (nI i) yS yK yL yH yV yE yI1 yT ysO ysM yiO yiM yiL yiH yiP yiK yg := by
  intro d
  induction d with
  | zero =>
    intro i D yI1 hd h1 h2 h3 h4
    rw [wY_startCompaction_61]
    dsimp only
    have h64 : ∀ n, al n = true → pl n < i := fun n hn => by have := (H.1 n hn).1.1; omega
    exact br_t (nI_le (a := 64) (by omega) (by omega)) (h D yI1 h1 (fun m => (h2 m).trans ⟨fun z => ⟨z.1, z.2.1⟩, fun z => ⟨z.1, z.2, h64 m z.1⟩⟩) ⟨H.1, H.2.1, fun n hn => ⟨h3 n hn (h64 n hn), zj_ip01⟩, H.2.2.2.1, fun j hj hs => h4 j (by omega) hs⟩)
  | succ d ih =>
    intro i D yI1 hd h1 h2 h3 h4
    have wi : vp_in (nI i) 64 := vp_in_nI (by omega) (by omega)
    rw [wY_startCompaction_61]
    dsimp only
    rw [nI_clamp (by omega : i < 2 ^ 31)]
    refine br_f (nI_ge (b := 64) (by omega) (by omega)) ⟨wi, ?_⟩
    rcases zy_pl H (i := i) (by omega) with ⟨e, hno⟩ | ⟨n, hn, e, hne⟩
    · refine br_t e (zy_133 (by omega) (ih (i + 1) D _ (by omega) h1 (zy_less (Q := fun m => zj_ip lo hi lv a b JL JT m = 1) (fun m h5 h6 => absurd h6 (hno m h5)) h2) (fun m h5 h6 => ?_) (fun j h5 h6 => ?_)))
      · rw [pk_un (hno m h5)]
        exact h3 m h5 (by have := hno m h5; omega)
      · by_cases c : j = i
        · rw [c, pk_us]
        · rw [pk_un c]; exact h4 j (by omega) h6
    · subst e
      have hE := (H.2.1 n hn).1
      have hE4 := (H.2.1 n hn).2
      have hinj : ∀ m, al m = true → pl m = pl n → m = n := fun m h5 h6 => zy_inj H h5 hn h6
      have hyes : zj_ip lo hi lv a b JL JT n = 1 → wY_startCompaction_61 post (nI JL) (nI a) (nI b) (nI JT) ykc yml yhl ynl yla yfl yjr yjs yjl yjt yjo yjh ygc (d + 1) (nI (D.length + 1)) (nI (pl n + 1)) yS yK yL yH yV yE (upd yI1 (pl n) 1) yT ysO ysM yiO yiM yiL yiH yiP yiK yg := fun hq => by
        obtain ⟨k1, k2⟩ := zy_more (Q := fun m => zj_ip lo hi lv a b JL JT m = 1) hn hq hinj h1 h2
        refine ih (pl n + 1) (n :: D) _ (by omega) k1 k2 (fun m h5 h6 => ?_) (fun j h5 h6 => ?_)
        · by_cases c : pl m = pl n
          · rw [hinj m h5 c, pk_us, hq]; rfl
          · rw [pk_un c]; exact h3 m h5 (by omega)
        · have hj : j ≠ pl n := fun q => hne (by rw [← q]; exact h6)
          rw [pk_un hj]; exact h4 j (by omega) h6
      have hnn : zj_ip lo hi lv a b JL JT n = 0 → wY_startCompaction_61 post (nI JL) (nI a) (nI b) (nI JT) ykc yml yhl ynl yla yfl yjr yjs yjl yjt yjo yjh ygc (d + 1) (nI D.length) (nI (pl n + 1)) yS yK yL yH yV yE (upd yI1 (pl n) 0) yT ysO ysM yiO yiM yiL yiH yiP yiK yg := fun hq => by
        refine ih (pl n + 1) D _ (by omega) h1 (zy_less (Q := fun m => zj_ip lo hi lv a b JL JT m = 1) (fun m h5 h6 w => by rw [hinj m h5 h6] at w; omega) h2) (fun m h5 h6 => ?_) (fun j h5 h6 => ?_)
        · by_cases c : pl m = pl n
          · rw [hinj m h5 c, pk_us, hq]; rfl
          · rw [pk_un c]; exact h3 m h5 (by omega)
        · have hj : j ≠ pl n := fun q => hne (by rw [← q]; exact h6)
          rw [pk_un hj]; exact h4 j (by omega) h6
      have h107 : (lv n = JL ∨ lv n = JT) → wY_startCompaction_107 post (wY_startCompaction_61 post (nI JL) (nI a) (nI b) (nI JT) ykc yml yhl ynl yla yfl yjr yjs yjl yjt yjo yjh ygc (d + 1)) (nI JL) (nI a) (nI b) (nI JT) (nI D.length) (nI (pl n)) (nI (pl n)) ykc yml yhl ynl yla yfl yjr yjs yjl yjt yjo yjh ygc yS yK yL yH yV yE yI1 yT ysO ysM yiO yiM yiL yiH yiP yiK yg := fun hl =>
        zy_107 H hn ha hb (fun z => hyes (zj_ip1.mpr ⟨z, hl⟩)) (fun z => hnn (zj_ip01.resolve_right (fun w => z (zj_ip1.mp w).1)))
      refine br_f hne ⟨wi, ?_⟩
      rw [hE]
      exact pk_eq (lv n) JL (fun q => h107 (Or.inl q)) (fun q => ⟨wi, pk_eq (lv n) JT (fun q2 => h107 (Or.inr q2)) (fun q2 => zy_133 (by omega) (hnn (zj_ip01.resolve_right (fun w => (zj_ip1.mp w).2.elim q q2))))⟩)
theorem zy_ag {post : SY → Prop} {N : Nat} {m : Int32} (hg : ygc = nI N) (hN : N < 6) (h : post (ykc, yml, yhl, ynl, yla, yfl, yjr, yjs, yjl, yjt, yjo, yjh, nI (N + 1), yS, yK, yL, yH, yV, yE, yI, yT, ysO, ysM, yiO, yiM, yiL, yiH, yiP, yiK, upd yg N m)) : wpY_addGuard post (ykc, yml, yhl, ynl, yla, yfl, yjr, yjs, yjl, yjt, yjo, yjh, ygc, yS, yK, yL, yH, yV, yE, yI, yT, ysO, ysM, yiO, yiM, yiL, yiH, yiP, yiK, yg) m := by
  unfold wpY_addGuard
  dsimp only
  subst hg
  rw [nI_clamp (by omega : N < 2 ^ 31)]
  exact br_f (nI_pos (by omega)) (br_f (nI_ge (b := 6) hN (by omega)) ⟨vp_in_nI hN (by omega), nm_e (nm_r (nI_1 N) h)⟩)
theorem zy_205 {post : Int32 → SY → Prop} {x1 x2 x3 x4 x5 : Int32} {LA : Nat} {iO iM : Nat → Int32} (hla : yla = nI LA) (hLA : LA ≤ 600) (hit : ∀ j, j < 2 → yiO (j + 1) = iO j ∧ yiM (j + 1) = iM j) (hi2 : ∀ j, j < 2 → ¬ iO j = 0 → ∃ m, m ≤ 600 ∧ iM j = nI m) : ∀ (d j : Nat) (G : List Nat) (ygc : Int32) (yg : Nat → Int32), j + d = 2 → zl_At yg 0 id G → ygc = nI G.length → G.length ≤ 3 + j →
    (∀ (ygc' : Int32) (yg' : Nat → Int32) (G' : List Nat), zl_At yg' 0 id G' → ygc' = nI G'.length → G'.length ≤ 6 → (∀ x, x ∈ G' ↔ x ∈ G ∨ (∃ i, j ≤ i ∧ i < 2 ∧ ¬ iO i = 0 ∧ iM i = nI x ∧ x ≤ 600) ∨ x = LA) → post x5 (ykc, yml, yhl, ynl, yla, yla, 1, x5, x1, x4, x2, x3, ygc', yS, yK, yL, yH, yV, yE, yI, yT, ysO, ysM, yiO, yiM, yiL, yiH, yiP, yiK, yg')) → wY_startCompaction_205 post x1 x2 x3 x4 x5 (d + 1) (nI (j + 1)) ykc yml yhl ynl yla yfl yjr yjs yjl yjt yjo yjh ygc yS yK yL yH yV yE yI yT ysO ysM yiO yiM yiL yiH yiP yiK yg := by
  intro d
  induction d with
  | zero =>
    intro j G ygc yg hd hA hg hl h
    rw [wY_startCompaction_205]
    dsimp only
    refine br_t (nI_lt (a := 2) (by omega) (by omega)) (zy_ag hg (by omega) ?_)
    refine h _ _ (G ++ [LA]) ?_ (by rw [List.length_append]; rfl) (by rw [List.length_append, List.length_singleton]; omega) (fun x => ?_)
    · have := zl_at_snoc (f := id) (x := LA) (v := LA) hA rfl
      rw [Nat.zero_add] at this
      rw [hla]
      exact this
    · rw [List.mem_append, List.mem_singleton]
      exact ⟨fun z => z.imp id Or.inr, fun z => z.imp id (fun w => w.elim (fun ⟨i, i1, i2, _⟩ => by omega) id)⟩
  | succ d ih =>
    intro j G ygc yg hd hA hg hl h
    obtain ⟨t1, t2⟩ := hit j (by omega)
    rw [wY_startCompaction_205]
    dsimp only
    rw [nI_clamp (by omega : j + 1 < 2 ^ 31), t1, t2]
    have wi : vp_in (nI (j + 1)) 3 := vp_in_nI (by omega) (by omega)
    refine br_f (nI_nlt (a := 2) (by omega) (by omega)) ⟨wi, br_c (fun e => nm_r (nI_1 _) ?_) (fun e => ⟨wi, zy_ag hg (by omega) (nm_r (nI_1 _) ?_)⟩)⟩
    · refine ih (j + 1) G ygc yg (by omega) hA hg (by omega) (fun ygc' yg' G' m1 m2 m3 m4 => h ygc' yg' G' m1 m2 m3 (fun x => (m4 x).trans ⟨fun z => z.imp id (fun w => w.imp (fun ⟨i, i1, i2⟩ => ⟨i, by omega, i2⟩) id), fun z => z.imp id (fun w => w.imp (fun ⟨i, i1, i2⟩ => ⟨i, ?_, i2⟩) id)⟩))
      by_cases c : i = j
      · subst c; exact absurd e i2.2.1
      · omega
    · obtain ⟨m, m1, m2⟩ := hi2 j (by omega) e
      rw [m2]
      have hA' := zl_at_snoc (f := id) (x := m) (v := m) hA rfl
      rw [Nat.zero_add] at hA'
      refine ih (j + 1) (G ++ [m]) _ _ (by omega) hA' (by rw [List.length_append]; rfl) (by rw [List.length_append, List.length_singleton]; omega) (fun ygc' yg' G' k1 k2 k3 k4 => h ygc' yg' G' k1 k2 k3 (fun x => (k4 x).trans ?_))
      rw [List.mem_append, List.mem_singleton]
      constructor
      · rintro ((z | z) | ⟨i, i1, i2⟩ | z)
        · exact Or.inl z
        · subst z; exact Or.inr (Or.inl ⟨j, Nat.le_refl j, by omega, e, m2, m1⟩)
        · exact Or.inr (Or.inl ⟨i, by omega, i2⟩)
        · exact Or.inr (Or.inr z)
      · rintro (z | ⟨i, i1, i2, i3, i4, i5⟩ | z)
        · exact Or.inl (Or.inl z)
        · by_cases c : i = j
          · subst c
            exact Or.inl (Or.inr ((nI_eq (by omega) (by omega)).mp (i4.symm.trans m2)))
          · exact Or.inr (Or.inl ⟨i, by omega, i2, i3, i4, i5⟩)
        · exact Or.inr (Or.inr z)
theorem zy_169 {post : Int32 → SY → Prop} {x1 x2 x3 x4 x5 : Int32} {LA : Nat} {sO sM iO iM : Nat → Int32} (hla : yla = nI LA) (hLA : LA ≤ 600) (hit : ∀ j, j < 2 → yiO (j + 1) = iO j ∧ yiM (j + 1) = iM j) (hi2 : ∀ j, j < 2 → ¬ iO j = 0 → ∃ m, m ≤ 600 ∧ iM j = nI m) (hst : ∀ j, j < 3 → ysO (j + 1) = sO j ∧ ysM (j + 1) = sM j) (hs3 : ∀ j, j < 3 → ¬ sO j = 0 → ∃ m, m ≤ 600 ∧ sM j = nI m) : ∀ (d j : Nat) (G : List Nat) (ygc : Int32) (yg : Nat → Int32), j + d = 3 → zl_At yg 0 id G → ygc = nI G.length → G.length ≤ j →
    (∀ (ygc' : Int32) (yg' : Nat → Int32) (G' : List Nat), zl_At yg' 0 id G' → ygc' = nI G'.length → G'.length ≤ 6 → (∀ x, x ∈ G' ↔ x ∈ G ∨ (∃ i, j ≤ i ∧ i < 3 ∧ ¬ sO i = 0 ∧ sM i = nI x ∧ x ≤ 600) ∨ (∃ i, 0 ≤ i ∧ i < 2 ∧ ¬ iO i = 0 ∧ iM i = nI x ∧ x ≤ 600) ∨ x = LA) → post x5 (ykc, yml, yhl, ynl, yla, yla, 1, x5, x1, x4, x2, x3, ygc', yS, yK, yL, yH, yV, yE, yI, yT, ysO, ysM, yiO, yiM, yiL, yiH, yiP, yiK, yg')) → wY_startCompaction_169 post x1 x2 x3 x4 x5 (d + 1) (nI (j + 1)) ykc yml yhl ynl yla yfl yjr yjs yjl yjt yjo yjh ygc yS yK yL yH yV yE yI yT ysO ysM yiO yiM yiL yiH yiP yiK yg := by
  intro d
  induction d with
  | zero =>
    intro j G ygc yg hd hA hg hl h
    rw [wY_startCompaction_169]
    dsimp only
    refine br_t (nI_lt (a := 3) (by omega) (by omega)) ⟨3, zy_205 hla hLA hit hi2 2 0 G ygc yg (by omega) hA hg (by omega) (fun ygc' yg' G' k1 k2 k3 k4 => h ygc' yg' G' k1 k2 k3 (fun x => (k4 x).trans ⟨fun z => z.imp id Or.inr, fun z => z.imp id (fun w => w.elim (fun ⟨i, i1, i2, _⟩ => by omega) id)⟩))⟩
  | succ d ih =>
    intro j G ygc yg hd hA hg hl h
    obtain ⟨t1, t2⟩ := hst j (by omega)
    rw [wY_startCompaction_169]
    dsimp only
    rw [nI_clamp (by omega : j + 1 < 2 ^ 31), t1, t2]
    have wi : vp_in (nI (j + 1)) 4 := vp_in_nI (by omega) (by omega)
    refine br_f (nI_nlt (a := 3) (by omega) (by omega)) ⟨wi, br_c (fun e => nm_r (nI_1 _) ?_) (fun e => ⟨wi, zy_ag hg (by omega) (nm_r (nI_1 _) ?_)⟩)⟩
    · refine ih (j + 1) G ygc yg (by omega) hA hg (by omega) (fun ygc' yg' G' m1 m2 m3 m4 => h ygc' yg' G' m1 m2 m3 (fun x => (m4 x).trans ⟨fun z => z.imp id (fun w => w.imp (fun ⟨i, i1, i2⟩ => ⟨i, by omega, i2⟩) id), fun z => z.imp id (fun w => w.imp (fun ⟨i, i1, i2⟩ => ⟨i, ?_, i2⟩) id)⟩))
      by_cases c : i = j
      · subst c; exact absurd e i2.2.1
      · omega
    · obtain ⟨m, m1, m2⟩ := hs3 j (by omega) e
      rw [m2]
      have hA' := zl_at_snoc (f := id) (x := m) (v := m) hA rfl
      rw [Nat.zero_add] at hA'
      refine ih (j + 1) (G ++ [m]) _ _ (by omega) hA' (by rw [List.length_append]; rfl) (by rw [List.length_append, List.length_singleton]; omega) (fun ygc' yg' G' k1 k2 k3 k4 => h ygc' yg' G' k1 k2 k3 (fun x => (k4 x).trans ?_))
      rw [List.mem_append, List.mem_singleton]
      constructor
      · rintro ((z | z) | ⟨i, i1, i2⟩ | z)
        · exact Or.inl z
        · subst z; exact Or.inr (Or.inl ⟨j, Nat.le_refl j, by omega, e, m2, m1⟩)
        · exact Or.inr (Or.inl ⟨i, by omega, i2⟩)
        · exact Or.inr (Or.inr z)
      · rintro (z | ⟨i, i1, i2, i3, i4, i5⟩ | z)
        · exact Or.inl (Or.inl z)
        · by_cases c : i = j
          · subst c
            exact Or.inl (Or.inr ((nI_eq (by omega) (by omega)).mp (i4.symm.trans m2)))
          · exact Or.inr (Or.inl ⟨i, by omega, i2, i3, i4, i5⟩)
        · exact Or.inr (Or.inr z)
theorem zy_go {post : Int32 → SY → Prop} {JL JT a b LA : Nat} {sO sM iO iM : Nat → Int32} (H : zy_H al kd lo hi lv ip va pl yS yK yL yH yV yE yI) (hJL : JL ≤ 4) (hJT : JT ≤ 4) (ha : a < 100) (hb : b < 100) (hla : yla = nI LA) (hLA : LA ≤ 600) (hit : ∀ j, j < 2 → yiO (j + 1) = iO j ∧ yiM (j + 1) = iM j) (hi2 : ∀ j, j < 2 → ¬ iO j = 0 → ∃ m, m ≤ LA ∧ iM j = nI m) (hst : ∀ j, j < 3 → ysO (j + 1) = sO j ∧ ysM (j + 1) = sM j) (hs3 : ∀ j, j < 3 → ¬ sO j = 0 → ∃ m, m ≤ LA ∧ sM j = nI m) (hC : ∀ l : List Nat, l.Nodup → (∀ x, x ∈ l → al x = true) → l.length ≤ 64)
    (h0 : (∀ n, al n = true → zj_ip lo hi lv a b JL JT n = 0) → ∀ yI' : Nat → Int32, zy_H al kd lo hi lv (zj_ip lo hi lv a b JL JT) va pl yS yK yL yH yV yE yI' → post 0 (ykc, yml, yhl, ynl, yla, yfl, yjr, yjs, yjl, yjt, yjo, yjh, ygc, yS, yK, yL, yH, yV, yE, yI', yT, ysO, ysM, yiO, yiM, yiL, yiH, yiP, yiK, yg))
    (h1 : ∀ (D GY : List Nat) (ygc' : Int32) (yI' yg' : Nat → Int32), ¬ D.length = 0 → D.Nodup → (∀ m, m ∈ D ↔ al m = true ∧ zj_ip lo hi lv a b JL JT m = 1) → zy_H al kd lo hi lv (zj_ip lo hi lv a b JL JT) va pl yS yK yL yH yV yE yI' → zl_At yg' 0 id GY → ygc' = nI GY.length → GY.length ≤ 6 → (∀ x, x ∈ GY ↔ zj_gs LA sO sM iO iM x) → post (nI D.length) (ykc, yml, yhl, ynl, yla, nI LA, 1, nI D.length, nI JL, nI JT, nI a, nI b, ygc', yS, yK, yL, yH, yV, yE, yI', yT, ysO, ysM, yiO, yiM, yiL, yiH, yiP, yiK, yg')) : ∃ n61 : Nat, wY_startCompaction_61 post (nI JL) (nI a) (nI b) (nI JT) ykc yml yhl ynl yla yfl yjr yjs yjl yjt yjo yjh ygc n61 0 0 yS yK yL yH yV yE yI yT ysO ysM yiO yiM yiL yiH yiP yiK yg := by
  refine ⟨65, zy_61 H hJL hJT ha hb (fun D yI' d1 d2 H' => ?_) 64 0 [] yI (by omega) List.nodup_nil (fun m => ⟨fun z => absurd z List.not_mem_nil, fun z => by omega⟩) (fun m _ z => by omega) (fun j z => by omega)⟩
  have hDl := hC D d1 (fun x hx => ((d2 x).mp hx).1)
  refine br_c (fun z => h0 (fun n hn => zj_ip01.resolve_right (fun w => ?_)) yI' H') (fun z => ⟨4, ?_⟩)
  · have hD0 : D.length = 0 := (nI_eq (b := 0) (by omega) (by omega)).mp z
    have := (d2 n).mpr ⟨hn, w⟩
    rw [List.eq_nil_of_length_eq_zero hD0] at this
    exact absurd this List.not_mem_nil
  · have hne : ¬ D.length = 0 := fun e => z (by rw [e]; rfl)
    refine zy_169 (iO := iO) (iM := iM) (sO := sO) (sM := sM) hla hLA hit (fun j hj e => by obtain ⟨m, m1, m2⟩ := hi2 j hj e; exact ⟨m, by omega, m2⟩) hst (fun j hj e => by obtain ⟨m, m1, m2⟩ := hs3 j hj e; exact ⟨m, by omega, m2⟩) 3 0 [] 0 yg (by omega) trivial rfl (by rw [List.length_nil]; omega) (fun ygc' yg' G' k1 k2 k3 k4 => ?_)
    have key := h1 D G' ygc' yI' yg' hne d1 d2 H' k1 k2 k3 (fun x => (k4 x).trans ?_)
    · rw [← hla] at key
      exact key
    · unfold zj_gs
      simp only [List.not_mem_nil, false_or, Nat.zero_le, true_and]
      constructor
      · rintro (z | z | z)
        · exact Or.inr (Or.inl z)
        · exact Or.inr (Or.inr z)
        · exact Or.inl z
      · rintro (z | z | z)
        · exact Or.inr (Or.inr z)
        · exact Or.inl z
        · exact Or.inr (Or.inl z)
/-! Y: iterators and counts -/
theorem zy_up_l {post : Int32 → SY → Prop} {i f l h m : Nat} (H : zy_H al kd lo hi lv ip va pl yS yK yL yH yV yE yI) (hi' : i < 3) (hf : f < 100) (hl : yiL i = nI l) (hl2 : l < 24) (hh : yiH i = nI h) (hh2 : h < 24) (hm : yiM i = nI m) (hm2 : m ≤ 600)
    (h0 : (∀ k, f ≤ k → l ≤ k → k ≤ h → zg_vl al kd lo hi va k m = -1) → post (-1) (ykc, yml, yhl, ynl, yla, yfl, yjr, yjs, yjl, yjt, yjo, yjh, ygc, yS, yK, yL, yH, yV, yE, yI, yT, ysO, ysM, yiO, yiM, yiL, yiH, upd yiP i 2, yiK, yg)) (h1 : ∀ k, f ≤ k → l ≤ k → k ≤ h → ¬ zg_vl al kd lo hi va k m = -1 → (∀ j, f ≤ j → l ≤ j → j < k → zg_vl al kd lo hi va j m = -1) → post (nI k) (ykc, yml, yhl, ynl, yla, yfl, yjr, yjs, yjl, yjt, yjo, yjh, ygc, yS, yK, yL, yH, yV, yE, yI, yT, ysO, ysM, yiO, yiM, yiL, yiH, upd yiP i 1, upd yiK i (nI k), yg)) :
    ∀ (d k : Nat), k + d = 24 → (∀ j, f ≤ j → l ≤ j → j ≤ h → j < k → zg_vl al kd lo hi va j m = -1) → wY_goUp_2 post (nI i) (nI f) ykc yml yhl ynl yla yfl yjr yjs yjl yjt yjo yjh ygc yS yK yL yH yV yE yI yT ysO ysM yiO yiM yiL yiH yiP yiK yg (d + 1) (nI k) := by
  have wi : vp_in (nI i) 3 := vp_in_nI hi' (by omega)
  have ci : (nI i).toNatClampNeg = i := nI_clamp (by omega)
  intro d
  induction d with
  | zero =>
    intro k hd hno
    rw [wY_goUp_2]
    dsimp only
    rw [ci]
    exact br_t (nI_le (a := 24) (by omega) (by omega)) ⟨wi, nm_e (h0 (fun j j1 j2 j3 => hno j j1 j2 j3 (by omega)))⟩
  | succ d ih =>
    intro k hd hno
    have hskip : (f ≤ k → l ≤ k → k ≤ h → zg_vl al kd lo hi va k m = -1) → wY_goUp_2 post (nI i) (nI f) ykc yml yhl ynl yla yfl yjr yjs yjl yjt yjo yjh ygc yS yK yL yH yV yE yI yT ysO ysM yiO yiM yiL yiH yiP yiK yg (d + 1) (nI (k + 1)) := fun hs =>
      ih (k + 1) (by omega) (fun j j1 j2 j3 j4 => by
        by_cases c : j = k
        · subst c; exact hs j1 j2 j3
        · exact hno j j1 j2 j3 (by omega))
    rw [wY_goUp_2]
    dsimp only
    rw [ci, hl, hh, hm]
    refine br_f (nI_ge (b := 24) (by omega) (by omega)) (pk_lt k f (fun z => nm_r (nI_1 k) (hskip (fun _ _ _ => by omega))) (fun z => ⟨wi, pk_lt k l (fun z2 => nm_r (nI_1 k) (hskip (fun _ _ _ => by omega))) (fun z2 => ⟨wi, pk_lt h k (fun z3 => nm_r (nI_1 k) (hskip (fun _ _ _ => by omega))) (fun z3 => ⟨wi, zy_va H (by omega) (by omega) ?_⟩)⟩)⟩))
    rcases zg_vl_nn (kd := kd) (lo := lo) (hi := hi) (k := k) (m := m) (fun n hn => (H.1 n hn).2.2.2.2.2.2.2.2) with e | e
    · exact br_t (by rw [e]; exact zl_m1neg) (nm_r (nI_1 k) (hskip (fun _ _ _ => e)))
    · have e2 : ¬ zg_vl al kd lo hi va k m = -1 := fun q => e (by rw [q]; exact zl_m1neg)
      exact br_f e ⟨wi, nm_e ⟨wi, nm_e (h1 k z z2 z3 e2 (fun j j1 j2 j3 => hno j j1 j2 (by omega) j3))⟩⟩
theorem zy_dn_l {post : Int32 → SY → Prop} {i f l h m : Nat} (H : zy_H al kd lo hi lv ip va pl yS yK yL yH yV yE yI) (hi' : i < 3) (hf : f ≤ 24) (hl : yiL i = nI l) (hl2 : l < 24) (hh : yiH i = nI h) (hh2 : h < 24) (hm : yiM i = nI m) (hm2 : m ≤ 600)
    (h0 : (∀ k, k < f → l ≤ k → k ≤ h → zg_vl al kd lo hi va k m = -1) → post (-1) (ykc, yml, yhl, ynl, yla, yfl, yjr, yjs, yjl, yjt, yjo, yjh, ygc, yS, yK, yL, yH, yV, yE, yI, yT, ysO, ysM, yiO, yiM, yiL, yiH, upd yiP i 0, yiK, yg)) (h1 : ∀ k, k < f → l ≤ k → k ≤ h → ¬ zg_vl al kd lo hi va k m = -1 → (∀ j, j < f → j ≤ h → k < j → zg_vl al kd lo hi va j m = -1) → post (nI k) (ykc, yml, yhl, ynl, yla, yfl, yjr, yjs, yjl, yjt, yjo, yjh, ygc, yS, yK, yL, yH, yV, yE, yI, yT, ysO, ysM, yiO, yiM, yiL, yiH, upd yiP i 1, upd yiK i (nI k), yg)) :
    ∀ (k : Nat), k ≤ 24 → (∀ j, j < f → l ≤ j → j ≤ h → k ≤ j → zg_vl al kd lo hi va j m = -1) → wY_prev_49 post (nI i) (nI f - 1) ykc yml yhl ynl yla yfl yjr yjs yjl yjt yjo yjh ygc yS yK yL yH yV yE yI yT ysO ysM yiO yiM yiL yiH yiP yiK yg (k + 1) (nI k - 1) := by
  have wi : vp_in (nI i) 3 := vp_in_nI hi' (by omega)
  have ci : (nI i).toNatClampNeg = i := nI_clamp (by omega)
  intro k
  induction k with
  | zero =>
    intro hk hno
    rw [wY_prev_49]
    dsimp only
    rw [ci]
    exact br_t zl_neg ⟨wi, nm_e (h0 (fun j j1 j2 j3 => hno j j1 j2 j3 (by omega)))⟩
  | succ k ih =>
    intro hk hno
    have hskip : (k < f → l ≤ k → k ≤ h → zg_vl al kd lo hi va k m = -1) → wY_prev_49 post (nI i) (nI f - 1) ykc yml yhl ynl yla yfl yjr yjs yjl yjt yjo yjh ygc yS yK yL yH yV yE yI yT ysO ysM yiO yiM yiL yiH yiP yiK yg (k + 1) (nI k - 1) := fun hs =>
      ih (by omega) (fun j j1 j2 j3 j4 => by
        by_cases c : j = k
        · subst c; exact hs j1 j2 j3
        · exact hno j j1 j2 j3 (by omega))
    rw [wY_prev_49]
    dsimp only
    rw [ci, hl, hh, hm, nI_pred, zl_lt_p (by omega) (by omega)]
    refine br_f (nI_pos (by omega)) (br_c (fun z => nm_r (zl_sub1 _) (hskip (fun _ _ _ => by omega))) (fun z => ⟨wi, pk_lt k l (fun z2 => nm_r (zl_sub1 _) (hskip (fun _ _ _ => by omega))) (fun z2 => ⟨wi, pk_lt h k (fun z3 => nm_r (zl_sub1 _) (hskip (fun _ _ _ => by omega))) (fun z3 => ⟨wi, zy_va H (by omega) (by omega) ?_⟩)⟩)⟩))
    rcases zg_vl_nn (kd := kd) (lo := lo) (hi := hi) (k := k) (m := m) (fun n hn => (H.1 n hn).2.2.2.2.2.2.2.2) with e | e
    · exact br_t (by rw [e]; exact zl_m1neg) (nm_r (zl_sub1 _) (hskip (fun _ _ _ => e)))
    · have e2 : ¬ zg_vl al kd lo hi va k m = -1 := fun q => e (by rw [q]; exact zl_m1neg)
      exact br_f e ⟨wi, nm_e ⟨wi, nm_e (h1 k (by omega) z2 z3 e2 (fun j j1 j2 j3 => hno j j1 (by omega) j2 (by omega)))⟩⟩
theorem zy_ct_l {post : Int32 → Prop} {l h m : Nat} (H : zy_H al kd lo hi lv ip va pl yS yK yL yH yV yE yI) (hl : l < 100) (hh : h < 100) (hm : m ≤ 600) (hp : post (nI (zk_ct (fun k => zg_vl al kd lo hi va k m) l h 24))) :
    ∀ (d k : Nat), k + d = 24 → wY_count_36 post (nI l) (nI h) (nI m) ykc yml yhl ynl yla yfl yjr yjs yjl yjt yjo yjh ygc yS yK yL yH yV yE yI yT ysO ysM yiO yiM yiL yiH yiP yiK yg (d + 1) (nI (zk_ct (fun k => zg_vl al kd lo hi va k m) l h k)) (nI k) := by
  intro d
  induction d with
  | zero =>
    intro k hd
    rw [wY_count_36]
    dsimp only
    have e : k = 24 := by omega
    subst e
    exact br_t (nI_le (a := 24) (by omega) (by omega)) hp
  | succ d ih =>
    intro k hd
    have hskip : ¬ (l ≤ k ∧ k ≤ h ∧ ¬ zg_vl al kd lo hi va k m = -1) → wY_count_36 post (nI l) (nI h) (nI m) ykc yml yhl ynl yla yfl yjr yjs yjl yjt yjo yjh ygc yS yK yL yH yV yE yI yT ysO ysM yiO yiM yiL yiH yiP yiK yg (d + 1) (nI (zk_ct (fun k => zg_vl al kd lo hi va k m) l h k)) (nI (k + 1)) := fun hs => by
      have key := ih (k + 1) (by omega)
      rw [zk_ct_n hs] at key
      exact key
    rw [wY_count_36]
    dsimp only
    refine br_f (nI_ge (b := 24) (by omega) (by omega)) (pk_lt k l (fun z => nm_r (nI_1 k) (hskip (by omega))) (fun z => pk_lt h k (fun z2 => nm_r (nI_1 k) (hskip (by omega))) (fun z2 => zy_va H (by omega) (by omega) ?_)))
    rcases zg_vl_nn (kd := kd) (lo := lo) (hi := hi) (k := k) (m := m) (fun n hn => (H.1 n hn).2.2.2.2.2.2.2.2) with e | e
    · exact br_t (by rw [e]; exact zl_m1neg) (nm_r (nI_1 k) (hskip (fun w => w.2.2 e)))
    · have e2 : ¬ zg_vl al kd lo hi va k m = -1 := fun q => e (by rw [q]; exact zl_m1neg)
      have key := ih (k + 1) (by omega)
      rw [zk_ct_y ⟨z, z2, e2⟩] at key
      exact br_f e (nm_r (nI_1 _) (nm_r (nI_1 k) key))
end
end
section
/-! ===== the relation ===== -/
def zN (k NK ML HL NL LA FL : Nat) (xkc xml xhl xnl xla xfl ykc yml yhl ynl yla yfl : Int32) : Prop :=
  (xkc = nI NK ∧ ykc = nI NK ∧ 4 ≤ NK ∧ NK ≤ 24) ∧ (xml = nI ML ∧ yml = nI ML ∧ 1 ≤ ML ∧ ML ≤ 8) ∧ (xhl = nI HL ∧ yhl = nI HL ∧ HL ≤ 64) ∧ (xnl = nI NL ∧ ynl = nI NL ∧ 2 ≤ NL ∧ NL ≤ 4) ∧ (xla = nI LA ∧ yla = nI LA ∧ 4 * LA + 4 ≤ k ∧ LA ≤ 513) ∧ (xfl = nI FL ∧ yfl = nI FL ∧ FL ≤ LA)
def zC (al : Nat → Bool) (kd lo hi lv ip : Nat → Nat) (va : Nat → Int32) (sl pl : Nat → Nat) (L : Nat → List Nat) (BS FS : List Nat) (ML NL LA : Nat) (xfc xhe : Int32) (rS rK rL rH rV rE rI fS bS tB tS fi yS yK yL yH yV yE yI : Nat → Int32) : Prop :=
  (∀ n, al n = true → zg_R kd lo hi va sl rS rK rL rH rV n) ∧ zy_H al kd lo hi lv ip va pl yS yK yL yH yV yE yI ∧ (∀ n, al n = true → n ≤ LA ∧ lv n ≤ NL ∧ rE (sl n) = nI (lv n) ∧ rI (sl n) = nI (ip n)) ∧ zp_P al sl BS FS xhe xfc bS fS ∧ zt_Tab kd lo hi sl L tB tS fi ∧ zt_Mem al kd lv L ∧ (L 0).length + (L 1).length ≤ ML
def zS (LA : Nat) (sO sM ysO ysM : Nat → Int32) : Prop := ∀ j, j < 3 → ysO (j + 1) = sO j ∧ ysM (j + 1) = sM j ∧ (¬ sO j = 0 → ∃ m, m ≤ LA ∧ sM j = nI m)
def zI1 (LA : Nat) (j : Nat) (iO iM iL iH iP iK yiK : Nat → Int32) (m l h p : Nat) : Prop := m ≤ LA ∧ iM j = nI m ∧ iL j = nI l ∧ iH j = nI h ∧ l ≤ h ∧ h < 24 ∧ iP j = nI p ∧ p ≤ 2 ∧ (p = 1 → ∃ c, iK j = nI c ∧ yiK (j + 1) = nI c ∧ l ≤ c ∧ c ≤ h)
def zI (LA : Nat) (iO iM iL iH iP iK yiO yiM yiL yiH yiP yiK : Nat → Int32) : Prop := ∀ j, j < 2 → (yiO (j + 1) = iO j ∧ yiM (j + 1) = iM j ∧ yiL (j + 1) = iL j ∧ yiH (j + 1) = iH j ∧ yiP (j + 1) = iP j) ∧ (¬ iO j = 0 → ∃ m l h p, zI1 LA j iO iM iL iH iP iK yiK m l h p)
def zJr (al : Nat → Bool) (kd lo hi lv ip sl : Nat → Nat) (NL FL : Nat) (xjl xjt xjs xic xsa xse xta xoc xgc ygc : Int32) (rP jI jO gu oP yg : Nat → Int32) (JL JT : Nat) (GX GY JI RS RT JO : List Nat) (SA TA : Nat) : Prop :=
  (xjl = nI JL ∧ xjt = nI JT ∧ 1 ≤ JL ∧ 1 ≤ JT ∧ JL ≤ NL ∧ JT ≤ NL) ∧ (∀ n, al n = true → ip n = 1 → lv n = JL ∨ lv n = JT) ∧ zj_P al kd lo hi ip FL GX JI RS RT JO ∧ zj_J al kd lo ip sl FL GX JI RS RT JO SA TA xic xsa xse xta xoc xgc rP jI jO gu oP ∧ (xjs = nI (RS.length + RT.length) ∧ 0 < RS.length + RT.length) ∧ (zl_At yg 0 id GY ∧ ygc = nI GY.length ∧ GY.length ≤ 6) ∧ (∀ g, g ∈ GX ↔ g ∈ GY)
def zJb (al : Nat → Bool) (kd lo hi lv ip sl : Nat → Nat) (NL FL : Nat) (xjr xjl xjt xjo xjh xjs xic xsa xse xta xoc xgc yjr yjs yjl yjt yjo yjh ygc : Int32) (rP jI jO gu oP yg : Nat → Int32) : Prop :=
  (yjr = xjr ∧ yjs = xjs ∧ yjl = xjl ∧ yjt = xjt ∧ yjo = xjo ∧ yjh = xjh) ∧ ((xjr = 0 ∧ xjs = 0 ∧ ∀ n, al n = true → ip n = 0) ∨ (xjr = 1 ∧ ∃ JL JT GX GY JI RS RT JO SA TA, zJr al kd lo hi lv ip sl NL FL xjl xjt xjs xic xsa xse xta xoc xgc ygc rP jI jO gu oP yg JL JT GX GY JI RS RT JO SA TA))
def zR (k : Nat) (al : Nat → Bool) (kd lo hi lv ip : Nat → Nat) (va : Nat → Int32) (sl pl : Nat → Nat) (L : Nat → List Nat) (BS FS : List Nat) (NK ML HL NL LA FL : Nat) (xkc xml xhl xnl xla xfl xfc xhe xbc xjr xjl xjt xjo xjh xjs xic xsa xse xta xoc xgc : Int32) (rS rK rL rH rV rE rI rP fS bS tB tS fi bA sO sM iO iM iL iH iP iK jI jO gu oP : Nat → Int32) (ykc yml yhl ynl yla yfl yjr yjs yjl yjt yjo yjh ygc : Int32) (yS yK yL yH yV yE yI yT ysO ysM yiO yiM yiL yiH yiP yiK yg : Nat → Int32) : Prop :=
  zN k NK ML HL NL LA FL xkc xml xhl xnl xla xfl ykc yml yhl ynl yla yfl ∧ zC al kd lo hi lv ip va sl pl L BS FS ML NL LA xfc xhe rS rK rL rH rV rE rI fS bS tB tS fi yS yK yL yH yV yE yI ∧ zS LA sO sM ysO ysM ∧ zI LA iO iM iL iH iP iK yiO yiM yiL yiH yiP yiK ∧ zJb al kd lo hi lv ip sl NL FL xjr xjl xjt xjo xjh xjs xic xsa xse xta xoc xgc yjr yjs yjl yjt yjo yjh ygc rP jI jO gu oP yg
/-- the relation: some ghosts are held by both -/
def i_Rel (k : Nat) (u : SX) (v : SY) : Prop := ∃ (al : Nat → Bool) (kd lo hi lv ip : Nat → Nat) (va : Nat → Int32) (sl pl : Nat → Nat) (L : Nat → List Nat) (BS FS : List Nat) (NK ML HL NL LA FL : Nat), zR k al kd lo hi lv ip va sl pl L BS FS NK ML HL NL LA FL u.1 u.2.1 u.2.2.1 u.2.2.2.1 u.2.2.2.2.1 u.2.2.2.2.2.1 u.2.2.2.2.2.2.1 u.2.2.2.2.2.2.2.1 u.2.2.2.2.2.2.2.2.1 u.2.2.2.2.2.2.2.2.2.1 u.2.2.2.2.2.2.2.2.2.2.1 u.2.2.2.2.2.2.2.2.2.2.2.1 u.2.2.2.2.2.2.2.2.2.2.2.2.1 u.2.2.2.2.2.2.2.2.2.2.2.2.2.1 u.2.2.2.2.2.2.2.2.2.2.2.2.2.2.1 u.2.2.2.2.2.2.2.2.2.2.2.2.2.2.2.1 u.2.2.2.2.2.2.2.2.2.2.2.2.2.2.2.2.1 u.2.2.2.2.2.2.2.2.2.2.2.2.2.2.2.2.2.1 u.2.2.2.2.2.2.2.2.2.2.2.2.2.2.2.2.2.2.1 u.2.2.2.2.2.2.2.2.2.2.2.2.2.2.2.2.2.2.2.1 u.2.2.2.2.2.2.2.2.2.2.2.2.2.2.2.2.2.2.2.2.1 u.2.2.2.2.2.2.2.2.2.2.2.2.2.2.2.2.2.2.2.2.2.1 u.2.2.2.2.2.2.2.2.2.2.2.2.2.2.2.2.2.2.2.2.2.2.1 u.2.2.2.2.2.2.2.2.2.2.2.2.2.2.2.2.2.2.2.2.2.2.2.1 u.2.2.2.2.2.2.2.2.2.2.2.2.2.2.2.2.2.2.2.2.2.2.2.2.1 u.2.2.2.2.2.2.2.2.2.2.2.2.2.2.2.2.2.2.2.2.2.2.2.2.2.1 u.2.2.2.2.2.2.2.2.2.2.2.2.2.2.2.2.2.2.2.2.2.2.2.2.2.2.1 u.2.2.2.2.2.2.2.2.2.2.2.2.2.2.2.2.2.2.2.2.2.2.2.2.2.2.2.1 u.2.2.2.2.2.2.2.2.2.2.2.2.2.2.2.2.2.2.2.2.2.2.2.2.2.2.2.2.1 u.2.2.2.2.2.2.2.2.2.2.2.2.2.2.2.2.2.2.2.2.2.2.2.2.2.2.2.2.2.1 u.2.2.2.2.2.2.2.2.2.2.2.2.2.2.2.2.2.2.2.2.2.2.2.2.2.2.2.2.2.2.1 u.2.2.2.2.2.2.2.2.2.2.2.2.2.2.2.2.2.2.2.2.2.2.2.2.2.2.2.2.2.2.2.1 u.2.2.2.2.2.2.2.2.2.2.2.2.2.2.2.2.2.2.2.2.2.2.2.2.2.2.2.2.2.2.2.2.1 u.2.2.2.2.2.2.2.2.2.2.2.2.2.2.2.2.2.2.2.2.2.2.2.2.2.2.2.2.2.2.2.2.2.1 u.2.2.2.2.2.2.2.2.2.2.2.2.2.2.2.2.2.2.2.2.2.2.2.2.2.2.2.2.2.2.2.2.2.2.1 u.2.2.2.2.2.2.2.2.2.2.2.2.2.2.2.2.2.2.2.2.2.2.2.2.2.2.2.2.2.2.2.2.2.2.2.1 u.2.2.2.2.2.2.2.2.2.2.2.2.2.2.2.2.2.2.2.2.2.2.2.2.2.2.2.2.2.2.2.2.2.2.2.2.1 u.2.2.2.2.2.2.2.2.2.2.2.2.2.2.2.2.2.2.2.2.2.2.2.2.2.2.2.2.2.2.2.2.2.2.2.2.2.1 u.2.2.2.2.2.2.2.2.2.2.2.2.2.2.2.2.2.2.2.2.2.2.2.2.2.2.2.2.2.2.2.2.2.2.2.2.2.2.1 u.2.2.2.2.2.2.2.2.2.2.2.2.2.2.2.2.2.2.2.2.2.2.2.2.2.2.2.2.2.2.2.2.2.2.2.2.2.2.2.1 u.2.2.2.2.2.2.2.2.2.2.2.2.2.2.2.2.2.2.2.2.2.2.2.2.2.2.2.2.2.2.2.2.2.2.2.2.2.2.2.2.1 u.2.2.2.2.2.2.2.2.2.2.2.2.2.2.2.2.2.2.2.2.2.2.2.2.2.2.2.2.2.2.2.2.2.2.2.2.2.2.2.2.2.1 u.2.2.2.2.2.2.2.2.2.2.2.2.2.2.2.2.2.2.2.2.2.2.2.2.2.2.2.2.2.2.2.2.2.2.2.2.2.2.2.2.2.2.1 u.2.2.2.2.2.2.2.2.2.2.2.2.2.2.2.2.2.2.2.2.2.2.2.2.2.2.2.2.2.2.2.2.2.2.2.2.2.2.2.2.2.2.2.1 u.2.2.2.2.2.2.2.2.2.2.2.2.2.2.2.2.2.2.2.2.2.2.2.2.2.2.2.2.2.2.2.2.2.2.2.2.2.2.2.2.2.2.2.2.1 u.2.2.2.2.2.2.2.2.2.2.2.2.2.2.2.2.2.2.2.2.2.2.2.2.2.2.2.2.2.2.2.2.2.2.2.2.2.2.2.2.2.2.2.2.2.1 u.2.2.2.2.2.2.2.2.2.2.2.2.2.2.2.2.2.2.2.2.2.2.2.2.2.2.2.2.2.2.2.2.2.2.2.2.2.2.2.2.2.2.2.2.2.2 v.1 v.2.1 v.2.2.1 v.2.2.2.1 v.2.2.2.2.1 v.2.2.2.2.2.1 v.2.2.2.2.2.2.1 v.2.2.2.2.2.2.2.1 v.2.2.2.2.2.2.2.2.1 v.2.2.2.2.2.2.2.2.2.1 v.2.2.2.2.2.2.2.2.2.2.1 v.2.2.2.2.2.2.2.2.2.2.2.1 v.2.2.2.2.2.2.2.2.2.2.2.2.1 v.2.2.2.2.2.2.2.2.2.2.2.2.2.1 v.2.2.2.2.2.2.2.2.2.2.2.2.2.2.1 v.2.2.2.2.2.2.2.2.2.2.2.2.2.2.2.1 v.2.2.2.2.2.2.2.2.2.2.2.2.2.2.2.2.1 v.2.2.2.2.2.2.2.2.2.2.2.2.2.2.2.2.2.1 v.2.2.2.2.2.2.2.2.2.2.2.2.2.2.2.2.2.2.1 v.2.2.2.2.2.2.2.2.2.2.2.2.2.2.2.2.2.2.2.1 v.2.2.2.2.2.2.2.2.2.2.2.2.2.2.2.2.2.2.2.2.1 v.2.2.2.2.2.2.2.2.2.2.2.2.2.2.2.2.2.2.2.2.2.1 v.2.2.2.2.2.2.2.2.2.2.2.2.2.2.2.2.2.2.2.2.2.2.1 v.2.2.2.2.2.2.2.2.2.2.2.2.2.2.2.2.2.2.2.2.2.2.2.1 v.2.2.2.2.2.2.2.2.2.2.2.2.2.2.2.2.2.2.2.2.2.2.2.2.1 v.2.2.2.2.2.2.2.2.2.2.2.2.2.2.2.2.2.2.2.2.2.2.2.2.2.1 v.2.2.2.2.2.2.2.2.2.2.2.2.2.2.2.2.2.2.2.2.2.2.2.2.2.2.1 v.2.2.2.2.2.2.2.2.2.2.2.2.2.2.2.2.2.2.2.2.2.2.2.2.2.2.2.1 v.2.2.2.2.2.2.2.2.2.2.2.2.2.2.2.2.2.2.2.2.2.2.2.2.2.2.2.2.1 v.2.2.2.2.2.2.2.2.2.2.2.2.2.2.2.2.2.2.2.2.2.2.2.2.2.2.2.2.2
theorem zz_el {P : SX → SY → Prop} {k : Nat} {u : SX} {v : SY} (I : i_Rel k u v) (h : ∀ (al : Nat → Bool) (kd lo hi lv ip : Nat → Nat) (va : Nat → Int32) (sl pl : Nat → Nat) (L : Nat → List Nat) (BS FS : List Nat) (NK ML HL NL LA FL : Nat) (xkc xml xhl xnl xla xfl xfc xhe xbc xjr xjl xjt xjo xjh xjs xic xsa xse xta xoc xgc : Int32) (rS rK rL rH rV rE rI rP fS bS tB tS fi bA sO sM iO iM iL iH iP iK jI jO gu oP : Nat → Int32) (ykc yml yhl ynl yla yfl yjr yjs yjl yjt yjo yjh ygc : Int32) (yS yK yL yH yV yE yI yT ysO ysM yiO yiM yiL yiH yiP yiK yg : Nat → Int32), zR k al kd lo hi lv ip va sl pl L BS FS NK ML HL NL LA FL xkc xml xhl xnl xla xfl xfc xhe xbc xjr xjl xjt xjo xjh xjs xic xsa xse xta xoc xgc rS rK rL rH rV rE rI rP fS bS tB tS fi bA sO sM iO iM iL iH iP iK jI jO gu oP ykc yml yhl ynl yla yfl yjr yjs yjl yjt yjo yjh ygc yS yK yL yH yV yE yI yT ysO ysM yiO yiM yiL yiH yiP yiK yg → P (xkc, xml, xhl, xnl, xla, xfl, xfc, xhe, xbc, xjr, xjl, xjt, xjo, xjh, xjs, xic, xsa, xse, xta, xoc, xgc, rS, rK, rL, rH, rV, rE, rI, rP, fS, bS, tB, tS, fi, bA, sO, sM, iO, iM, iL, iH, iP, iK, jI, jO, gu, oP) (ykc, yml, yhl, ynl, yla, yfl, yjr, yjs, yjl, yjt, yjo, yjh, ygc, yS, yK, yL, yH, yV, yE, yI, yT, ysO, ysM, yiO, yiM, yiL, yiH, yiP, yiK, yg)) : P u v :=
  I.elim fun al I => I.elim fun kd I => I.elim fun lo I => I.elim fun hi I => I.elim fun lv I => I.elim fun ip I => I.elim fun va I => I.elim fun sl I => I.elim fun pl I => I.elim fun L I => I.elim fun BS I => I.elim fun FS I => I.elim fun NK I => I.elim fun ML I => I.elim fun HL I => I.elim fun NL I => I.elim fun LA I => I.elim fun FL I =>
    h al kd lo hi lv ip va sl pl L BS FS NK ML HL NL LA FL u.1 u.2.1 u.2.2.1 u.2.2.2.1 u.2.2.2.2.1 u.2.2.2.2.2.1 u.2.2.2.2.2.2.1 u.2.2.2.2.2.2.2.1 u.2.2.2.2.2.2.2.2.1 u.2.2.2.2.2.2.2.2.2.1 u.2.2.2.2.2.2.2.2.2.2.1 u.2.2.2.2.2.2.2.2.2.2.2.1 u.2.2.2.2.2.2.2.2.2.2.2.2.1 u.2.2.2.2.2.2.2.2.2.2.2.2.2.1 u.2.2.2.2.2.2.2.2.2.2.2.2.2.2.1 u.2.2.2.2.2.2.2.2.2.2.2.2.2.2.2.1 u.2.2.2.2.2.2.2.2.2.2.2.2.2.2.2.2.1 u.2.2.2.2.2.2.2.2.2.2.2.2.2.2.2.2.2.1 u.2.2.2.2.2.2.2.2.2.2.2.2.2.2.2.2.2.2.1 u.2.2.2.2.2.2.2.2.2.2.2.2.2.2.2.2.2.2.2.1 u.2.2.2.2.2.2.2.2.2.2.2.2.2.2.2.2.2.2.2.2.1 u.2.2.2.2.2.2.2.2.2.2.2.2.2.2.2.2.2.2.2.2.2.1 u.2.2.2.2.2.2.2.2.2.2.2.2.2.2.2.2.2.2.2.2.2.2.1 u.2.2.2.2.2.2.2.2.2.2.2.2.2.2.2.2.2.2.2.2.2.2.2.1 u.2.2.2.2.2.2.2.2.2.2.2.2.2.2.2.2.2.2.2.2.2.2.2.2.1 u.2.2.2.2.2.2.2.2.2.2.2.2.2.2.2.2.2.2.2.2.2.2.2.2.2.1 u.2.2.2.2.2.2.2.2.2.2.2.2.2.2.2.2.2.2.2.2.2.2.2.2.2.2.1 u.2.2.2.2.2.2.2.2.2.2.2.2.2.2.2.2.2.2.2.2.2.2.2.2.2.2.2.1 u.2.2.2.2.2.2.2.2.2.2.2.2.2.2.2.2.2.2.2.2.2.2.2.2.2.2.2.2.1 u.2.2.2.2.2.2.2.2.2.2.2.2.2.2.2.2.2.2.2.2.2.2.2.2.2.2.2.2.2.1 u.2.2.2.2.2.2.2.2.2.2.2.2.2.2.2.2.2.2.2.2.2.2.2.2.2.2.2.2.2.2.1 u.2.2.2.2.2.2.2.2.2.2.2.2.2.2.2.2.2.2.2.2.2.2.2.2.2.2.2.2.2.2.2.1 u.2.2.2.2.2.2.2.2.2.2.2.2.2.2.2.2.2.2.2.2.2.2.2.2.2.2.2.2.2.2.2.2.1 u.2.2.2.2.2.2.2.2.2.2.2.2.2.2.2.2.2.2.2.2.2.2.2.2.2.2.2.2.2.2.2.2.2.1 u.2.2.2.2.2.2.2.2.2.2.2.2.2.2.2.2.2.2.2.2.2.2.2.2.2.2.2.2.2.2.2.2.2.2.1 u.2.2.2.2.2.2.2.2.2.2.2.2.2.2.2.2.2.2.2.2.2.2.2.2.2.2.2.2.2.2.2.2.2.2.2.1 u.2.2.2.2.2.2.2.2.2.2.2.2.2.2.2.2.2.2.2.2.2.2.2.2.2.2.2.2.2.2.2.2.2.2.2.2.1 u.2.2.2.2.2.2.2.2.2.2.2.2.2.2.2.2.2.2.2.2.2.2.2.2.2.2.2.2.2.2.2.2.2.2.2.2.2.1 u.2.2.2.2.2.2.2.2.2.2.2.2.2.2.2.2.2.2.2.2.2.2.2.2.2.2.2.2.2.2.2.2.2.2.2.2.2.2.1 u.2.2.2.2.2.2.2.2.2.2.2.2.2.2.2.2.2.2.2.2.2.2.2.2.2.2.2.2.2.2.2.2.2.2.2.2.2.2.2.1 u.2.2.2.2.2.2.2.2.2.2.2.2.2.2.2.2.2.2.2.2.2.2.2.2.2.2.2.2.2.2.2.2.2.2.2.2.2.2.2.2.1 u.2.2.2.2.2.2.2.2.2.2.2.2.2.2.2.2.2.2.2.2.2.2.2.2.2.2.2.2.2.2.2.2.2.2.2.2.2.2.2.2.2.1 u.2.2.2.2.2.2.2.2.2.2.2.2.2.2.2.2.2.2.2.2.2.2.2.2.2.2.2.2.2.2.2.2.2.2.2.2.2.2.2.2.2.2.1 u.2.2.2.2.2.2.2.2.2.2.2.2.2.2.2.2.2.2.2.2.2.2.2.2.2.2.2.2.2.2.2.2.2.2.2.2.2.2.2.2.2.2.2.1 u.2.2.2.2.2.2.2.2.2.2.2.2.2.2.2.2.2.2.2.2.2.2.2.2.2.2.2.2.2.2.2.2.2.2.2.2.2.2.2.2.2.2.2.2.1 u.2.2.2.2.2.2.2.2.2.2.2.2.2.2.2.2.2.2.2.2.2.2.2.2.2.2.2.2.2.2.2.2.2.2.2.2.2.2.2.2.2.2.2.2.2.1 u.2.2.2.2.2.2.2.2.2.2.2.2.2.2.2.2.2.2.2.2.2.2.2.2.2.2.2.2.2.2.2.2.2.2.2.2.2.2.2.2.2.2.2.2.2.2 v.1 v.2.1 v.2.2.1 v.2.2.2.1 v.2.2.2.2.1 v.2.2.2.2.2.1 v.2.2.2.2.2.2.1 v.2.2.2.2.2.2.2.1 v.2.2.2.2.2.2.2.2.1 v.2.2.2.2.2.2.2.2.2.1 v.2.2.2.2.2.2.2.2.2.2.1 v.2.2.2.2.2.2.2.2.2.2.2.1 v.2.2.2.2.2.2.2.2.2.2.2.2.1 v.2.2.2.2.2.2.2.2.2.2.2.2.2.1 v.2.2.2.2.2.2.2.2.2.2.2.2.2.2.1 v.2.2.2.2.2.2.2.2.2.2.2.2.2.2.2.1 v.2.2.2.2.2.2.2.2.2.2.2.2.2.2.2.2.1 v.2.2.2.2.2.2.2.2.2.2.2.2.2.2.2.2.2.1 v.2.2.2.2.2.2.2.2.2.2.2.2.2.2.2.2.2.2.1 v.2.2.2.2.2.2.2.2.2.2.2.2.2.2.2.2.2.2.2.1 v.2.2.2.2.2.2.2.2.2.2.2.2.2.2.2.2.2.2.2.2.1 v.2.2.2.2.2.2.2.2.2.2.2.2.2.2.2.2.2.2.2.2.2.1 v.2.2.2.2.2.2.2.2.2.2.2.2.2.2.2.2.2.2.2.2.2.2.1 v.2.2.2.2.2.2.2.2.2.2.2.2.2.2.2.2.2.2.2.2.2.2.2.1 v.2.2.2.2.2.2.2.2.2.2.2.2.2.2.2.2.2.2.2.2.2.2.2.2.1 v.2.2.2.2.2.2.2.2.2.2.2.2.2.2.2.2.2.2.2.2.2.2.2.2.2.1 v.2.2.2.2.2.2.2.2.2.2.2.2.2.2.2.2.2.2.2.2.2.2.2.2.2.2.1 v.2.2.2.2.2.2.2.2.2.2.2.2.2.2.2.2.2.2.2.2.2.2.2.2.2.2.2.1 v.2.2.2.2.2.2.2.2.2.2.2.2.2.2.2.2.2.2.2.2.2.2.2.2.2.2.2.2.1 v.2.2.2.2.2.2.2.2.2.2.2.2.2.2.2.2.2.2.2.2.2.2.2.2.2.2.2.2.2 I
theorem zz_in {k : Nat} {al : Nat → Bool} {kd lo hi lv ip : Nat → Nat} {va : Nat → Int32} {sl pl : Nat → Nat} {L : Nat → List Nat} {BS FS : List Nat} {NK ML HL NL LA FL : Nat} {xkc xml xhl xnl xla xfl xfc xhe xbc xjr xjl xjt xjo xjh xjs xic xsa xse xta xoc xgc : Int32} {rS rK rL rH rV rE rI rP fS bS tB tS fi bA sO sM iO iM iL iH iP iK jI jO gu oP : Nat → Int32} {ykc yml yhl ynl yla yfl yjr yjs yjl yjt yjo yjh ygc : Int32} {yS yK yL yH yV yE yI yT ysO ysM yiO yiM yiL yiH yiP yiK yg : Nat → Int32} (h : zR k al kd lo hi lv ip va sl pl L BS FS NK ML HL NL LA FL xkc xml xhl xnl xla xfl xfc xhe xbc xjr xjl xjt xjo xjh xjs xic xsa xse xta xoc xgc rS rK rL rH rV rE rI rP fS bS tB tS fi bA sO sM iO iM iL iH iP iK jI jO gu oP ykc yml yhl ynl yla yfl yjr yjs yjl yjt yjo yjh ygc yS yK yL yH yV yE yI yT ysO ysM yiO yiM yiL yiH yiP yiK yg) : i_Rel k (xkc, xml, xhl, xnl, xla, xfl, xfc, xhe, xbc, xjr, xjl, xjt, xjo, xjh, xjs, xic, xsa, xse, xta, xoc, xgc, rS, rK, rL, rH, rV, rE, rI, rP, fS, bS, tB, tS, fi, bA, sO, sM, iO, iM, iL, iH, iP, iK, jI, jO, gu, oP) (ykc, yml, yhl, ynl, yla, yfl, yjr, yjs, yjl, yjt, yjo, yjh, ygc, yS, yK, yL, yH, yV, yE, yI, yT, ysO, ysM, yiO, yiM, yiL, yiH, yiP, yiK, yg) := ⟨al, kd, lo, hi, lv, ip, va, sl, pl, L, BS, FS, NK, ML, HL, NL, LA, FL, h⟩
theorem zz_up {k : Nat} {al : Nat → Bool} {kd lo hi lv ip : Nat → Nat} {va : Nat → Int32} {sl pl : Nat → Nat} {L : Nat → List Nat} {BS FS : List Nat} {NK ML HL NL LA FL : Nat} {xkc xml xhl xnl xla xfl xfc xhe xbc xjr xjl xjt xjo xjh xjs xic xsa xse xta xoc xgc : Int32} {rS rK rL rH rV rE rI rP fS bS tB tS fi bA sO sM iO iM iL iH iP iK jI jO gu oP : Nat → Int32} {ykc yml yhl ynl yla yfl yjr yjs yjl yjt yjo yjh ygc : Int32} {yS yK yL yH yV yE yI yT ysO ysM yiO yiM yiL yiH yiP yiK yg : Nat → Int32} (h : zR k al kd lo hi lv ip va sl pl L BS FS NK ML HL NL LA FL xkc xml xhl xnl xla xfl xfc xhe xbc xjr xjl xjt xjo xjh xjs xic xsa xse xta xoc xgc rS rK rL rH rV rE rI rP fS bS tB tS fi bA sO sM iO iM iL iH iP iK jI jO gu oP ykc yml yhl ynl yla yfl yjr yjs yjl yjt yjo yjh ygc yS yK yL yH yV yE yI yT ysO ysM yiO yiM yiL yiH yiP yiK yg) : zR (k + 4) al kd lo hi lv ip va sl pl L BS FS NK ML HL NL LA FL xkc xml xhl xnl xla xfl xfc xhe xbc xjr xjl xjt xjo xjh xjs xic xsa xse xta xoc xgc rS rK rL rH rV rE rI rP fS bS tB tS fi bA sO sM iO iM iL iH iP iK jI jO gu oP ykc yml yhl ynl yla yfl yjr yjs yjl yjt yjo yjh ygc yS yK yL yH yV yE yI yT ysO ysM yiO yiM yiL yiH yiP yiK yg := by
  obtain ⟨⟨n1, n2, n3, n4, ⟨n5, n6, n7, n8⟩, n9⟩, h2⟩ := h
  exact ⟨⟨n1, n2, n3, n4, ⟨n5, n6, by omega, n8⟩, n9⟩, h2⟩
theorem i_up {k : Nat} {u : SX} {v : SY} (h : i_Rel k u v) : i_Rel (k + 4) u v := by
  refine zz_el (P := fun u v => i_Rel (k + 4) u v) h ?_
  intro al kd lo hi lv ip va sl pl L BS FS NK ML HL NL LA FL xkc xml xhl xnl xla xfl xfc xhe xbc xjr xjl xjt xjo xjh xjs xic xsa xse xta xoc xgc rS rK rL rH rV rE rI rP fS bS tB tS fi bA sO sM iO iM iL iH iP iK jI jO gu oP ykc yml yhl ynl yla yfl yjr yjs yjl yjt yjo yjh ygc yS yK yL yH yV yE yI yT ysO ysM yiO yiM yiL yiH yiP yiK yg hR
  exact zz_in (zz_up hR)
end
section
/-! arguments: both sides' tests -/
theorem zb_key (NK : Nat) (hN : NK ≤ 24) (v : Int32) : (∃ q, q < NK ∧ v = nI q) ∨ (v < 0 ∨ (¬ v < 0 ∧ ∃ q, NK ≤ q ∧ q < 2 ^ 31 ∧ v = nI q)) := by
  by_cases c : v < 0
  · exact Or.inr (Or.inl c)
  · obtain ⟨q, q1, rfl⟩ := nI_of c
    by_cases d : q < NK
    · exact Or.inl ⟨q, d, rfl⟩
    · exact Or.inr (Or.inr ⟨c, q, by omega, q1, rfl⟩)
def zb_badR (NK : Nat) (v w : Int32) : Prop := v < 0 ∨ (¬ v < 0 ∧ w < v) ∨ (¬ v < 0 ∧ ¬ w < v ∧ ∃ q, NK ≤ q ∧ q < 2 ^ 31 ∧ w = nI q)
theorem zb_range (NK : Nat) (hN : NK ≤ 24) (v w : Int32) : (∃ a b, a ≤ b ∧ b < NK ∧ v = nI a ∧ w = nI b) ∨ zb_badR NK v w := by
  by_cases c : v < 0
  · exact Or.inr (Or.inl c)
  · by_cases d : w < v
    · exact Or.inr (Or.inr (Or.inl ⟨c, d⟩))
    · have e : ¬ w < 0 := fun z => d (Int32.lt_of_lt_of_le z (Int32.not_lt.mp c))
      obtain ⟨a, a1, rfl⟩ := nI_of c
      obtain ⟨b, b1, rfl⟩ := nI_of e
      by_cases f : b < NK
      · exact Or.inl ⟨a, b, by rw [nI_ltI b1 a1] at d; omega, f, rfl, rfl⟩
      · exact Or.inr (Or.inr (Or.inr ⟨c, d, b, by omega, b1, rfl⟩))
def zo_m (LA : Nat) (sO sM : Nat → Int32) (v : Int32) (m : Nat) : Prop := (v = 0 ∧ m = LA) ∨ ∃ j, j < 3 ∧ v = nI (j + 1) ∧ ¬ sO j = 0 ∧ sM j = nI m
def zo_x (sO : Nat → Int32) (v : Int32) : Prop := ¬ v = 0 ∧ ∀ j, j < 3 → v = nI (j + 1) → sO j = 0
theorem zs_cases {LA : Nat} {sO sM ysO ysM : Nat → Int32} (h : zS LA sO sM ysO ysM) (v : Int32) : (∃ m, m ≤ LA ∧ zo_m LA sO sM v m) ∨ zo_x sO v := by
  by_cases c : v = 0
  · exact Or.inl ⟨LA, Nat.le_refl LA, Or.inl ⟨c, rfl⟩⟩
  · by_cases d : ∃ j, j < 3 ∧ v = nI (j + 1) ∧ ¬ sO j = 0
    · obtain ⟨j, j1, j2, j3⟩ := d
      obtain ⟨m, m1, m2⟩ := (h j j1).2.2 j3
      exact Or.inl ⟨m, m1, Or.inr ⟨j, j1, j2, j3, m2⟩⟩
    · exact Or.inr ⟨c, fun j j1 j2 => Classical.byContradiction (fun z => d ⟨j, j1, j2, z⟩)⟩
/-- an int is below 1, or beyond n, or one of 1 .. n -/
theorem zb_hand (n : Nat) (hn : n < 100) (v : Int32) : v < 1 ∨ (¬ v < 1 ∧ ¬ v ≤ nI n ∧ nI n < v) ∨ (∃ j, j < n ∧ v = nI (j + 1) ∧ ¬ v < 1 ∧ v ≤ nI n ∧ ¬ nI n < v ∧ v - 1 = nI j ∧ ¬ v = 0) := by
  by_cases c : v < 1
  · exact Or.inl c
  · have c0 : ¬ v < 0 := fun z => c (Int32.lt_of_lt_of_le z (by decide))
    obtain ⟨q, q1, rfl⟩ := nI_of c0
    have q0 : 1 ≤ q := by
      have : ¬ nI q < nI 1 := c
      rw [nI_ltI q1 (by omega)] at this
      omega
    by_cases d : q ≤ n
    · refine Or.inr (Or.inr ⟨q - 1, by omega, by rw [show q - 1 + 1 = q by omega], c, nI_le d (by omega), nI_nlt d (by omega), ?_, nI_ne0 (by omega) (by omega)⟩)
      have : nI (q - 1 + 1) - 1 = nI (q - 1) := nI_pred _
      rw [show q - 1 + 1 = q by omega] at this
      exact this
    · exact Or.inr (Or.inl ⟨c, nI_ge (by omega) (by omega), nI_lt (by omega) (by omega)⟩)
section
variable {xkc xml xhl xnl xla xfl xfc xhe xbc xjr xjl xjt xjo xjh xjs xic xsa xse xta xoc xgc : Int32} {rS rK rL rH rV rE rI rP fS bS tB tS fi bA sO sM iO iM iL iH iP iK jI jO gu oP : Nat → Int32}
theorem zx_gk1 {post : Int32 → Prop} {NK q : Nat} (hk : xkc = nI NK) (hN : NK ≤ 24) (hq : q < NK) (h : post 1) : wpX_goodKey post (xkc, xml, xhl, xnl, xla, xfl, xfc, xhe, xbc, xjr, xjl, xjt, xjo, xjh, xjs, xic, xsa, xse, xta, xoc, xgc, rS, rK, rL, rH, rV, rE, rI, rP, fS, bS, tB, tS, fi, bA, sO, sM, iO, iM, iL, iH, iP, iK, jI, jO, gu, oP) (nI q) := by
  unfold wpX_goodKey
  dsimp only
  exact br_f (nI_pos (by omega)) (br_f (by rw [hk]; exact nI_ge hq (by omega)) h)
theorem zx_gk0 {post : Int32 → Prop} {NK : Nat} {v : Int32} (hk : xkc = nI NK) (hN : NK ≤ 24) (hv : v < 0 ∨ (¬ v < 0 ∧ ∃ q, NK ≤ q ∧ q < 2 ^ 31 ∧ v = nI q)) (h : post 0) : wpX_goodKey post (xkc, xml, xhl, xnl, xla, xfl, xfc, xhe, xbc, xjr, xjl, xjt, xjo, xjh, xjs, xic, xsa, xse, xta, xoc, xgc, rS, rK, rL, rH, rV, rE, rI, rP, fS, bS, tB, tS, fi, bA, sO, sM, iO, iM, iL, iH, iP, iK, jI, jO, gu, oP) v := by
  unfold wpX_goodKey
  dsimp only
  rcases hv with z | ⟨z, q, q1, q2, rfl⟩
  · exact br_t z h
  · exact br_f z (br_t (by rw [hk]; exact nI_le q1 q2) h)
theorem zx_gr1 {post : Int32 → Prop} {NK a b : Nat} (hk : xkc = nI NK) (hN : NK ≤ 24) (hab : a ≤ b) (hb : b < NK) (h : post 1) : wpX_goodRange post (xkc, xml, xhl, xnl, xla, xfl, xfc, xhe, xbc, xjr, xjl, xjt, xjo, xjh, xjs, xic, xsa, xse, xta, xoc, xgc, rS, rK, rL, rH, rV, rE, rI, rP, fS, bS, tB, tS, fi, bA, sO, sM, iO, iM, iL, iH, iP, iK, jI, jO, gu, oP) (nI a) (nI b) := by
  unfold wpX_goodRange
  dsimp only
  exact br_f (nI_pos (by omega)) (br_f (nI_nlt hab (by omega)) (br_f (by rw [hk]; exact nI_ge hb (by omega)) h))
theorem zx_gr0 {post : Int32 → Prop} {NK : Nat} {v w : Int32} (hk : xkc = nI NK) (hN : NK ≤ 24) (hv : zb_badR NK v w) (h : post 0) : wpX_goodRange post (xkc, xml, xhl, xnl, xla, xfl, xfc, xhe, xbc, xjr, xjl, xjt, xjo, xjh, xjs, xic, xsa, xse, xta, xoc, xgc, rS, rK, rL, rH, rV, rE, rI, rP, fS, bS, tB, tS, fi, bA, sO, sM, iO, iM, iL, iH, iP, iK, jI, jO, gu, oP) v w := by
  unfold wpX_goodRange
  dsimp only
  rcases hv with z | ⟨z, y⟩ | ⟨z, y, q, q1, q2, rfl⟩
  · exact br_t z h
  · exact br_f z (br_t y h)
  · exact br_f z (br_f y (br_t (by rw [hk]; exact nI_le q1 q2) h))
theorem zx_mo1 {post : Int32 → Prop} {LA m : Nat} {v : Int32} (hla : xla = nI LA) (hv : zo_m LA sO sM v m) (h : post (nI m)) : wpX_momentOf post (xkc, xml, xhl, xnl, xla, xfl, xfc, xhe, xbc, xjr, xjl, xjt, xjo, xjh, xjs, xic, xsa, xse, xta, xoc, xgc, rS, rK, rL, rH, rV, rE, rI, rP, fS, bS, tB, tS, fi, bA, sO, sM, iO, iM, iL, iH, iP, iK, jI, jO, gu, oP) v := by
  unfold wpX_momentOf
  dsimp only
  rcases hv with ⟨z, e⟩ | ⟨j, j1, j2, j3, j4⟩
  · subst e
    exact br_t z (by rw [hla]; exact h)
  · rcases zb_hand 3 (by omega) v with z | ⟨z1, z2, z3⟩ | ⟨i, i1, i2, i3, i4, i5, i6, i7⟩
    · rw [j2] at z
      exact absurd z (nI_nlt (b := 1) (by omega) (by omega))
    · rw [j2] at z2
      exact absurd (nI_le (b := 3) (by omega) (by omega)) z2
    · have e : i = j := by
        have := (nI_eq (by omega) (by omega)).mp (i2.symm.trans j2)
        omega
      subst e
      rw [i6, nI_clamp (by omega : i < 2 ^ 31), j4]
      exact br_f i7 (br_f i3 (br_t i4 ⟨vp_in_nI i1 (by omega), br_f j3 ⟨vp_in_nI i1 (by omega), h⟩⟩))
theorem zx_mo0 {post : Int32 → Prop} {v : Int32} (hv : zo_x sO v) (h : post (-6)) : wpX_momentOf post (xkc, xml, xhl, xnl, xla, xfl, xfc, xhe, xbc, xjr, xjl, xjt, xjo, xjh, xjs, xic, xsa, xse, xta, xoc, xgc, rS, rK, rL, rH, rV, rE, rI, rP, fS, bS, tB, tS, fi, bA, sO, sM, iO, iM, iL, iH, iP, iK, jI, jO, gu, oP) v := by
  unfold wpX_momentOf
  dsimp only
  refine br_f hv.1 ?_
  rcases zb_hand 3 (by omega) v with z | ⟨z1, z2, z3⟩ | ⟨i, i1, i2, i3, i4, i5, i6, i7⟩
  · exact br_t z h
  · exact br_f z1 (br_f z2 h)
  · rw [i6, nI_clamp (by omega : i < 2 ^ 31)]
    exact br_f i3 (br_t i4 ⟨vp_in_nI i1 (by omega), br_t (hv.2 i i1 i2) h⟩)
theorem zx_ix1 {post : Int32 → Prop} {j : Nat} (hj : j < 2) (ho : ¬ iO j = 0) (h : post (nI j)) : wpX_iterIndex post (xkc, xml, xhl, xnl, xla, xfl, xfc, xhe, xbc, xjr, xjl, xjt, xjo, xjh, xjs, xic, xsa, xse, xta, xoc, xgc, rS, rK, rL, rH, rV, rE, rI, rP, fS, bS, tB, tS, fi, bA, sO, sM, iO, iM, iL, iH, iP, iK, jI, jO, gu, oP) (nI (j + 1)) := by
  unfold wpX_iterIndex
  dsimp only
  rw [nI_pred, nI_clamp (by omega : j < 2 ^ 31)]
  exact br_f (nI_nlt (b := 1) (by omega) (by omega)) (br_t (nI_le (b := 2) (by omega) (by omega)) ⟨vp_in_nI hj (by omega), br_f ho h⟩)
theorem zx_ix0 {post : Int32 → Prop} {v : Int32} (hv : ∀ j, j < 2 → v = nI (j + 1) → iO j = 0) (h : post (-1)) : wpX_iterIndex post (xkc, xml, xhl, xnl, xla, xfl, xfc, xhe, xbc, xjr, xjl, xjt, xjo, xjh, xjs, xic, xsa, xse, xta, xoc, xgc, rS, rK, rL, rH, rV, rE, rI, rP, fS, bS, tB, tS, fi, bA, sO, sM, iO, iM, iL, iH, iP, iK, jI, jO, gu, oP) v := by
  unfold wpX_iterIndex
  dsimp only
  rcases zb_hand 2 (by omega) v with z | ⟨z1, z2, z3⟩ | ⟨i, i1, i2, i3, i4, i5, i6, i7⟩
  · exact br_t z h
  · exact br_f z1 (br_f z2 h)
  · rw [i6, nI_clamp (by omega : i < 2 ^ 31)]
    exact br_f i3 (br_t i4 ⟨vp_in_nI i1 (by omega), br_t (hv i i1 i2) h⟩)
end
section
variable {ykc yml yhl ynl yla yfl yjr yjs yjl yjt yjo yjh ygc : Int32} {yS yK yL yH yV yE yI yT ysO ysM yiO yiM yiL yiH yiP yiK yg : Nat → Int32}
theorem zy_bk0 {post : Int32 → Prop} {NK q : Nat} (hk : ykc = nI NK) (hN4 : 4 ≤ NK) (hN : NK ≤ 24) (hq : q < NK) (h : post 0) : wpY_badKey post (ykc, yml, yhl, ynl, yla, yfl, yjr, yjs, yjl, yjt, yjo, yjh, ygc, yS, yK, yL, yH, yV, yE, yI, yT, ysO, ysM, yiO, yiM, yiL, yiH, yiP, yiK, yg) (nI q) := by
  unfold wpY_badKey
  dsimp only
  obtain ⟨M, rfl⟩ : ∃ M, NK = M + 1 := ⟨NK - 1, by omega⟩
  exact br_f (nI_pos (by omega)) (br_t (by rw [hk, nI_pred]; exact nI_le (by omega) (by omega)) h)
theorem zy_bk1 {post : Int32 → Prop} {NK : Nat} {v : Int32} (hk : ykc = nI NK) (hN4 : 4 ≤ NK) (hN : NK ≤ 24) (hv : v < 0 ∨ (¬ v < 0 ∧ ∃ q, NK ≤ q ∧ q < 2 ^ 31 ∧ v = nI q)) (h : post 1) : wpY_badKey post (ykc, yml, yhl, ynl, yla, yfl, yjr, yjs, yjl, yjt, yjo, yjh, ygc, yS, yK, yL, yH, yV, yE, yI, yT, ysO, ysM, yiO, yiM, yiL, yiH, yiP, yiK, yg) v := by
  unfold wpY_badKey
  dsimp only
  obtain ⟨M, rfl⟩ : ∃ M, NK = M + 1 := ⟨NK - 1, by omega⟩
  rcases hv with z | ⟨z, q, q1, q2, rfl⟩
  · exact br_t z h
  · exact br_f z (br_f (by rw [hk, nI_pred]; exact nI_ge (by omega) q2) h)
theorem zy_gr1 {post : Int32 → Prop} {NK a b : Nat} (hk : ykc = nI NK) (hN4 : 4 ≤ NK) (hN : NK ≤ 24) (hab : a ≤ b) (hb : b < NK) (h : post 1) : wpY_goodRange post (ykc, yml, yhl, ynl, yla, yfl, yjr, yjs, yjl, yjt, yjo, yjh, ygc, yS, yK, yL, yH, yV, yE, yI, yT, ysO, ysM, yiO, yiM, yiL, yiH, yiP, yiK, yg) (nI a) (nI b) := by
  unfold wpY_goodRange
  dsimp only
  obtain ⟨M, rfl⟩ : ∃ M, NK = M + 1 := ⟨NK - 1, by omega⟩
  exact br_f (nI_pos (by omega)) (br_f (nI_nlt hab (by omega)) (br_f (by rw [hk, nI_pred]; exact nI_nlt (by omega) (by omega)) h))
theorem zy_gr0 {post : Int32 → Prop} {NK : Nat} {v w : Int32} (hk : ykc = nI NK) (hN4 : 4 ≤ NK) (hN : NK ≤ 24) (hv : zb_badR NK v w) (h : post 0) : wpY_goodRange post (ykc, yml, yhl, ynl, yla, yfl, yjr, yjs, yjl, yjt, yjo, yjh, ygc, yS, yK, yL, yH, yV, yE, yI, yT, ysO, ysM, yiO, yiM, yiL, yiH, yiP, yiK, yg) v w := by
  unfold wpY_goodRange
  dsimp only
  obtain ⟨M, rfl⟩ : ∃ M, NK = M + 1 := ⟨NK - 1, by omega⟩
  rcases hv with z | ⟨z, y⟩ | ⟨z, y, q, q1, q2, rfl⟩
  · exact br_t z h
  · exact br_f z (br_t y h)
  · exact br_f z (br_f y (br_t (by rw [hk, nI_pred]; exact nI_lt (by omega) q2) h))
theorem zy_us1 {post : Int32 → Prop} {LA m : Nat} {v : Int32} {sO sM : Nat → Int32} (hst : ∀ j, j < 3 → ysO (j + 1) = sO j ∧ ysM (j + 1) = sM j) (hv : zo_m LA sO sM v m) (h : post 1) : wpY_usable post (ykc, yml, yhl, ynl, yla, yfl, yjr, yjs, yjl, yjt, yjo, yjh, ygc, yS, yK, yL, yH, yV, yE, yI, yT, ysO, ysM, yiO, yiM, yiL, yiH, yiP, yiK, yg) v := by
  unfold wpY_usable
  dsimp only
  rcases hv with ⟨z, e⟩ | ⟨j, j1, j2, j3, j4⟩
  · exact br_t z h
  · subst j2
    rw [nI_clamp (by omega : j + 1 < 2 ^ 31), (hst j j1).1]
    exact br_f (nI_ne0 (by omega) (by omega)) (br_f (nI_nlt (b := 1) (by omega) (by omega)) (br_f (nI_nlt (a := 3) (by omega) (by omega)) ⟨vp_in_nI (by omega) (by omega), br_f j3 h⟩))
theorem zy_us0 {post : Int32 → Prop} {v : Int32} {sO sM : Nat → Int32} (hst : ∀ j, j < 3 → ysO (j + 1) = sO j ∧ ysM (j + 1) = sM j) (hv : zo_x sO v) (h : post 0) : wpY_usable post (ykc, yml, yhl, ynl, yla, yfl, yjr, yjs, yjl, yjt, yjo, yjh, ygc, yS, yK, yL, yH, yV, yE, yI, yT, ysO, ysM, yiO, yiM, yiL, yiH, yiP, yiK, yg) v := by
  unfold wpY_usable
  dsimp only
  refine br_f hv.1 ?_
  rcases zb_hand 3 (by omega) v with z | ⟨z1, z2, z3⟩ | ⟨i, i1, i2, i3, i4, i5, i6, i7⟩
  · exact br_t z h
  · exact br_f z1 (br_t z3 h)
  · have hz := hv.2 i i1 i2
    subst i2
    rw [nI_clamp (by omega : i + 1 < 2 ^ 31), (hst i i1).1]
    exact br_f i3 (br_f i5 ⟨vp_in_nI (by omega) (by omega), br_t hz h⟩)
theorem zy_mo1 {post : Int32 → Prop} {LA m : Nat} {v : Int32} {sO sM : Nat → Int32} (hla : yla = nI LA) (hst : ∀ j, j < 3 → ysO (j + 1) = sO j ∧ ysM (j + 1) = sM j) (hv : zo_m LA sO sM v m) (h : post (nI m)) : wpY_momentOf post (ykc, yml, yhl, ynl, yla, yfl, yjr, yjs, yjl, yjt, yjo, yjh, ygc, yS, yK, yL, yH, yV, yE, yI, yT, ysO, ysM, yiO, yiM, yiL, yiH, yiP, yiK, yg) v := by
  unfold wpY_momentOf
  dsimp only
  refine zy_us1 hst hv (br_f zl_10 ?_)
  rcases hv with ⟨z, e⟩ | ⟨j, j1, j2, j3, j4⟩
  · subst e
    exact br_t z (by rw [hla]; exact h)
  · subst j2
    rw [nI_clamp (by omega : j + 1 < 2 ^ 31), (hst j j1).2, j4]
    exact br_f (nI_ne0 (by omega) (by omega)) ⟨vp_in_nI (by omega) (by omega), h⟩
theorem zy_mo0 {post : Int32 → Prop} {v : Int32} {sO sM : Nat → Int32} (hst : ∀ j, j < 3 → ysO (j + 1) = sO j ∧ ysM (j + 1) = sM j) (hv : zo_x sO v) (h : post (-6)) : wpY_momentOf post (ykc, yml, yhl, ynl, yla, yfl, yjr, yjs, yjl, yjt, yjo, yjh, ygc, yS, yK, yL, yH, yV, yE, yI, yT, ysO, ysM, yiO, yiM, yiL, yiH, yiP, yiK, yg) v := by
  unfold wpY_momentOf
  dsimp only
  exact zy_us0 hst hv (br_t rfl h)
theorem zy_ix1 {post : Int32 → Prop} {j : Nat} (hj : j < 2) (ho : ¬ yiO (j + 1) = 0) (h : post 1) : wpY_openedIter post (ykc, yml, yhl, ynl, yla, yfl, yjr, yjs, yjl, yjt, yjo, yjh, ygc, yS, yK, yL, yH, yV, yE, yI, yT, ysO, ysM, yiO, yiM, yiL, yiH, yiP, yiK, yg) (nI (j + 1)) := by
  unfold wpY_openedIter
  dsimp only
  rw [nI_clamp (by omega : j + 1 < 2 ^ 31)]
  exact br_f (nI_nlt (b := 1) (by omega) (by omega)) (br_f (nI_nlt (a := 2) (by omega) (by omega)) ⟨vp_in_nI (by omega) (by omega), br_f ho h⟩)
theorem zy_ix0 {post : Int32 → Prop} {v : Int32} (hv : ∀ j, j < 2 → v = nI (j + 1) → yiO (j + 1) = 0) (h : post 0) : wpY_openedIter post (ykc, yml, yhl, ynl, yla, yfl, yjr, yjs, yjl, yjt, yjo, yjh, ygc, yS, yK, yL, yH, yV, yE, yI, yT, ysO, ysM, yiO, yiM, yiL, yiH, yiP, yiK, yg) v := by
  unfold wpY_openedIter
  dsimp only
  rcases zb_hand 2 (by omega) v with z | ⟨z1, z2, z3⟩ | ⟨i, i1, i2, i3, i4, i5, i6, i7⟩
  · exact br_t z h
  · exact br_f z1 (br_t z3 h)
  · have hz := hv i i1 i2
    subst i2
    rw [nI_clamp (by omega : i + 1 < 2 ^ 31)]
    exact br_f i3 (br_f i5 ⟨vp_in_nI (by omega) (by omega), br_t hz h⟩)
end
theorem zi_cases (iO : Nat → Int32) (v : Int32) : (∃ j, j < 2 ∧ v = nI (j + 1) ∧ ¬ iO j = 0) ∨ (∀ j, j < 2 → v = nI (j + 1) → iO j = 0) := by
  by_cases c : ∃ j, j < 2 ∧ v = nI (j + 1) ∧ ¬ iO j = 0
  · exact Or.inl c
  · exact Or.inr (fun j j1 j2 => Classical.byContradiction (fun z => c ⟨j, j1, j2, z⟩))
end
section
theorem zz_H {k : Nat} {al : Nat → Bool} {kd lo hi lv ip : Nat → Nat} {va : Nat → Int32} {sl pl : Nat → Nat} {L : Nat → List Nat} {BS FS : List Nat} {NK ML HL NL LA FL : Nat} {xkc xml xhl xnl xla xfl xfc xhe xbc xjr xjl xjt xjo xjh xjs xic xsa xse xta xoc xgc : Int32} {rS rK rL rH rV rE rI rP fS bS tB tS fi bA sO sM iO iM iL iH iP iK jI jO gu oP : Nat → Int32} {ykc yml yhl ynl yla yfl yjr yjs yjl yjt yjo yjh ygc : Int32} {yS yK yL yH yV yE yI yT ysO ysM yiO yiM yiL yiH yiP yiK yg : Nat → Int32} (h : zR k al kd lo hi lv ip va sl pl L BS FS NK ML HL NL LA FL xkc xml xhl xnl xla xfl xfc xhe xbc xjr xjl xjt xjo xjh xjs xic xsa xse xta xoc xgc rS rK rL rH rV rE rI rP fS bS tB tS fi bA sO sM iO iM iL iH iP iK jI jO gu oP ykc yml yhl ynl yla yfl yjr yjs yjl yjt yjo yjh ygc yS yK yL yH yV yE yI yT ysO ysM yiO yiM yiL yiH yiP yiK yg) : zx_H al kd lo hi lv va sl L NL xnl rS rK rL rH rV tB tS fi := by
  obtain ⟨⟨n1, n2, n3, ⟨n4, n5, n6, n7⟩, n8⟩, ⟨q1, q2, q3, q4, q5, q6, q7⟩, h2⟩ := h
  exact ⟨n4, n7, q5, q6, q1, fun n hn => (q3 n hn).2.1⟩
theorem zz_Y {k : Nat} {al : Nat → Bool} {kd lo hi lv ip : Nat → Nat} {va : Nat → Int32} {sl pl : Nat → Nat} {L : Nat → List Nat} {BS FS : List Nat} {NK ML HL NL LA FL : Nat} {xkc xml xhl xnl xla xfl xfc xhe xbc xjr xjl xjt xjo xjh xjs xic xsa xse xta xoc xgc : Int32} {rS rK rL rH rV rE rI rP fS bS tB tS fi bA sO sM iO iM iL iH iP iK jI jO gu oP : Nat → Int32} {ykc yml yhl ynl yla yfl yjr yjs yjl yjt yjo yjh ygc : Int32} {yS yK yL yH yV yE yI yT ysO ysM yiO yiM yiL yiH yiP yiK yg : Nat → Int32} (h : zR k al kd lo hi lv ip va sl pl L BS FS NK ML HL NL LA FL xkc xml xhl xnl xla xfl xfc xhe xbc xjr xjl xjt xjo xjh xjs xic xsa xse xta xoc xgc rS rK rL rH rV rE rI rP fS bS tB tS fi bA sO sM iO iM iL iH iP iK jI jO gu oP ykc yml yhl ynl yla yfl yjr yjs yjl yjt yjo yjh ygc yS yK yL yH yV yE yI yT ysO ysM yiO yiM yiL yiH yiP yiK yg) : zy_H al kd lo hi lv ip va pl yS yK yL yH yV yE yI := h.2.1.2.1
theorem zl_m6 : ¬ (0 : Int32) ≤ -6 := by decide +kernel
theorem zk_ct0 (V : Nat → Int32) (l h : Nat) : zk_ct V l h l = 0 := by
  rw [zk_ct_same (a := 0) l (by omega) (fun k h1 h2 z => by omega)]
  rfl
theorem i_vc_get {k : Nat} {u : SX} {v : SY} (I : i_Rel k u v) (hk : k + 4 ≤ 2052) (v1 : Int32) (v2 : Int32) : wpX_get (fun r => wpY_get (fun r' => r' = r ∧ i_Rel (k + 4) u v) v v1 v2) u v1 v2 := by
  refine zz_el (P := fun u v => wpX_get (fun r => wpY_get (fun r' => r' = r ∧ i_Rel (k + 4) u v) v v1 v2) u v1 v2) I ?_
  intro al kd lo hi lv ip va sl pl L BS FS NK ML HL NL LA FL xkc xml xhl xnl xla xfl xfc xhe xbc xjr xjl xjt xjo xjh xjs xic xsa xse xta xoc xgc rS rK rL rH rV rE rI rP fS bS tB tS fi bA sO sM iO iM iL iH iP iK jI jO gu oP ykc yml yhl ynl yla yfl yjr yjs yjl yjt yjo yjh ygc yS yK yL yH yV yE yI yT ysO ysM yiO yiM yiL yiH yiP yiK yg hR
  have hU := zz_in (zz_up hR)
  have H := zz_H hR
  have HY := zz_Y hR
  obtain ⟨⟨⟨a1, a2, a3, a4⟩, ⟨b1, b2, b3, b4⟩, ⟨c1, c2, c3⟩, ⟨d1, d2, d3, d4⟩, ⟨e1, e2, e3, e4⟩, ⟨f1, f2, f3⟩⟩, hC, hS, hI, hJ⟩ := id hR
  have hst : ∀ j, j < 3 → ysO (j + 1) = sO j ∧ ysM (j + 1) = sM j := fun j hj => ⟨(hS j hj).1, (hS j hj).2.1⟩
  unfold wpX_get
  dsimp only
  rcases zs_cases hS v1 with ⟨m, hm, hv⟩ | hv
  · refine zx_mo1 e1 hv (br_t (nI_pos' (by omega)) ?_)
    rcases zb_key NK a4 v2 with ⟨q, hq, rfl⟩ | hb
    · refine zx_gk1 a1 a4 hq (br_f zl_10 (zx_va H (by omega) (by omega) ?_))
      unfold wpY_get
      dsimp only
      exact zy_us1 hst hv (br_f zl_10 (zy_bk0 a2 a3 a4 hq (br_t rfl (zy_mo1 e2 hst hv (zy_va HY (by omega) (by omega) ⟨rfl, hU⟩)))))
    · refine zx_gk0 a1 a4 hb (br_t rfl ?_)
      unfold wpY_get
      dsimp only
      exact zy_us1 hst hv (br_f zl_10 (zy_bk1 a2 a3 a4 hb (br_f zl_10 ⟨rfl, hU⟩)))
  · refine zx_mo0 hv (br_f zl_m6 ?_)
    unfold wpY_get
    dsimp only
    exact zy_us0 hst hv (br_t rfl ⟨rfl, hU⟩)
theorem i_vc_momentOf {k : Nat} {u : SX} {v : SY} (I : i_Rel k u v) (hk : k + 4 ≤ 2052) (v1 : Int32) : wpX_momentOf (fun r => wpY_momentOf (fun r' => r' = r ∧ i_Rel (k + 4) u v) v v1) u v1 := by
  refine zz_el (P := fun u v => wpX_momentOf (fun r => wpY_momentOf (fun r' => r' = r ∧ i_Rel (k + 4) u v) v v1) u v1) I ?_
  intro al kd lo hi lv ip va sl pl L BS FS NK ML HL NL LA FL xkc xml xhl xnl xla xfl xfc xhe xbc xjr xjl xjt xjo xjh xjs xic xsa xse xta xoc xgc rS rK rL rH rV rE rI rP fS bS tB tS fi bA sO sM iO iM iL iH iP iK jI jO gu oP ykc yml yhl ynl yla yfl yjr yjs yjl yjt yjo yjh ygc yS yK yL yH yV yE yI yT ysO ysM yiO yiM yiL yiH yiP yiK yg hR
  have hU := zz_in (zz_up hR)
  have H := zz_H hR
  have HY := zz_Y hR
  obtain ⟨⟨⟨a1, a2, a3, a4⟩, ⟨b1, b2, b3, b4⟩, ⟨c1, c2, c3⟩, ⟨d1, d2, d3, d4⟩, ⟨e1, e2, e3, e4⟩, ⟨f1, f2, f3⟩⟩, hC, hS, hI, hJ⟩ := id hR
  have hst : ∀ j, j < 3 → ysO (j + 1) = sO j ∧ ysM (j + 1) = sM j := fun j hj => ⟨(hS j hj).1, (hS j hj).2.1⟩
  rcases zs_cases hS v1 with ⟨m, hm, hv⟩ | hv
  · exact zx_mo1 e1 hv (zy_mo1 e2 hst hv ⟨rfl, hU⟩)
  · exact zx_mo0 hv (zy_mo0 hst hv ⟨rfl, hU⟩)
theorem i_vc_count {k : Nat} {u : SX} {v : SY} (I : i_Rel k u v) (hk : k + 4 ≤ 2052) (v1 : Int32) (v2 : Int32) (v3 : Int32) : wpX_count (fun r => wpY_count (fun r' => r' = r ∧ i_Rel (k + 4) u v) v v1 v2 v3) u v1 v2 v3 := by
  refine zz_el (P := fun u v => wpX_count (fun r => wpY_count (fun r' => r' = r ∧ i_Rel (k + 4) u v) v v1 v2 v3) u v1 v2 v3) I ?_
  intro al kd lo hi lv ip va sl pl L BS FS NK ML HL NL LA FL xkc xml xhl xnl xla xfl xfc xhe xbc xjr xjl xjt xjo xjh xjs xic xsa xse xta xoc xgc rS rK rL rH rV rE rI rP fS bS tB tS fi bA sO sM iO iM iL iH iP iK jI jO gu oP ykc yml yhl ynl yla yfl yjr yjs yjl yjt yjo yjh ygc yS yK yL yH yV yE yI yT ysO ysM yiO yiM yiL yiH yiP yiK yg hR
  have hU := zz_in (zz_up hR)
  have H := zz_H hR
  have HY := zz_Y hR
  obtain ⟨⟨⟨a1, a2, a3, a4⟩, ⟨b1, b2, b3, b4⟩, ⟨c1, c2, c3⟩, ⟨d1, d2, d3, d4⟩, ⟨e1, e2, e3, e4⟩, ⟨f1, f2, f3⟩⟩, hC, hS, hI, hJ⟩ := id hR
  have hst : ∀ j, j < 3 → ysO (j + 1) = sO j ∧ ysM (j + 1) = sM j := fun j hj => ⟨(hS j hj).1, (hS j hj).2.1⟩
  unfold wpX_count
  dsimp only
  rcases zs_cases hS v1 with ⟨m, hm, hv⟩ | hv
  · refine zx_mo1 e1 hv (br_t (nI_pos' (by omega)) ?_)
    rcases zb_range NK a4 v2 v3 with ⟨a, b, hab, hb, rfl, rfl⟩ | hb
    · refine zx_gr1 a1 a4 hab hb (br_f zl_10 (zx_fu H (by omega) (by omega) (by omega) (fun r hr => ⟨26, ?_⟩)))
      have hfin : wpY_count (fun r' => r' = nI (zk_ct (fun k => zg_vl al kd lo hi va k m) a b 24) ∧ i_Rel (k + 4) (xkc, xml, xhl, xnl, xla, xfl, xfc, xhe, xbc, xjr, xjl, xjt, xjo, xjh, xjs, xic, xsa, xse, xta, xoc, xgc, rS, rK, rL, rH, rV, rE, rI, rP, fS, bS, tB, tS, fi, bA, sO, sM, iO, iM, iL, iH, iP, iK, jI, jO, gu, oP) (ykc, yml, yhl, ynl, yla, yfl, yjr, yjs, yjl, yjt, yjo, yjh, ygc, yS, yK, yL, yH, yV, yE, yI, yT, ysO, ysM, yiO, yiM, yiL, yiH, yiP, yiK, yg)) (ykc, yml, yhl, ynl, yla, yfl, yjr, yjs, yjl, yjt, yjo, yjh, ygc, yS, yK, yL, yH, yV, yE, yI, yT, ysO, ysM, yiO, yiM, yiL, yiH, yiP, yiK, yg) v1 (nI a) (nI b) := by
        unfold wpY_count
        dsimp only
        refine zy_us1 hst hv (br_f zl_10 (zy_gr1 a2 a3 a4 hab hb (br_f zl_10 (zy_mo1 e2 hst hv ⟨25, ?_⟩))))
        exact zy_ct_l HY (by omega) (by omega) (by omega) ⟨rfl, hU⟩ 24 0 (by omega)
      have key := zx_ct_l (post := fun r => wpY_count (fun r' => r' = r ∧ i_Rel (k + 4) (xkc, xml, xhl, xnl, xla, xfl, xfc, xhe, xbc, xjr, xjl, xjt, xjo, xjh, xjs, xic, xsa, xse, xta, xoc, xgc, rS, rK, rL, rH, rV, rE, rI, rP, fS, bS, tB, tS, fi, bA, sO, sM, iO, iM, iL, iH, iP, iK, jI, jO, gu, oP) (ykc, yml, yhl, ynl, yla, yfl, yjr, yjs, yjl, yjt, yjo, yjh, ygc, yS, yK, yL, yH, yV, yE, yI, yT, ysO, ysM, yiO, yiM, yiL, yiH, yiP, yiK, yg)) (ykc, yml, yhl, ynl, yla, yfl, yjr, yjs, yjl, yjt, yjo, yjh, ygc, yS, yK, yL, yH, yV, yE, yI, yT, ysO, ysM, yiO, yiM, yiL, yiH, yiP, yiK, yg) v1 (nI a) (nI b)) (l := a) (t := b) (m := m) (xkc := xkc) (xml := xml) (xhl := xhl) (xnl := xnl) (xla := xla) (xfl := xfl) (xfc := xfc) (xhe := xhe) (xbc := xbc) (xjr := xjr) (xjl := xjl) (xjt := xjt) (xjo := xjo) (xjh := xjh) (xjs := xjs) (xic := xic) (xsa := xsa) (xse := xse) (xta := xta) (xoc := xoc) (xgc := xgc) (rS := rS) (rK := rK) (rL := rL) (rH := rH) (rV := rV) (rE := rE) (rI := rI) (rP := rP) (fS := fS) (bS := bS) (tB := tB) (tS := tS) (fi := fi) (bA := bA) (sO := sO) (sM := sM) (iO := iO) (iM := iM) (iL := iL) (iH := iH) (iP := iP) (iK := iK) (jI := jI) (jO := jO) (gu := gu) (oP := oP) H (by omega) (by omega) hfin 26 a r (by omega) (Nat.le_refl a) (by omega) hr
      rw [zk_ct0] at key
      exact key
    · refine zx_gr0 a1 a4 hb (br_t rfl ?_)
      unfold wpY_count
      dsimp only
      exact zy_us1 hst hv (br_f zl_10 (zy_gr0 a2 a3 a4 hb (br_t rfl ⟨rfl, hU⟩)))
  · refine zx_mo0 hv (br_f zl_m6 ?_)
    unfold wpY_count
    dsimp only
    exact zy_us0 hst hv (br_t rfl ⟨rfl, hU⟩)
/-! guarded -/
section
variable {xkc xml xhl xnl xla xfl xfc xhe xbc xjr xjl xjt xjo xjh xjs xic xsa xse xta xoc xgc : Int32} {rS rK rL rH rV rE rI rP fS bS tB tS fi bA sO sM iO iM iL iH iP iK jI jO gu oP : Nat → Int32}
theorem zx_gd_l {post : Int32 → Prop} {v1 : Int32} : ∀ (l : List Nat) (i n : Nat), l.length < n → xgc = nI (i + l.length) → i + l.length ≤ 6 → zl_At gu i id l → ((∃ g, g ∈ l ∧ nI g = v1) → post 1) → (¬ (∃ g, g ∈ l ∧ nI g = v1) → post 0) → wX_guarded_11 post v1 xkc xml xhl xnl xla xfl xfc xhe xbc xjr xjl xjt xjo xjh xjs xic xsa xse xta xoc xgc rS rK rL rH rV rE rI rP fS bS tB tS fi bA sO sM iO iM iL iH iP iK jI jO gu oP n (nI i) := by
  intro l
  induction l with
  | nil =>
    intro i n hn hg h6 hA h1 h0
    simp only [List.length_nil] at hn hg h6
    obtain ⟨n, rfl⟩ : ∃ q, n = q + 1 := ⟨n - 1, by omega⟩
    rw [wX_guarded_11]
    dsimp only
    exact br_t (by rw [hg]; exact nI_le (by omega) (by omega)) (h0 (fun ⟨g, hg, _⟩ => absurd hg List.not_mem_nil))
  | cons g l ih =>
    intro i n hn hg h6 hA h1 h0
    simp only [List.length_cons] at hn hg h6
    obtain ⟨n, rfl⟩ : ∃ q, n = q + 1 := ⟨n - 1, by omega⟩
    have hgu : gu i = nI g := hA.1
    rw [wX_guarded_11]
    dsimp only
    rw [nI_clamp (by omega : i < 2 ^ 31), hgu]
    refine br_f (by rw [hg]; exact nI_ge (by omega) (by omega)) ⟨vp_in_nI (by omega) (by omega), br_c (fun e => h1 ⟨g, List.mem_cons_self, e⟩) (fun e => nm_r (nI_1 i) ?_)⟩
    refine ih (i + 1) n (by omega) (hg.trans (congrArg nI (by omega))) (by omega) hA.2 (fun ⟨x, x1, x2⟩ => h1 ⟨x, List.mem_cons_of_mem g x1, x2⟩) (fun z => h0 (fun ⟨x, x1, x2⟩ => ?_))
    rcases List.mem_cons.mp x1 with w | w
    · subst w; exact e x2
    · exact z ⟨x, w, x2⟩
end
section
variable {ykc yml yhl ynl yla yfl yjr yjs yjl yjt yjo yjh ygc : Int32} {yS yK yL yH yV yE yI yT ysO ysM yiO yiM yiL yiH yiP yiK yg : Nat → Int32}
theorem zy_gd_0 {post : Int32 → Prop} {v1 : Int32} (hj : yjr = 0) (h : post 0) : ∀ (d i : Nat), i + d = 6 → wY_guarded_2 post v1 ykc yml yhl ynl yla yfl yjr yjs yjl yjt yjo yjh ygc yS yK yL yH yV yE yI yT ysO ysM yiO yiM yiL yiH yiP yiK yg (d + 1) (nI i) := by
  intro d
  induction d with
  | zero =>
    intro i hd
    rw [wY_guarded_2]
    dsimp only
    exact br_t (nI_le (a := 6) (by omega) (by omega)) h
  | succ d ih =>
    intro i hd
    rw [wY_guarded_2]
    dsimp only
    exact br_f (nI_ge (b := 6) (by omega) (by omega)) (br_t hj (nm_r (nI_1 i) (ih (i + 1) (by omega))))
theorem zy_gd_t {post : Int32 → Prop} {v1 : Int32} {GL : Nat} (hj : ¬ yjr = 0) (hg : ygc = nI GL) (h : post 0) : ∀ (d i : Nat), i + d = 6 → GL ≤ i → wY_guarded_2 post v1 ykc yml yhl ynl yla yfl yjr yjs yjl yjt yjo yjh ygc yS yK yL yH yV yE yI yT ysO ysM yiO yiM yiL yiH yiP yiK yg (d + 1) (nI i) := by
  intro d
  induction d with
  | zero =>
    intro i hd hi'
    rw [wY_guarded_2]
    dsimp only
    exact br_t (nI_le (a := 6) (by omega) (by omega)) h
  | succ d ih =>
    intro i hd hi'
    rw [wY_guarded_2]
    dsimp only
    exact br_f (nI_ge (b := 6) (by omega) (by omega)) (br_f hj (br_t (by rw [hg]; exact nI_le hi' (by omega)) (nm_r (nI_1 i) (ih (i + 1) (by omega) (by omega)))))
theorem zy_gd_l {post : Int32 → Prop} {v1 : Int32} {GL : Nat} (hj : ¬ yjr = 0) (hg : ygc = nI GL) : ∀ (l : List Nat) (i d : Nat), i + d = 6 → GL = i + l.length → GL ≤ 6 → zl_At yg i id l → ((∃ g, g ∈ l ∧ nI g = v1) → post 1) → (¬ (∃ g, g ∈ l ∧ nI g = v1) → post 0) → wY_guarded_2 post v1 ykc yml yhl ynl yla yfl yjr yjs yjl yjt yjo yjh ygc yS yK yL yH yV yE yI yT ysO ysM yiO yiM yiL yiH yiP yiK yg (d + 1) (nI i) := by
  intro l
  induction l with
  | nil =>
    intro i d hd hGL h6 hA h1 h0
    exact zy_gd_t hj hg (h0 (fun ⟨g, hg, _⟩ => absurd hg List.not_mem_nil)) d i hd (by rw [hGL, List.length_nil]; omega)
  | cons g l ih =>
    intro i d hd hGL h6 hA h1 h0
    rw [List.length_cons] at hGL
    obtain ⟨d, rfl⟩ : ∃ q, d = q + 1 := ⟨d - 1, by omega⟩
    have hgu : yg i = nI g := hA.1
    rw [wY_guarded_2]
    dsimp only
    rw [nI_clamp (by omega : i < 2 ^ 31), hgu]
    refine br_f (nI_ge (b := 6) (by omega) (by omega)) (br_f hj (br_f (by rw [hg]; exact nI_ge (by omega) (by omega)) ⟨vp_in_nI (by omega) (by omega), br_c (fun e => h1 ⟨g, List.mem_cons_self, e⟩) (fun e => nm_r (nI_1 i) ?_)⟩))
    refine ih (i + 1) d (by omega) (by omega) h6 hA.2 (fun ⟨x, x1, x2⟩ => h1 ⟨x, List.mem_cons_of_mem g x1, x2⟩) (fun z => h0 (fun ⟨x, x1, x2⟩ => ?_))
    rcases List.mem_cons.mp x1 with w | w
    · subst w; exact e x2
    · exact z ⟨x, w, x2⟩
end
theorem i_vc_guarded {k : Nat} {u : SX} {v : SY} (I : i_Rel k u v) (hk : k + 4 ≤ 2052) (v1 : Int32) : wpX_guarded (fun r => wpY_guarded (fun r' => r' = r ∧ i_Rel (k + 4) u v) v v1) u v1 := by
  refine zz_el (P := fun u v => wpX_guarded (fun r => wpY_guarded (fun r' => r' = r ∧ i_Rel (k + 4) u v) v v1) u v1) I ?_
  intro al kd lo hi lv ip va sl pl L BS FS NK ML HL NL LA FL xkc xml xhl xnl xla xfl xfc xhe xbc xjr xjl xjt xjo xjh xjs xic xsa xse xta xoc xgc rS rK rL rH rV rE rI rP fS bS tB tS fi bA sO sM iO iM iL iH iP iK jI jO gu oP ykc yml yhl ynl yla yfl yjr yjs yjl yjt yjo yjh ygc yS yK yL yH yV yE yI yT ysO ysM yiO yiM yiL yiH yiP yiK yg hR
  have hU := zz_in (zz_up hR)
  have H := zz_H hR
  have HY := zz_Y hR
  obtain ⟨⟨⟨a1, a2, a3, a4⟩, ⟨b1, b2, b3, b4⟩, ⟨c1, c2, c3⟩, ⟨d1, d2, d3, d4⟩, ⟨e1, e2, e3, e4⟩, ⟨f1, f2, f3⟩⟩, hC, hS, hI, hJ⟩ := id hR
  have hst : ∀ j, j < 3 → ysO (j + 1) = sO j ∧ ysM (j + 1) = sM j := fun j hj => ⟨(hS j hj).1, (hS j hj).2.1⟩
  unfold wpX_guarded
  dsimp only
  obtain ⟨⟨j1, j2, j3, j4, j5, j6⟩, hJ⟩ := hJ
  rcases hJ with ⟨z1, z2, z3⟩ | ⟨z1, JL, JT, GX, GY, JI, RS, RT, JO, SA, TA, g1, g2, g3, g4, g5, ⟨g6, g7, g8⟩, g9⟩
  · refine br_t z1 ?_
    unfold wpY_guarded
    dsimp only
    exact ⟨7, zy_gd_0 (j1.trans z1) ⟨rfl, hU⟩ 6 0 (by omega)⟩
  · obtain ⟨-, -, -, -, ⟨q1, q2, q3, q4⟩, -, -⟩ := g4
    have hj : ¬ yjr = 0 := by rw [j1, z1]; exact zl_10
    have hee : (∃ g, g ∈ GX ∧ nI g = v1) ↔ (∃ g, g ∈ GY ∧ nI g = v1) := ⟨fun ⟨g, w1, w2⟩ => ⟨g, (g9 g).mp w1, w2⟩, fun ⟨g, w1, w2⟩ => ⟨g, (g9 g).mpr w1, w2⟩⟩
    refine br_f (by rw [z1]; exact zl_10) ⟨GX.length + 1, zx_gd_l GX 0 _ (by omega) (q2.trans (congrArg nI (by omega))) (by omega) q1 (fun w => ?_) (fun w => ?_)⟩
    · unfold wpY_guarded
      dsimp only
      exact ⟨7, zy_gd_l hj g7 GY 0 6 (by omega) (by omega) g8 g6 (fun _ => ⟨rfl, hU⟩) (fun y => absurd (hee.mp w) y)⟩
    · unfold wpY_guarded
      dsimp only
      exact ⟨7, zy_gd_l hj g7 GY 0 6 (by omega) (by omega) g8 g6 (fun y => absurd (hee.mpr y) w) (fun _ => ⟨rfl, hU⟩)⟩
end
section
def zv_f (kd lo hi lv ip : Nat → Nat) (va : Nat → Int32) (jr : Int32) (c n : Nat) : Int32 := if c = 0 then nI (lv n) else if c = 1 then nI (kd n) else if c = 2 then nI (lo n) else if c = 3 then nI (hi n) else if c = 4 then va n else if jr = 0 then 0 else nI (ip n)
theorem zv_5 {kd lo hi lv ip : Nat → Nat} {va : Nat → Int32} {jr : Int32} {n : Nat} : zv_f kd lo hi lv ip va jr 5 n = if jr = 0 then 0 else nI (ip n) := rfl
/-- the records of a level -/
theorem zz_lev {al : Nat → Bool} {kd lo hi lv sl : Nat → Nat} {L : Nat → List Nat} {tB tS fi : Nat → Int32} {v : Nat} (hT : zt_Tab kd lo hi sl L tB tS fi) (hM : zt_Mem al kd lv L) (hv : v < 5) : (L (2 * v) ++ L (2 * v + 1)).Nodup ∧ ∀ n, n ∈ L (2 * v) ++ L (2 * v + 1) ↔ al n = true ∧ lv n = v := by
  refine ⟨List.nodup_append.mpr ⟨zo_nodup (hT _ (by omega)).2.2.2.1, zo_nodup (hT _ (by omega)).2.2.2.1, fun a ha b hb e => ?_⟩, fun n => ?_⟩
  · have h1 := ((hM _ _).mp ha).2
    have h2 := ((hM _ _).mp hb).2
    rw [e] at h1
    omega
  · rw [List.mem_append, hM, hM]
    by_cases k : kd n = 3
    · rw [zt_tb3 k]
      exact ⟨fun z => z.elim (fun w => by omega) (fun w => ⟨w.1, by omega⟩), fun z => Or.inr ⟨z.1, by omega⟩⟩
    · rw [zt_tbn k]
      exact ⟨fun z => z.elim (fun w => ⟨w.1, by omega⟩) (fun w => by omega), fun z => Or.inl ⟨z.1, by omega⟩⟩
section
variable {ykc yml yhl ynl yla yfl yjr yjs yjl yjt yjo yjh ygc : Int32} {yS yK yL yH yV yE yI yT ysO ysM yiO yiM yiL yiH yiP yiK yg : Nat → Int32} {al : Nat → Bool} {kd lo hi lv ip : Nat → Nat} {va : Nat → Int32} {pl : Nat → Nat}
theorem zy_rf_l {post : Int32 → Prop} {x1 : Int32} {c : Nat} (hc : c ≤ 5) (H : zy_H al kd lo hi lv ip va pl yS yK yL yH yV yE yI) (h1 : ∀ n, al n = true → nI n = x1 → post (zv_f kd lo hi lv ip va yjr c n)) (h0 : (∀ n, al n = true → ¬ nI n = x1) → post (-1)) :
    ∀ (d i : Nat), i + d = 64 → (∀ n, al n = true → pl n < i → ¬ nI n = x1) → wY_recordField_14 post x1 (nI c) ykc yml yhl ynl yla yfl yjr yjs yjl yjt yjo yjh ygc yS yK yL yH yV yE yI yT ysO ysM yiO yiM yiL yiH yiP yiK yg (d + 1) (nI i) := by
  intro d
  induction d with
  | zero =>
    intro i hd hno
    rw [wY_recordField_14]
    dsimp only
    exact br_t (nI_le (a := 64) (by omega) (by omega)) (h0 (fun n hn => hno n hn (by have := (H.1 n hn).1.1; omega)))
  | succ d ih =>
    intro i hd hno
    have wi : vp_in (nI i) 64 := vp_in_nI (by omega) (by omega)
    have hskip : (∀ n, al n = true → pl n = i → ¬ nI n = x1) → wY_recordField_14 post x1 (nI c) ykc yml yhl ynl yla yfl yjr yjs yjl yjt yjo yjh ygc yS yK yL yH yV yE yI yT ysO ysM yiO yiM yiL yiH yiP yiK yg (d + 1) (nI (i + 1)) := fun hs =>
      ih (i + 1) (by omega) (fun n n1 n2 => by
        by_cases q : pl n = i
        · exact hs n n1 q
        · exact hno n n1 (by omega))
    rw [wY_recordField_14]
    dsimp only
    rw [nI_clamp (by omega : i < 2 ^ 31)]
    refine br_f (nI_ge (b := 64) (by omega) (by omega)) ⟨wi, ?_⟩
    rcases zy_pl H (i := i) (by omega) with ⟨e, hn⟩ | ⟨n, hn, e, hne⟩
    · exact br_t e (nm_r (nI_1 i) (hskip (fun p p1 p2 => absurd p2 (hn p p1))))
    · subst e
      obtain ⟨⟨r1, r2, r3, r4, r45, r46⟩, r5, r6, r7, r8, r9, r10, -⟩ := H.1 n hn
      have hE := (H.2.1 n hn).1
      have hI := (H.2.2.1 n hn).1
      have hi1 := (H.2.2.1 n hn).2
      refine br_f hne ⟨wi, ?_⟩
      rw [r2, hE, r3, r4, r45, r46, hI]
      refine br_c (fun e => ?_) (fun e => nm_r (nI_1 _) (hskip (fun p p1 p2 => by rw [zy_inj H p1 hn p2]; exact e)))
      have hv := h1 n hn e
      refine pk_eq c 0 (fun q => ⟨wi, by subst q; exact hv⟩) (fun q0 => pk_eq c 1 (fun q => ⟨wi, by subst q; exact hv⟩) (fun q1 => pk_eq c 2 (fun q => ⟨wi, by subst q; exact hv⟩) (fun q2 => pk_eq c 3 (fun q => ⟨wi, by subst q; exact hv⟩) (fun q3 => pk_eq c 4 (fun q => ⟨wi, by subst q; exact hv⟩) (fun q4 => ?_)))))
      obtain rfl : c = 5 := by omega
      rw [zv_5] at hv
      refine br_c (fun z => by rw [if_pos z] at hv; exact hv) (fun z => ⟨wi, ?_⟩)
      rw [if_neg z] at hv
      rcases hi1 with w | w
      · rw [w] at hv ⊢
        exact br_t rfl hv
      · rw [w] at hv ⊢
        exact br_f zl_10 hv
end
theorem i_vc_recordField {k : Nat} {u : SX} {v : SY} (I : i_Rel k u v) (hk : k + 4 ≤ 2052) (v1 : Int32) (v2 : Int32) : wpX_recordField (fun r => wpY_recordField (fun r' => r' = r ∧ i_Rel (k + 4) u v) v v1 v2) u v1 v2 := by
  refine zz_el (P := fun u v => wpX_recordField (fun r => wpY_recordField (fun r' => r' = r ∧ i_Rel (k + 4) u v) v v1 v2) u v1 v2) I ?_
  intro al kd lo hi lv ip va sl pl L BS FS NK ML HL NL LA FL xkc xml xhl xnl xla xfl xfc xhe xbc xjr xjl xjt xjo xjh xjs xic xsa xse xta xoc xgc rS rK rL rH rV rE rI rP fS bS tB tS fi bA sO sM iO iM iL iH iP iK jI jO gu oP ykc yml yhl ynl yla yfl yjr yjs yjl yjt yjo yjh ygc yS yK yL yH yV yE yI yT ysO ysM yiO yiM yiL yiH yiP yiK yg hR
  have hU := zz_in (zz_up hR)
  have H := zz_H hR
  have HY := zz_Y hR
  obtain ⟨⟨⟨a1, a2, a3, a4⟩, ⟨b1, b2, b3, b4⟩, ⟨c1, c2, c3⟩, ⟨d1, d2, d3, d4⟩, ⟨e1, e2, e3, e4⟩, ⟨f1, f2, f3⟩⟩, hC, hS, hI, hJ⟩ := id hR
  have hst : ∀ j, j < 3 → ysO (j + 1) = sO j ∧ ysM (j + 1) = sM j := fun j hj => ⟨(hS j hj).1, (hS j hj).2.1⟩
  obtain ⟨q1, q2, q3, q4, q5, q6, q7⟩ := hC
  obtain ⟨⟨p1, p2, p3, p4⟩, p5, p6⟩ := q4
  unfold wpX_recordField
  dsimp only
  refine br_c (fun z => ?_) (fun z => br_c (fun y => ?_) (fun y => ?_))
  · unfold wpY_recordField
    dsimp only
    exact br_t z ⟨rfl, hU⟩
  · obtain ⟨c, hc, rfl⟩ := nI_of2 (M := 5) (n := 5) (by decide) z y
    have hfin : ∀ r, ((∃ n, al n = true ∧ nI n = v1 ∧ r = zv_f kd lo hi lv ip va yjr c n) ∨ ((∀ n, al n = true → ¬ nI n = v1) ∧ r = -1)) → wpY_recordField (fun r' => r' = r ∧ i_Rel (k + 4) (xkc, xml, xhl, xnl, xla, xfl, xfc, xhe, xbc, xjr, xjl, xjt, xjo, xjh, xjs, xic, xsa, xse, xta, xoc, xgc, rS, rK, rL, rH, rV, rE, rI, rP, fS, bS, tB, tS, fi, bA, sO, sM, iO, iM, iL, iH, iP, iK, jI, jO, gu, oP) (ykc, yml, yhl, ynl, yla, yfl, yjr, yjs, yjl, yjt, yjo, yjh, ygc, yS, yK, yL, yH, yV, yE, yI, yT, ysO, ysM, yiO, yiM, yiL, yiH, yiP, yiK, yg)) (ykc, yml, yhl, ynl, yla, yfl, yjr, yjs, yjl, yjt, yjo, yjh, ygc, yS, yK, yL, yH, yV, yE, yI, yT, ysO, ysM, yiO, yiM, yiL, yiH, yiP, yiK, yg) v1 (nI c) := by
      intro r hr
      unfold wpY_recordField
      dsimp only
      refine br_f z (br_t y ⟨65, zy_rf_l hc HY (fun n hn e => ⟨?_, hU⟩) (fun hno => ⟨?_, hU⟩) 64 0 (by omega) (fun n _ hp => by omega)⟩)
      · rcases hr with ⟨n2, w1, w2, w3⟩ | ⟨w1, w2⟩
        · have b1 := (q1 n hn).2.2.1
          have b2 := (q1 n2 w1).2.2.1
          rw [w3, (nI_eq (by omega) (by omega)).mp (e.trans w2.symm)]
        · exact absurd e (w1 n hn)
      · rcases hr with ⟨n2, w1, w2, w3⟩ | ⟨w1, w2⟩
        · exact absurd w2 (hno n2 w1)
        · exact w2.symm
    refine zx_fr p1 (by omega) p2 p3 p4 q1 (fun n hn e => ?_) (fun hno => br_f zl_m1nn (hfin _ (Or.inr ⟨hno, rfl⟩)))
    obtain ⟨⟨r1, r2, r3, r4, r45, r46⟩, r5, r6, r7, r8, r9, r10, -⟩ := q1 n hn
    have hE := (q3 n hn).2.2.1
    have hI1 := (q3 n hn).2.2.2
    have hi1 := (HY.2.2.1 n hn).2
    have wi : vp_in (nI (sl n)) 64 := vp_in_nI r1 (by omega)
    have hv : ∀ r, r = zv_f kd lo hi lv ip va yjr c n → wpY_recordField (fun r' => r' = r ∧ i_Rel (k + 4) (xkc, xml, xhl, xnl, xla, xfl, xfc, xhe, xbc, xjr, xjl, xjt, xjo, xjh, xjs, xic, xsa, xse, xta, xoc, xgc, rS, rK, rL, rH, rV, rE, rI, rP, fS, bS, tB, tS, fi, bA, sO, sM, iO, iM, iL, iH, iP, iK, jI, jO, gu, oP) (ykc, yml, yhl, ynl, yla, yfl, yjr, yjs, yjl, yjt, yjo, yjh, ygc, yS, yK, yL, yH, yV, yE, yI, yT, ysO, ysM, yiO, yiM, yiL, yiH, yiP, yiK, yg)) (ykc, yml, yhl, ynl, yla, yfl, yjr, yjs, yjl, yjt, yjo, yjh, ygc, yS, yK, yL, yH, yV, yE, yI, yT, ysO, ysM, yiO, yiM, yiL, yiH, yiP, yiK, yg) v1 (nI c) := fun r hr => hfin r (Or.inl ⟨n, hn, e, hr⟩)
    rw [nI_clamp (by omega : sl n < 2 ^ 31), hE, r3, r4, r45, r46, hI1]
    refine br_t (nI_pos' (by omega)) (br_f z ?_)
    refine pk_lt 4 c (fun w => ?_) (fun w => ?_)
    · obtain rfl : c = 5 := by omega
      rw [zv_5] at hv
      refine br_c (fun z => hv _ (by rw [hJ.1.1, if_pos z])) (fun z => ⟨wi, ?_⟩)
      rcases hi1 with w2 | w2
      · rw [w2]
        exact br_t rfl (hv 0 (by rw [hJ.1.1, if_neg z, w2]; rfl))
      · rw [w2]
        exact br_f zl_10 (hv 1 (by rw [hJ.1.1, if_neg z, w2]; rfl))
    · exact pk_eq c 0 (fun q => ⟨wi, hv _ (by subst q; rfl)⟩) (fun q0 => pk_eq c 1 (fun q => ⟨wi, hv _ (by subst q; rfl)⟩) (fun q1 => pk_eq c 2 (fun q => ⟨wi, hv _ (by subst q; rfl)⟩) (fun q2 => pk_eq c 3 (fun q => ⟨wi, hv _ (by subst q; rfl)⟩) (fun q3 => pk_eq c 4 (fun q => ⟨wi, hv _ (by subst q; rfl)⟩) (fun q4 => trivial)))))
  · unfold wpY_recordField
    dsimp only
    exact br_f z (br_f y ⟨rfl, hU⟩)
theorem i_vc_info {k : Nat} {u : SX} {v : SY} (I : i_Rel k u v) (hk : k + 4 ≤ 2052) (v1 : Int32) : wpX_info (fun r => wpY_info (fun r' => r' = r ∧ i_Rel (k + 4) u v) v v1) u v1 := by
  refine zz_el (P := fun u v => wpX_info (fun r => wpY_info (fun r' => r' = r ∧ i_Rel (k + 4) u v) v v1) u v1) I ?_
  intro al kd lo hi lv ip va sl pl L BS FS NK ML HL NL LA FL xkc xml xhl xnl xla xfl xfc xhe xbc xjr xjl xjt xjo xjh xjs xic xsa xse xta xoc xgc rS rK rL rH rV rE rI rP fS bS tB tS fi bA sO sM iO iM iL iH iP iK jI jO gu oP ykc yml yhl ynl yla yfl yjr yjs yjl yjt yjo yjh ygc yS yK yL yH yV yE yI yT ysO ysM yiO yiM yiL yiH yiP yiK yg hR
  have hU := zz_in (zz_up hR)
  have H := zz_H hR
  have HY := zz_Y hR
  obtain ⟨⟨⟨a1, a2, a3, a4⟩, ⟨b1, b2, b3, b4⟩, ⟨c1, c2, c3⟩, ⟨d1, d2, d3, d4⟩, ⟨e1, e2, e3, e4⟩, ⟨f1, f2, f3⟩⟩, hC, hS, hI, hJ⟩ := id hR
  have hst : ∀ j, j < 3 → ysO (j + 1) = sO j ∧ ysM (j + 1) = sM j := fun j hj => ⟨(hS j hj).1, (hS j hj).2.1⟩
  obtain ⟨q1, q2, q3, q4, q5, q6, q7⟩ := hC
  obtain ⟨⟨j1, j2, j3, j4, j5, j6⟩, hJ⟩ := hJ
  have hbad : v1 < 0 ∨ (∃ c, c < 2 ^ 31 ∧ v1 = nI c ∧ 10 + NL < c) → wpY_info (fun r' => r' = -14 ∧ i_Rel (k + 4) (xkc, xml, xhl, xnl, xla, xfl, xfc, xhe, xbc, xjr, xjl, xjt, xjo, xjh, xjs, xic, xsa, xse, xta, xoc, xgc, rS, rK, rL, rH, rV, rE, rI, rP, fS, bS, tB, tS, fi, bA, sO, sM, iO, iM, iL, iH, iP, iK, jI, jO, gu, oP) (ykc, yml, yhl, ynl, yla, yfl, yjr, yjs, yjl, yjt, yjo, yjh, ygc, yS, yK, yL, yH, yV, yE, yI, yT, ysO, ysM, yiO, yiM, yiL, yiH, yiP, yiK, yg)) (ykc, yml, yhl, ynl, yla, yfl, yjr, yjs, yjl, yjt, yjo, yjh, ygc, yS, yK, yL, yH, yV, yE, yI, yT, ysO, ysM, yiO, yiM, yiL, yiH, yiP, yiK, yg) v1 := by
    intro hb
    have hne : ∀ c, c < 10 → ¬ v1 = nI c := fun c hc e => by
      rcases hb with z | ⟨c', h1, h2, h3⟩
      · rw [e] at z; exact nI_pos (by omega) z
      · have := (nI_eq (by omega) (by omega)).mp (e.symm.trans h2); omega
    unfold wpY_info
    dsimp only
    refine br_f (hne 0 (by omega)) (br_f (hne 1 (by omega)) (br_f (hne 2 (by omega)) (br_f (hne 3 (by omega)) (br_f (hne 4 (by omega)) (br_f (hne 5 (by omega)) (br_f (hne 6 (by omega)) (br_f (hne 7 (by omega)) (br_f (hne 8 (by omega)) (br_f (hne 9 (by omega)) ?_)))))))))
    rcases hb with z | ⟨c', h1, h2, h3⟩
    · exact br_t (Int32.lt_of_lt_of_le z (by decide)) ⟨rfl, hU⟩
    · subst h2
      exact br_f (nI_nlt (b := 10) (by omega) (by omega)) (br_t (by rw [d2, show (10 : Int32) + nI NL = nI (10 + NL) from nI_add 10 NL]; exact nI_lt h3 (by omega)) ⟨rfl, hU⟩)
  unfold wpX_info
  dsimp only
  by_cases z : v1 < 0
  · refine br_t (Int32.lt_of_lt_of_le z (by decide)) ?_
    unfold wX_info_42
    exact br_t z (hbad (Or.inl z))
  · obtain ⟨c, c31, rfl⟩ := nI_of z
    by_cases c10 : c < 10
    · refine br_t (nI_lt (b := 10) c10 (by omega)) ?_
      unfold wX_info_42
      refine br_f z (br_f (nI_nlt (a := 9) (by omega) (by omega)) ?_)
      have hY : ∀ r, (c = 0 → r = nI LA) → (c = 1 → r = nI FL) → (c = 2 → r = xhe) → (c = 3 → r = xjs) → (c = 4 → (xjr = 0 → r = -1) ∧ (¬ xjr = 0 → r = xjl)) → (c = 5 → (xjr = 0 → r = -1) ∧ (¬ xjr = 0 → r = xjo)) → (c = 6 → (xjr = 0 → r = -1) ∧ (¬ xjr = 0 → r = xjh)) → (c = 7 → r = nI NK) → (c = 8 → r = nI ML) → (c = 9 → r = nI HL) → wpY_info (fun r' => r' = r ∧ i_Rel (k + 4) (xkc, xml, xhl, xnl, xla, xfl, xfc, xhe, xbc, xjr, xjl, xjt, xjo, xjh, xjs, xic, xsa, xse, xta, xoc, xgc, rS, rK, rL, rH, rV, rE, rI, rP, fS, bS, tB, tS, fi, bA, sO, sM, iO, iM, iL, iH, iP, iK, jI, jO, gu, oP) (ykc, yml, yhl, ynl, yla, yfl, yjr, yjs, yjl, yjt, yjo, yjh, ygc, yS, yK, yL, yH, yV, yE, yI, yT, ysO, ysM, yiO, yiM, yiL, yiH, yiP, yiK, yg)) (ykc, yml, yhl, ynl, yla, yfl, yjr, yjs, yjl, yjt, yjo, yjh, ygc, yS, yK, yL, yH, yV, yE, yI, yT, ysO, ysM, yiO, yiM, yiL, yiH, yiP, yiK, yg) (nI c) := by
        intro r w0 w1 w2 w3 w4 w5 w6 w7 w8 w9
        unfold wpY_info
        dsimp only
        refine pk_eq c 0 (fun e => ⟨e2.trans (w0 e).symm, hU⟩) (fun y0 => pk_eq c 1 (fun e => ⟨f2.trans (w1 e).symm, hU⟩) (fun y1 => pk_eq c 2 (fun e => zy_sza HY (fun D k1 k2 => ⟨?_, hU⟩)) (fun y2 => pk_eq c 3 (fun e => br_c (fun y => ⟨?_, hU⟩) (fun y => ⟨j2.trans (w3 e).symm, hU⟩)) (fun y3 => pk_eq c 4 (fun e => br_c (fun y => ⟨((w4 e).1 (j1.symm.trans y)).symm, hU⟩) (fun y => ⟨j3.trans ((w4 e).2 (fun q => y (j1.trans q))).symm, hU⟩)) (fun y4 => pk_eq c 5 (fun e => br_c (fun y => ⟨((w5 e).1 (j1.symm.trans y)).symm, hU⟩) (fun y => ⟨j5.trans ((w5 e).2 (fun q => y (j1.trans q))).symm, hU⟩)) (fun y5 => pk_eq c 6 (fun e => br_c (fun y => ⟨((w6 e).1 (j1.symm.trans y)).symm, hU⟩) (fun y => ⟨j6.trans ((w6 e).2 (fun q => y (j1.trans q))).symm, hU⟩)) (fun y6 => pk_eq c 7 (fun e => ⟨a2.trans (w7 e).symm, hU⟩) (fun y7 => pk_eq c 8 (fun e => ⟨b2.trans (w8 e).symm, hU⟩) (fun y8 => pk_eq c 9 (fun e => ⟨c2.trans (w9 e).symm, hU⟩) (fun y9 => absurd c10 (by omega)))))))))))
        · rw [w2 e, q4.1.2.1, zl_card k1 ((List.nodup_iff_pairwise_ne.mpr (q4.1.2.2.1.imp (fun z => Nat.ne_of_lt z)))) (fun n => (k2 n).trans (q4.1.2.2.2 n).symm)]
        · rw [w3 e]
          rcases hJ with ⟨g1, g2, g3⟩ | ⟨g1, _⟩
          · exact g2.symm
          · rw [j1, g1] at y; exact absurd y zl_10
      refine pk_eq c 0 (fun e => hY _ (fun _ => e1) (fun q => absurd q (by omega)) (fun q => absurd q (by omega)) (fun q => absurd q (by omega)) (fun q => absurd q (by omega)) (fun q => absurd q (by omega)) (fun q => absurd q (by omega)) (fun q => absurd q (by omega)) (fun q => absurd q (by omega)) (fun q => absurd q (by omega))) (fun y0 => ?_)
      refine pk_eq c 1 (fun e => hY _ (fun q => absurd q (by omega)) (fun _ => f1) (fun q => absurd q (by omega)) (fun q => absurd q (by omega)) (fun q => absurd q (by omega)) (fun q => absurd q (by omega)) (fun q => absurd q (by omega)) (fun q => absurd q (by omega)) (fun q => absurd q (by omega)) (fun q => absurd q (by omega))) (fun y1 => ?_)
      refine pk_eq c 2 (fun e => hY _ (fun q => absurd q (by omega)) (fun q => absurd q (by omega)) (fun _ => rfl) (fun q => absurd q (by omega)) (fun q => absurd q (by omega)) (fun q => absurd q (by omega)) (fun q => absurd q (by omega)) (fun q => absurd q (by omega)) (fun q => absurd q (by omega)) (fun q => absurd q (by omega))) (fun y2 => ?_)
      refine pk_eq c 3 (fun e => hY _ (fun q => absurd q (by omega)) (fun q => absurd q (by omega)) (fun q => absurd q (by omega)) (fun _ => rfl) (fun q => absurd q (by omega)) (fun q => absurd q (by omega)) (fun q => absurd q (by omega)) (fun q => absurd q (by omega)) (fun q => absurd q (by omega)) (fun q => absurd q (by omega))) (fun y3 => ?_)
      refine pk_eq c 4 (fun e => br_c (fun y => hY _ (fun q => absurd q (by omega)) (fun q => absurd q (by omega)) (fun q => absurd q (by omega)) (fun q => absurd q (by omega)) (fun _ => ⟨fun _ => rfl, fun q => absurd y q⟩) (fun q => absurd q (by omega)) (fun q => absurd q (by omega)) (fun q => absurd q (by omega)) (fun q => absurd q (by omega)) (fun q => absurd q (by omega))) (fun y => hY _ (fun q => absurd q (by omega)) (fun q => absurd q (by omega)) (fun q => absurd q (by omega)) (fun q => absurd q (by omega)) (fun _ => ⟨fun q => absurd q y, fun _ => rfl⟩) (fun q => absurd q (by omega)) (fun q => absurd q (by omega)) (fun q => absurd q (by omega)) (fun q => absurd q (by omega)) (fun q => absurd q (by omega)))) (fun y4 => ?_)
      refine pk_eq c 5 (fun e => br_c (fun y => hY _ (fun q => absurd q (by omega)) (fun q => absurd q (by omega)) (fun q => absurd q (by omega)) (fun q => absurd q (by omega)) (fun q => absurd q (by omega)) (fun _ => ⟨fun _ => rfl, fun q => absurd y q⟩) (fun q => absurd q (by omega)) (fun q => absurd q (by omega)) (fun q => absurd q (by omega)) (fun q => absurd q (by omega))) (fun y => hY _ (fun q => absurd q (by omega)) (fun q => absurd q (by omega)) (fun q => absurd q (by omega)) (fun q => absurd q (by omega)) (fun q => absurd q (by omega)) (fun _ => ⟨fun q => absurd q y, fun _ => rfl⟩) (fun q => absurd q (by omega)) (fun q => absurd q (by omega)) (fun q => absurd q (by omega)) (fun q => absurd q (by omega)))) (fun y5 => ?_)
      refine pk_eq c 6 (fun e => br_c (fun y => hY _ (fun q => absurd q (by omega)) (fun q => absurd q (by omega)) (fun q => absurd q (by omega)) (fun q => absurd q (by omega)) (fun q => absurd q (by omega)) (fun q => absurd q (by omega)) (fun _ => ⟨fun _ => rfl, fun q => absurd y q⟩) (fun q => absurd q (by omega)) (fun q => absurd q (by omega)) (fun q => absurd q (by omega))) (fun y => hY _ (fun q => absurd q (by omega)) (fun q => absurd q (by omega)) (fun q => absurd q (by omega)) (fun q => absurd q (by omega)) (fun q => absurd q (by omega)) (fun q => absurd q (by omega)) (fun _ => ⟨fun q => absurd q y, fun _ => rfl⟩) (fun q => absurd q (by omega)) (fun q => absurd q (by omega)) (fun q => absurd q (by omega)))) (fun y6 => ?_)
      refine pk_eq c 7 (fun e => hY _ (fun q => absurd q (by omega)) (fun q => absurd q (by omega)) (fun q => absurd q (by omega)) (fun q => absurd q (by omega)) (fun q => absurd q (by omega)) (fun q => absurd q (by omega)) (fun q => absurd q (by omega)) (fun _ => a1) (fun q => absurd q (by omega)) (fun q => absurd q (by omega))) (fun y7 => ?_)
      refine pk_eq c 8 (fun e => hY _ (fun q => absurd q (by omega)) (fun q => absurd q (by omega)) (fun q => absurd q (by omega)) (fun q => absurd q (by omega)) (fun q => absurd q (by omega)) (fun q => absurd q (by omega)) (fun q => absurd q (by omega)) (fun q => absurd q (by omega)) (fun _ => b1) (fun q => absurd q (by omega))) (fun y8 => ?_)
      exact pk_eq c 9 (fun e => hY _ (fun q => absurd q (by omega)) (fun q => absurd q (by omega)) (fun q => absurd q (by omega)) (fun q => absurd q (by omega)) (fun q => absurd q (by omega)) (fun q => absurd q (by omega)) (fun q => absurd q (by omega)) (fun q => absurd q (by omega)) (fun q => absurd q (by omega)) (fun _ => c1)) (fun y9 => trivial)
    · refine br_f (nI_nlt (b := 10) (by omega) (by omega)) ?_
      have e10 : (10 : Int32) + xnl = nI (10 + NL) := by rw [d1]; exact nI_add 10 NL
      rw [e10]
      refine pk_lt (10 + NL) c (fun w => ?_) (fun w => ?_)
      · unfold wX_info_42
        exact br_f z (br_t (nI_lt (a := 9) (by omega) (by omega)) (hbad (Or.inr ⟨c, c31, rfl, w⟩)))
      · obtain ⟨t, rfl⟩ : ∃ t, c = 10 + t := ⟨c - 10, by omega⟩
        have et : nI (10 + t) - 10 = nI t := (pk_sub (a := 10 + t) (b := 10) (by omega)).trans (congrArg nI (by omega))
        obtain ⟨l1, l2⟩ := zz_lev q5 q6 (v := t) (by omega)
        refine nm_r et ?_
        rw [zl_2m, nI_1, nI_clamp (by omega : 2 * t < 2 ^ 31), nI_clamp (by omega : 2 * t + 1 < 2 ^ 31), (q5 (2 * t) (by omega)).2.1, (q5 (2 * t + 1) (by omega)).2.1, nI_add]
        refine ⟨vp_in_nI (by omega) (by omega), vp_in_nI (by omega) (by omega), ?_⟩
        have hne : ∀ i, i < 10 → ¬ nI (10 + t) = nI i := fun i hi' e => by have := (nI_eq (by omega) (by omega)).mp e; omega
        unfold wpY_info
        dsimp only
        refine br_f (hne 0 (by omega)) (br_f (hne 1 (by omega)) (br_f (hne 2 (by omega)) (br_f (hne 3 (by omega)) (br_f (hne 4 (by omega)) (br_f (hne 5 (by omega)) (br_f (hne 6 (by omega)) (br_f (hne 7 (by omega)) (br_f (hne 8 (by omega)) (br_f (hne 9 (by omega)) (br_f (nI_nlt (b := 10) (by omega) (by omega)) ?_))))))))))
        rw [et, d2, show (10 : Int32) + nI NL = nI (10 + NL) from nI_add 10 NL]
        refine br_f (nI_nlt w (by omega)) (zy_szv HY (by omega) (fun D k1 k2 => ⟨?_, by rw [d2] at hU; exact hU⟩))
        rw [zl_card k1 l1 (fun n => (k2 n).trans (l2 n).symm), List.length_append]
theorem i_vc_iterField {k : Nat} {u : SX} {v : SY} (I : i_Rel k u v) (hk : k + 4 ≤ 2052) (v1 : Int32) (v2 : Int32) : wpX_iterField (fun r => wpY_iterField (fun r' => r' = r ∧ i_Rel (k + 4) u v) v v1 v2) u v1 v2 := by
  refine zz_el (P := fun u v => wpX_iterField (fun r => wpY_iterField (fun r' => r' = r ∧ i_Rel (k + 4) u v) v v1 v2) u v1 v2) I ?_
  intro al kd lo hi lv ip va sl pl L BS FS NK ML HL NL LA FL xkc xml xhl xnl xla xfl xfc xhe xbc xjr xjl xjt xjo xjh xjs xic xsa xse xta xoc xgc rS rK rL rH rV rE rI rP fS bS tB tS fi bA sO sM iO iM iL iH iP iK jI jO gu oP ykc yml yhl ynl yla yfl yjr yjs yjl yjt yjo yjh ygc yS yK yL yH yV yE yI yT ysO ysM yiO yiM yiL yiH yiP yiK yg hR
  have hU := zz_in (zz_up hR)
  have H := zz_H hR
  have HY := zz_Y hR
  obtain ⟨⟨⟨a1, a2, a3, a4⟩, ⟨b1, b2, b3, b4⟩, ⟨c1, c2, c3⟩, ⟨d1, d2, d3, d4⟩, ⟨e1, e2, e3, e4⟩, ⟨f1, f2, f3⟩⟩, hC, hS, hI, hJ⟩ := id hR
  have hst : ∀ j, j < 3 → ysO (j + 1) = sO j ∧ ysM (j + 1) = sM j := fun j hj => ⟨(hS j hj).1, (hS j hj).2.1⟩
  unfold wpX_iterField
  dsimp only
  rcases zi_cases iO v1 with ⟨j, j1, rfl, j3⟩ | hv
  · obtain ⟨⟨t1, t2, t3, t4, t5⟩, ho⟩ := hI j j1
    obtain ⟨m, l, h, p, o1, o2, o3, o4, o5, o6, o7, o8, o9⟩ := ho j3
    have wj : vp_in (nI j) 2 := vp_in_nI j1 (by omega)
    have wj3 : vp_in (nI (j + 1)) 3 := vp_in_nI (by omega) (by omega)
    have cj : (nI j).toNatClampNeg = j := nI_clamp (by omega)
    have cj1 : (nI (j + 1)).toNatClampNeg = j + 1 := nI_clamp (by omega)
    have yo : ¬ yiO (j + 1) = 0 := by rw [t1]; exact j3
    refine zx_ix1 j1 j3 (br_t (nI_pos' (by omega)) (br_c (fun z => ?_) (fun z => br_c (fun y => ?_) (fun y => ?_))))
    · unfold wpY_iterField
      dsimp only
      exact zy_ix1 j1 yo (br_f zl_10 (br_t z ⟨rfl, hU⟩))
    · unfold wpY_iterField
      dsimp only
      exact zy_ix1 j1 yo (br_f zl_10 (br_f z (br_f (Int32.not_le.mpr y) ⟨rfl, hU⟩)))
    · obtain ⟨c, hc, rfl⟩ := nI_of2 (M := 5) (n := 5) (by decide) z (Int32.not_lt.mp y)
      rw [cj, o2, o3, o4, o7]
      have hY : ∀ r, (c = 0 → r = nI l) → (c = 1 → r = nI h) → (c = 2 → r = nI m) → (c = 3 → r = nI p) → (4 ≤ c → ¬ p = 1 → r = -1) → (c = 4 → p = 1 → r = yiK (j + 1)) → (c = 5 → ∀ q, q < 24 → p = 1 → yiK (j + 1) = nI q → r = zg_vl al kd lo hi va q m) → wpY_iterField (fun r' => r' = r ∧ i_Rel (k + 4) (xkc, xml, xhl, xnl, xla, xfl, xfc, xhe, xbc, xjr, xjl, xjt, xjo, xjh, xjs, xic, xsa, xse, xta, xoc, xgc, rS, rK, rL, rH, rV, rE, rI, rP, fS, bS, tB, tS, fi, bA, sO, sM, iO, iM, iL, iH, iP, iK, jI, jO, gu, oP) (ykc, yml, yhl, ynl, yla, yfl, yjr, yjs, yjl, yjt, yjo, yjh, ygc, yS, yK, yL, yH, yV, yE, yI, yT, ysO, ysM, yiO, yiM, yiL, yiH, yiP, yiK, yg)) (ykc, yml, yhl, ynl, yla, yfl, yjr, yjs, yjl, yjt, yjo, yjh, ygc, yS, yK, yL, yH, yV, yE, yI, yT, ysO, ysM, yiO, yiM, yiL, yiH, yiP, yiK, yg) (nI (j + 1)) (nI c) := by
        intro r w0 w1 w2 w3 w4 w5 w6
        unfold wpY_iterField
        dsimp only
        rw [cj1, t2, t3, t4, t5, o2, o3, o4, o7]
        refine zy_ix1 j1 yo (br_f zl_10 (br_f z (br_t (Int32.not_lt.mp y) ?_)))
        refine pk_eq c 0 (fun e => ⟨wj3, (w0 e).symm, hU⟩) (fun y0 => pk_eq c 1 (fun e => ⟨wj3, (w1 e).symm, hU⟩) (fun y1 => pk_eq c 2 (fun e => ⟨wj3, (w2 e).symm, hU⟩) (fun y2 => pk_eq c 3 (fun e => ⟨wj3, (w3 e).symm, hU⟩) (fun y3 => ⟨wj3, pk_eq p 1 (fun e => pk_eq c 4 (fun y4 => ⟨wj3, (w5 y4 e).symm, hU⟩) (fun y4 => ⟨wj3, wj3, ?_⟩)) (fun e => ⟨(w4 (by omega) e).symm, hU⟩)⟩))))
        obtain ⟨q, s1, s2, s3, s4⟩ := o9 e
        rw [s2]
        exact zy_va HY (by omega) (by omega) ⟨(w6 (by omega) q (by omega) e s2).symm, hU⟩
      refine pk_eq c 0 (fun e => ⟨wj, hY _ (fun _ => rfl) (fun q => by omega) (fun q => by omega) (fun q => by omega) (fun q => by omega) (fun q => by omega) (fun q => by omega)⟩) (fun y0 => ?_)
      refine pk_eq c 1 (fun e => ⟨wj, hY _ (fun q => by omega) (fun _ => rfl) (fun q => by omega) (fun q => by omega) (fun q => by omega) (fun q => by omega) (fun q => by omega)⟩) (fun y1 => ?_)
      refine pk_eq c 2 (fun e => ⟨wj, hY _ (fun q => by omega) (fun q => by omega) (fun _ => rfl) (fun q => by omega) (fun q => by omega) (fun q => by omega) (fun q => by omega)⟩) (fun y2 => ?_)
      refine pk_eq c 3 (fun e => ⟨wj, hY _ (fun q => by omega) (fun q => by omega) (fun q => by omega) (fun _ => rfl) (fun q => by omega) (fun q => by omega) (fun q => by omega)⟩) (fun y3 => ?_)
      refine pk_eq c 4 (fun e => ⟨wj, pk_eq p 1 (fun ep => ⟨wj, ?_⟩) (fun ep => hY _ (fun q => by omega) (fun q => by omega) (fun q => by omega) (fun q => by omega) (fun _ _ => rfl) (fun _ q => absurd q ep) (fun q => by omega))⟩) (fun y4 => ?_)
      · obtain ⟨q, s1, s2, s3, s4⟩ := o9 ep
        exact hY _ (fun q => by omega) (fun q => by omega) (fun q => by omega) (fun q => by omega) (fun _ q => absurd ep q) (fun _ _ => s1.trans s2.symm) (fun q => by omega)
      · refine pk_eq c 5 (fun e => ⟨wj, pk_eq p 1 (fun ep => ⟨wj, wj, ?_⟩) (fun ep => hY _ (fun q => by omega) (fun q => by omega) (fun q => by omega) (fun q => by omega) (fun _ _ => rfl) (fun _ q => absurd q ep) (fun _ _ _ q => absurd q ep))⟩) (fun y5 => trivial)
        obtain ⟨q, s1, s2, s3, s4⟩ := o9 ep
        rw [s1]
        refine zx_va H (by omega) (by omega) ?_
        refine hY _ (fun q => by omega) (fun q => by omega) (fun q => by omega) (fun q => by omega) (fun _ q => absurd ep q) (fun q => by omega) (fun _ q' hq' _ e' => ?_)
        have : q = q' := (nI_eq (by omega) (by omega)).mp (s2.symm.trans e')
        rw [this]
  · refine zx_ix0 hv (br_f zl_m1nn ?_)
    unfold wpY_iterField
    dsimp only
    exact zy_ix0 (fun j j1 e => by rw [(hI j j1).1.1]; exact hv j j1 e) (br_t rfl ⟨rfl, hU⟩)
end
section
theorem zb_first (N : Nat) (f : Nat → Int32) : (∃ j, j < N ∧ f j = 0 ∧ ∀ i, i < j → ¬ f i = 0) ∨ (∀ j, j < N → ¬ f j = 0) := by
  induction N with
  | zero => exact Or.inr (fun j hj => by omega)
  | succ N ih =>
    rcases ih with ⟨j, j1, j2, j3⟩ | h
    · exact Or.inl ⟨j, by omega, j2, j3⟩
    · by_cases c : f N = 0
      · exact Or.inl ⟨N, by omega, c, h⟩
      · exact Or.inr (fun j hj => by
          by_cases e : j = N
          · subst e; exact c
          · exact h j (by omega))
section
variable {xkc xml xhl xnl xla xfl xfc xhe xbc xjr xjl xjt xjo xjh xjs xic xsa xse xta xoc xgc : Int32} {rS rK rL rH rV rE rI rP fS bS tB tS fi bA sO sM iO iM iL iH iP iK jI jO gu oP : Nat → Int32}
theorem zx_tk1 {post : Int32 → SX → Prop} {m : Int32} {j : Nat} (hj : j < 3) (h0 : sO j = 0) (h1 : ∀ i, i < j → ¬ sO i = 0) (h : post (nI (j + 1)) (xkc, xml, xhl, xnl, xla, xfl, xfc, xhe, xbc, xjr, xjl, xjt, xjo, xjh, xjs, xic, xsa, xse, xta, xoc, xgc, rS, rK, rL, rH, rV, rE, rI, rP, fS, bS, tB, tS, fi, bA, upd sO j 1, upd sM j m, iO, iM, iL, iH, iP, iK, jI, jO, gu, oP)) : wpX_takeSnapshot post (xkc, xml, xhl, xnl, xla, xfl, xfc, xhe, xbc, xjr, xjl, xjt, xjo, xjh, xjs, xic, xsa, xse, xta, xoc, xgc, rS, rK, rL, rH, rV, rE, rI, rP, fS, bS, tB, tS, fi, bA, sO, sM, iO, iM, iL, iH, iP, iK, jI, jO, gu, oP) m := by
  have key : ∀ (d i : Nat), i + d = j → wX_takeSnapshot_2 post m xkc xml xhl xnl xla xfl xfc xhe xbc xjr xjl xjt xjo xjh xjs xic xsa xse xta xoc xgc rS rK rL rH rV rE rI rP fS bS tB tS fi bA sO sM iO iM iL iH iP iK jI jO gu oP (d + 1) (nI i) := by
    intro d
    induction d with
    | zero =>
      intro i hd
      have e : i = j := by omega
      subst e
      rw [wX_takeSnapshot_2]
      dsimp only
      rw [nI_clamp (by omega : i < 2 ^ 31), nI_1, zl_nb1]
      have wi : vp_in (nI i) 3 := vp_in_nI hj (by omega)
      exact br_f (nI_ge (b := 3) (by omega) (by omega)) ⟨wi, br_t h0 ⟨wi, nm_e ⟨wi, nm_e h⟩⟩⟩
    | succ d ih =>
      intro i hd
      rw [wX_takeSnapshot_2]
      dsimp only
      rw [nI_clamp (by omega : i < 2 ^ 31)]
      exact br_f (nI_ge (b := 3) (by omega) (by omega)) ⟨vp_in_nI (by omega) (by omega), br_f (h1 i (by omega)) (nm_r (nI_1 i) (ih (i + 1) (by omega)))⟩
  unfold wpX_takeSnapshot
  dsimp only
  exact ⟨j + 1, key j 0 (by omega)⟩
theorem zx_tk0 {post : Int32 → SX → Prop} {m : Int32} (h1 : ∀ i, i < 3 → ¬ sO i = 0) (h : post (-7) (xkc, xml, xhl, xnl, xla, xfl, xfc, xhe, xbc, xjr, xjl, xjt, xjo, xjh, xjs, xic, xsa, xse, xta, xoc, xgc, rS, rK, rL, rH, rV, rE, rI, rP, fS, bS, tB, tS, fi, bA, sO, sM, iO, iM, iL, iH, iP, iK, jI, jO, gu, oP)) : wpX_takeSnapshot post (xkc, xml, xhl, xnl, xla, xfl, xfc, xhe, xbc, xjr, xjl, xjt, xjo, xjh, xjs, xic, xsa, xse, xta, xoc, xgc, rS, rK, rL, rH, rV, rE, rI, rP, fS, bS, tB, tS, fi, bA, sO, sM, iO, iM, iL, iH, iP, iK, jI, jO, gu, oP) m := by
  have key : ∀ (d i : Nat), i + d = 3 → wX_takeSnapshot_2 post m xkc xml xhl xnl xla xfl xfc xhe xbc xjr xjl xjt xjo xjh xjs xic xsa xse xta xoc xgc rS rK rL rH rV rE rI rP fS bS tB tS fi bA sO sM iO iM iL iH iP iK jI jO gu oP (d + 1) (nI i) := by
    intro d
    induction d with
    | zero =>
      intro i hd
      rw [wX_takeSnapshot_2]
      dsimp only
      exact br_t (nI_le (a := 3) (by omega) (by omega)) h
    | succ d ih =>
      intro i hd
      rw [wX_takeSnapshot_2]
      dsimp only
      rw [nI_clamp (by omega : i < 2 ^ 31)]
      exact br_f (nI_ge (b := 3) (by omega) (by omega)) ⟨vp_in_nI (by omega) (by omega), br_f (h1 i (by omega)) (nm_r (nI_1 i) (ih (i + 1) (by omega)))⟩
  unfold wpX_takeSnapshot
  dsimp only
  exact ⟨4, key 3 0 (by omega)⟩
theorem zx_oi1 {post : Int32 → SX → Prop} {x2 x3 x4 : Int32} {j : Nat} (hj : j < 2) (h0 : iO j = 0) (h1 : ∀ i, i < j → ¬ iO i = 0) (h : post (nI (j + 1)) (xkc, xml, xhl, xnl, xla, xfl, xfc, xhe, xbc, xjr, xjl, xjt, xjo, xjh, xjs, xic, xsa, xse, xta, xoc, xgc, rS, rK, rL, rH, rV, rE, rI, rP, fS, bS, tB, tS, fi, bA, sO, sM, upd iO j 1, upd iM j x4, upd iL j x2, upd iH j x3, upd iP j 0, upd iK j x2, jI, jO, gu, oP)) : ∃ n, wX_openIter_30 post x2 x3 x4 xkc xml xhl xnl xla xfl xfc xhe xbc xjr xjl xjt xjo xjh xjs xic xsa xse xta xoc xgc rS rK rL rH rV rE rI rP fS bS tB tS fi bA sO sM iO iM iL iH iP iK jI jO gu oP n 0 := by
  have key : ∀ (d i : Nat), i + d = j → wX_openIter_30 post x2 x3 x4 xkc xml xhl xnl xla xfl xfc xhe xbc xjr xjl xjt xjo xjh xjs xic xsa xse xta xoc xgc rS rK rL rH rV rE rI rP fS bS tB tS fi bA sO sM iO iM iL iH iP iK jI jO gu oP (d + 1) (nI i) := by
    intro d
    induction d with
    | zero =>
      intro i hd
      have e : i = j := by omega
      subst e
      rw [wX_openIter_30]
      dsimp only
      rw [nI_clamp (by omega : i < 2 ^ 31), nI_1, zl_nb1]
      have wi : vp_in (nI i) 2 := vp_in_nI hj (by omega)
      exact br_f (nI_ge (b := 2) (by omega) (by omega)) ⟨wi, br_t h0 ⟨wi, nm_e ⟨wi, nm_e ⟨wi, nm_e ⟨wi, nm_e ⟨wi, nm_e ⟨wi, nm_e h⟩⟩⟩⟩⟩⟩⟩
    | succ d ih =>
      intro i hd
      rw [wX_openIter_30]
      dsimp only
      rw [nI_clamp (by omega : i < 2 ^ 31)]
      exact br_f (nI_ge (b := 2) (by omega) (by omega)) ⟨vp_in_nI (by omega) (by omega), br_f (h1 i (by omega)) (nm_r (nI_1 i) (ih (i + 1) (by omega)))⟩
  exact ⟨j + 1, key j 0 (by omega)⟩
theorem zx_oi0 {post : Int32 → SX → Prop} {x2 x3 x4 : Int32} (h1 : ∀ i, i < 2 → ¬ iO i = 0) (h : post (-7) (xkc, xml, xhl, xnl, xla, xfl, xfc, xhe, xbc, xjr, xjl, xjt, xjo, xjh, xjs, xic, xsa, xse, xta, xoc, xgc, rS, rK, rL, rH, rV, rE, rI, rP, fS, bS, tB, tS, fi, bA, sO, sM, iO, iM, iL, iH, iP, iK, jI, jO, gu, oP)) : ∃ n, wX_openIter_30 post x2 x3 x4 xkc xml xhl xnl xla xfl xfc xhe xbc xjr xjl xjt xjo xjh xjs xic xsa xse xta xoc xgc rS rK rL rH rV rE rI rP fS bS tB tS fi bA sO sM iO iM iL iH iP iK jI jO gu oP n 0 := by
  have key : ∀ (d i : Nat), i + d = 2 → wX_openIter_30 post x2 x3 x4 xkc xml xhl xnl xla xfl xfc xhe xbc xjr xjl xjt xjo xjh xjs xic xsa xse xta xoc xgc rS rK rL rH rV rE rI rP fS bS tB tS fi bA sO sM iO iM iL iH iP iK jI jO gu oP (d + 1) (nI i) := by
    intro d
    induction d with
    | zero =>
      intro i hd
      rw [wX_openIter_30]
      dsimp only
      exact br_t (nI_le (a := 2) (by omega) (by omega)) h
    | succ d ih =>
      intro i hd
      rw [wX_openIter_30]
      dsimp only
      rw [nI_clamp (by omega : i < 2 ^ 31)]
      exact br_f (nI_ge (b := 2) (by omega) (by omega)) ⟨vp_in_nI (by omega) (by omega), br_f (h1 i (by omega)) (nm_r (nI_1 i) (ih (i + 1) (by omega)))⟩
  exact ⟨3, key 2 0 (by omega)⟩
theorem zx_se0 {post : Int32 → SX → Prop} {x2 : Int32} {j : Nat} (hj : j < 2) (h : post (-1) (xkc, xml, xhl, xnl, xla, xfl, xfc, xhe, xbc, xjr, xjl, xjt, xjo, xjh, xjs, xic, xsa, xse, xta, xoc, xgc, rS, rK, rL, rH, rV, rE, rI, rP, fS, bS, tB, tS, fi, bA, sO, sM, iO, iM, iL, iH, upd iP j x2, iK, jI, jO, gu, oP)) : wpX_settle post (xkc, xml, xhl, xnl, xla, xfl, xfc, xhe, xbc, xjr, xjl, xjt, xjo, xjh, xjs, xic, xsa, xse, xta, xoc, xgc, rS, rK, rL, rH, rV, rE, rI, rP, fS, bS, tB, tS, fi, bA, sO, sM, iO, iM, iL, iH, iP, iK, jI, jO, gu, oP) (nI j) (-1) x2 := by
  unfold wpX_settle
  dsimp only
  rw [nI_clamp (by omega : j < 2 ^ 31)]
  exact br_t rfl ⟨vp_in_nI hj (by omega), nm_e h⟩
theorem zx_se1 {post : Int32 → SX → Prop} {x2 : Int32} {j c : Nat} (hj : j < 2) (hc : c < 100) (h : post (nI c) (xkc, xml, xhl, xnl, xla, xfl, xfc, xhe, xbc, xjr, xjl, xjt, xjo, xjh, xjs, xic, xsa, xse, xta, xoc, xgc, rS, rK, rL, rH, rV, rE, rI, rP, fS, bS, tB, tS, fi, bA, sO, sM, iO, iM, iL, iH, upd iP j 1, upd iK j (nI c), jI, jO, gu, oP)) : wpX_settle post (xkc, xml, xhl, xnl, xla, xfl, xfc, xhe, xbc, xjr, xjl, xjt, xjo, xjh, xjs, xic, xsa, xse, xta, xoc, xgc, rS, rK, rL, rH, rV, rE, rI, rP, fS, bS, tB, tS, fi, bA, sO, sM, iO, iM, iL, iH, iP, iK, jI, jO, gu, oP) (nI j) (nI c) x2 := by
  unfold wpX_settle
  dsimp only
  rw [nI_clamp (by omega : j < 2 ^ 31)]
  exact br_f (zl_nIm1 (by omega)) ⟨vp_in_nI hj (by omega), nm_e ⟨vp_in_nI hj (by omega), nm_e h⟩⟩
end
section
variable {ykc yml yhl ynl yla yfl yjr yjs yjl yjt yjo yjh ygc : Int32} {yS yK yL yH yV yE yI yT ysO ysM yiO yiM yiL yiH yiP yiK yg : Nat → Int32} {al : Nat → Bool} {kd lo hi lv ip : Nat → Nat} {va : Nat → Int32} {pl : Nat → Nat}
theorem zy_tk1 {post : Int32 → SY → Prop} {j : Nat} (hj : j < 3) (h0 : ysO (j + 1) = 0) (h1 : ∀ i, i < j → ¬ ysO (i + 1) = 0) (h : post (nI (j + 1)) (ykc, yml, yhl, ynl, yla, yfl, yjr, yjs, yjl, yjt, yjo, yjh, ygc, yS, yK, yL, yH, yV, yE, yI, yT, upd ysO (j + 1) 1, upd ysM (j + 1) yla, yiO, yiM, yiL, yiH, yiP, yiK, yg)) : wpY_openSnapshot post (ykc, yml, yhl, ynl, yla, yfl, yjr, yjs, yjl, yjt, yjo, yjh, ygc, yS, yK, yL, yH, yV, yE, yI, yT, ysO, ysM, yiO, yiM, yiL, yiH, yiP, yiK, yg) := by
  have key : ∀ (d i : Nat), i + d = j → wY_openSnapshot_2 post ykc yml yhl ynl yla yfl yjr yjs yjl yjt yjo yjh ygc yS yK yL yH yV yE yI yT ysO ysM yiO yiM yiL yiH yiP yiK yg (d + 1) (nI (i + 1)) := by
    intro d
    induction d with
    | zero =>
      intro i hd
      have e : i = j := by omega
      subst e
      rw [wY_openSnapshot_2]
      dsimp only
      rw [nI_clamp (by omega : i + 1 < 2 ^ 31), zl_nb1]
      have wi : vp_in (nI (i + 1)) 4 := vp_in_nI (by omega) (by omega)
      exact br_f (nI_nlt (a := 3) (by omega) (by omega)) ⟨wi, br_t h0 ⟨wi, nm_e ⟨wi, nm_e h⟩⟩⟩
    | succ d ih =>
      intro i hd
      rw [wY_openSnapshot_2]
      dsimp only
      rw [nI_clamp (by omega : i + 1 < 2 ^ 31)]
      exact br_f (nI_nlt (a := 3) (by omega) (by omega)) ⟨vp_in_nI (by omega) (by omega), br_f (h1 i (by omega)) (nm_r (nI_1 _) (ih (i + 1) (by omega)))⟩
  unfold wpY_openSnapshot
  dsimp only
  exact ⟨j + 1, key j 0 (by omega)⟩
theorem zy_tk0 {post : Int32 → SY → Prop} (h1 : ∀ i, i < 3 → ¬ ysO (i + 1) = 0) (h : post (-7) (ykc, yml, yhl, ynl, yla, yfl, yjr, yjs, yjl, yjt, yjo, yjh, ygc, yS, yK, yL, yH, yV, yE, yI, yT, ysO, ysM, yiO, yiM, yiL, yiH, yiP, yiK, yg)) : wpY_openSnapshot post (ykc, yml, yhl, ynl, yla, yfl, yjr, yjs, yjl, yjt, yjo, yjh, ygc, yS, yK, yL, yH, yV, yE, yI, yT, ysO, ysM, yiO, yiM, yiL, yiH, yiP, yiK, yg) := by
  have key : ∀ (d i : Nat), i + d = 3 → wY_openSnapshot_2 post ykc yml yhl ynl yla yfl yjr yjs yjl yjt yjo yjh ygc yS yK yL yH yV yE yI yT ysO ysM yiO yiM yiL yiH yiP yiK yg (d + 1) (nI (i + 1)) := by
    intro d
    induction d with
    | zero =>
      intro i hd
      rw [wY_openSnapshot_2]
      dsimp only
      exact br_t (nI_lt (a := 3) (by omega) (by omega)) h
    | succ d ih =>
      intro i hd
      rw [wY_openSnapshot_2]
      dsimp only
      rw [nI_clamp (by omega : i + 1 < 2 ^ 31)]
      exact br_f (nI_nlt (a := 3) (by omega) (by omega)) ⟨vp_in_nI (by omega) (by omega), br_f (h1 i (by omega)) (nm_r (nI_1 _) (ih (i + 1) (by omega)))⟩
  unfold wpY_openSnapshot
  dsimp only
  exact ⟨4, key 3 0 (by omega)⟩
theorem zy_oi1 {post : Int32 → SY → Prop} {x1 x2 x3 : Int32} {j LA m : Nat} {sO sM : Nat → Int32} (hla : yla = nI LA) (hst : ∀ j, j < 3 → ysO (j + 1) = sO j ∧ ysM (j + 1) = sM j) (hv : zo_m LA sO sM x1 m) (hj : j < 2) (h0 : yiO (j + 1) = 0) (h1 : ∀ i, i < j → ¬ yiO (i + 1) = 0) (h : post (nI (j + 1)) (ykc, yml, yhl, ynl, yla, yfl, yjr, yjs, yjl, yjt, yjo, yjh, ygc, yS, yK, yL, yH, yV, yE, yI, yT, ysO, ysM, upd yiO (j + 1) 1, upd yiM (j + 1) (nI m), upd yiL (j + 1) x2, upd yiH (j + 1) x3, upd yiP (j + 1) 0, yiK, yg)) : ∃ n, wY_openIter_26 post x1 x2 x3 ykc yml yhl ynl yla yfl yjr yjs yjl yjt yjo yjh ygc yS yK yL yH yV yE yI yT ysO ysM yiO yiM yiL yiH yiP yiK yg n 1 := by
  have key : ∀ (d i : Nat), i + d = j → wY_openIter_26 post x1 x2 x3 ykc yml yhl ynl yla yfl yjr yjs yjl yjt yjo yjh ygc yS yK yL yH yV yE yI yT ysO ysM yiO yiM yiL yiH yiP yiK yg (d + 1) (nI (i + 1)) := by
    intro d
    induction d with
    | zero =>
      intro i hd
      have e : i = j := by omega
      subst e
      rw [wY_openIter_26]
      dsimp only
      rw [nI_clamp (by omega : i + 1 < 2 ^ 31), zl_nb1]
      have wi : vp_in (nI (i + 1)) 3 := vp_in_nI (by omega) (by omega)
      exact br_f (nI_nlt (a := 2) (by omega) (by omega)) ⟨wi, br_t h0 ⟨wi, nm_e (zy_mo1 hla hst hv ⟨wi, nm_e ⟨wi, nm_e ⟨wi, nm_e ⟨wi, nm_e h⟩⟩⟩⟩)⟩⟩
    | succ d ih =>
      intro i hd
      rw [wY_openIter_26]
      dsimp only
      rw [nI_clamp (by omega : i + 1 < 2 ^ 31)]
      exact br_f (nI_nlt (a := 2) (by omega) (by omega)) ⟨vp_in_nI (by omega) (by omega), br_f (h1 i (by omega)) (nm_r (nI_1 _) (ih (i + 1) (by omega)))⟩
  exact ⟨j + 1, key j 0 (by omega)⟩
theorem zy_oi0 {post : Int32 → SY → Prop} {x1 x2 x3 : Int32} (h1 : ∀ i, i < 2 → ¬ yiO (i + 1) = 0) (h : post (-7) (ykc, yml, yhl, ynl, yla, yfl, yjr, yjs, yjl, yjt, yjo, yjh, ygc, yS, yK, yL, yH, yV, yE, yI, yT, ysO, ysM, yiO, yiM, yiL, yiH, yiP, yiK, yg)) : ∃ n, wY_openIter_26 post x1 x2 x3 ykc yml yhl ynl yla yfl yjr yjs yjl yjt yjo yjh ygc yS yK yL yH yV yE yI yT ysO ysM yiO yiM yiL yiH yiP yiK yg n 1 := by
  have key : ∀ (d i : Nat), i + d = 2 → wY_openIter_26 post x1 x2 x3 ykc yml yhl ynl yla yfl yjr yjs yjl yjt yjo yjh ygc yS yK yL yH yV yE yI yT ysO ysM yiO yiM yiL yiH yiP yiK yg (d + 1) (nI (i + 1)) := by
    intro d
    induction d with
    | zero =>
      intro i hd
      rw [wY_openIter_26]
      dsimp only
      exact br_t (nI_lt (a := 2) (by omega) (by omega)) h
    | succ d ih =>
      intro i hd
      rw [wY_openIter_26]
      dsimp only
      rw [nI_clamp (by omega : i + 1 < 2 ^ 31)]
      exact br_f (nI_nlt (a := 2) (by omega) (by omega)) ⟨vp_in_nI (by omega) (by omega), br_f (h1 i (by omega)) (nm_r (nI_1 _) (ih (i + 1) (by omega)))⟩
  exact ⟨3, key 2 0 (by omega)⟩
theorem zy_up {post : Int32 → SY → Prop} {i f fy l h m : Nat} {r : Int32} (H : zy_H al kd lo hi lv ip va pl yS yK yL yH yV yE yI) (hi' : i < 3) (hfy : fy < 100) (hl : yiL i = nI l) (hl2 : l < 24) (hh : yiH i = nI h) (hh2 : h < 24) (hm : yiM i = nI m) (hm2 : m ≤ 600) (hr : zk_up (fun k => zg_vl al kd lo hi va k m) f h r) (he : ∀ k, (fy ≤ k ∧ l ≤ k) ↔ f ≤ k)
    (h0 : r = -1 → post (-1) (ykc, yml, yhl, ynl, yla, yfl, yjr, yjs, yjl, yjt, yjo, yjh, ygc, yS, yK, yL, yH, yV, yE, yI, yT, ysO, ysM, yiO, yiM, yiL, yiH, upd yiP i 2, yiK, yg)) (h1 : ∀ c, r = nI c → f ≤ c → c ≤ h → post (nI c) (ykc, yml, yhl, ynl, yla, yfl, yjr, yjs, yjl, yjt, yjo, yjh, ygc, yS, yK, yL, yH, yV, yE, yI, yT, ysO, ysM, yiO, yiM, yiL, yiH, upd yiP i 1, upd yiK i (nI c), yg)) : wpY_goUp post (ykc, yml, yhl, ynl, yla, yfl, yjr, yjs, yjl, yjt, yjo, yjh, ygc, yS, yK, yL, yH, yV, yE, yI, yT, ysO, ysM, yiO, yiM, yiL, yiH, yiP, yiK, yg) (nI i) (nI fy) := by
  unfold wpY_goUp
  dsimp only
  refine ⟨25, zy_up_l H hi' hfy hl hl2 hh hh2 hm hm2 (fun hno => ?_) (fun c c1 c2 c3 c4 c5 => ?_) 24 0 (by omega) (fun j _ _ _ hj => by omega)⟩
  · rcases hr with ⟨e, _⟩ | ⟨c, e, c1, c2, c3, c4⟩
    · exact h0 e
    · have := (he c).mpr c1
      exact absurd (hno c this.1 this.2 c2) c3
  · have hfc := (he c).mp ⟨c1, c2⟩
    rcases hr with ⟨e, hno⟩ | ⟨q, e, q1, q2, q3, q4⟩
    · exact absurd (hno c hfc c3) c4
    · have : q = c := by
        by_cases w : q < c
        · have := (he q).mpr q1
          exact absurd (c5 q this.1 this.2 w) q3
        · by_cases w2 : c < q
          · exact absurd (q4 c hfc w2) c4
          · omega
      subst this
      exact h1 q e q1 q2
theorem zy_dn {post : Int32 → SY → Prop} {i f fy l h m : Nat} {r : Int32} (H : zy_H al kd lo hi lv ip va pl yS yK yL yH yV yE yI) (hi' : i < 3) (hfy : fy ≤ 24) (hl : yiL i = nI l) (hl2 : l < 24) (hh : yiH i = nI h) (hh2 : h < 24) (hm : yiM i = nI m) (hm2 : m ≤ 600) (hr : zk_dn (fun k => zg_vl al kd lo hi va k m) f l r) (he : ∀ k, (k < fy ∧ k ≤ h) ↔ k < f)
    (h0 : r = -1 → post (-1) (ykc, yml, yhl, ynl, yla, yfl, yjr, yjs, yjl, yjt, yjo, yjh, ygc, yS, yK, yL, yH, yV, yE, yI, yT, ysO, ysM, yiO, yiM, yiL, yiH, upd yiP i 0, yiK, yg)) (h1 : ∀ c, r = nI c → l ≤ c → c ≤ h → post (nI c) (ykc, yml, yhl, ynl, yla, yfl, yjr, yjs, yjl, yjt, yjo, yjh, ygc, yS, yK, yL, yH, yV, yE, yI, yT, ysO, ysM, yiO, yiM, yiL, yiH, upd yiP i 1, upd yiK i (nI c), yg)) : ∃ n, wY_prev_49 post (nI i) (nI fy - 1) ykc yml yhl ynl yla yfl yjr yjs yjl yjt yjo yjh ygc yS yK yL yH yV yE yI yT ysO ysM yiO yiM yiL yiH yiP yiK yg n 23 := by
  refine ⟨25, ?_⟩
  have key : wY_prev_49 post (nI i) (nI fy - 1) ykc yml yhl ynl yla yfl yjr yjs yjl yjt yjo yjh ygc yS yK yL yH yV yE yI yT ysO ysM yiO yiM yiL yiH yiP yiK yg (24 + 1) (nI 24 - 1) := by
    refine zy_dn_l H hi' hfy hl hl2 hh hh2 hm hm2 (fun hno => ?_) (fun c c1 c2 c3 c4 c5 => ?_) 24 (by omega) (fun j _ _ _ hj => by omega)
    · rcases hr with ⟨e, _⟩ | ⟨c, e, c1, c2, c3, c4⟩
      · exact h0 e
      · have := (he c).mpr c2
        exact absurd (hno c this.1 c1 this.2) c3
    · have hfc := (he c).mp ⟨c1, c3⟩
      rcases hr with ⟨e, hno⟩ | ⟨q, e, q1, q2, q3, q4⟩
      · exact absurd (hno c c2 hfc) c4
      · have hq := (he q).mpr q2
        have : q = c := by
          by_cases w : c < q
          · exact absurd (c5 q hq.1 hq.2 w) q3
          · by_cases w2 : q < c
            · exact absurd (q4 c w2 hfc) c4
            · omega
        subst this
        exact h1 q e q1 hq.2
  rw [show nI 24 - 1 = (23 : Int32) by decide +kernel] at key
  exact key
end
theorem zS_set {LA j m : Nat} {sO sM ysO ysM a b c d : Nat → Int32} (h : zS LA sO sM ysO ysM) (hm : m ≤ LA) (hne : ∀ i, i ≠ j → a i = sO i ∧ b i = sM i ∧ c (i + 1) = ysO (i + 1) ∧ d (i + 1) = ysM (i + 1)) (e1 : b j = nI m) (e2 : c (j + 1) = a j) (e3 : d (j + 1) = nI m) : zS LA a b c d := by
  intro i hi'
  by_cases q : i = j
  · subst q
    exact ⟨e2, e3.trans e1.symm, fun _ => ⟨m, hm, e1⟩⟩
  · obtain ⟨n1, n2, n3, n4⟩ := hne i q
    rw [n1, n2, n3, n4]
    exact h i hi'
theorem zS_cl {LA j : Nat} {sO sM ysO ysM : Nat → Int32} (h : zS LA sO sM ysO ysM) (hj : j < 3) : zS LA (upd sO j 0) sM (upd ysO (j + 1) 0) ysM := by
  intro i hi'
  obtain ⟨h1, h2, h3⟩ := h i hi'
  by_cases q : i = j
  · subst q
    rw [pk_us, pk_us]
    exact ⟨rfl, h2, fun z => absurd rfl z⟩
  · rw [pk_un q, pk_un (by omega)]
    exact ⟨h1, h2, h3⟩
theorem zI_set {LA j : Nat} {iO iM iL iH iP iK yiO yiM yiL yiH yiP yiK a b c d e f a' b' c' d' e' f' : Nat → Int32} (h : zI LA iO iM iL iH iP iK yiO yiM yiL yiH yiP yiK)
    (hne : ∀ i, i ≠ j → (a i = iO i ∧ b i = iM i ∧ c i = iL i ∧ d i = iH i ∧ e i = iP i ∧ f i = iK i) ∧ (a' (i + 1) = yiO (i + 1) ∧ b' (i + 1) = yiM (i + 1) ∧ c' (i + 1) = yiL (i + 1) ∧ d' (i + 1) = yiH (i + 1) ∧ e' (i + 1) = yiP (i + 1) ∧ f' (i + 1) = yiK (i + 1)))
    (h1 : a' (j + 1) = a j ∧ b' (j + 1) = b j ∧ c' (j + 1) = c j ∧ d' (j + 1) = d j ∧ e' (j + 1) = e j) (h2 : ¬ a j = 0 → ∃ m l h p, zI1 LA j a b c d e f f' m l h p) : zI LA a b c d e f a' b' c' d' e' f' := by
  intro i hi'
  by_cases q : i = j
  · subst q
    exact ⟨h1, h2⟩
  · obtain ⟨⟨n1, n2, n3, n4, n5, n6⟩, ⟨m1, m2, m3, m4, m5, m6⟩⟩ := hne i q
    obtain ⟨k1, k2⟩ := h i hi'
    rw [n1, n2, n3, n4, n5, m1, m2, m3, m4, m5]
    refine ⟨k1, fun z => ?_⟩
    obtain ⟨m, l, hh, p, o⟩ := k2 z
    refine ⟨m, l, hh, p, ?_⟩
    unfold zI1 at o ⊢
    rw [n2, n3, n4, n5, n6, m6]
    exact o
section
variable {k : Nat} {al : Nat → Bool} {kd lo hi lv ip : Nat → Nat} {va : Nat → Int32} {sl pl : Nat → Nat} {L : Nat → List Nat} {BS FS : List Nat} {NK ML HL NL LA FL : Nat} {xkc xml xhl xnl xla xfl xfc xhe xbc xjr xjl xjt xjo xjh xjs xic xsa xse xta xoc xgc : Int32} {rS rK rL rH rV rE rI rP fS bS tB tS fi bA sO sM iO iM iL iH iP iK jI jO gu oP : Nat → Int32} {ykc yml yhl ynl yla yfl yjr yjs yjl yjt yjo yjh ygc : Int32} {yS yK yL yH yV yE yI yT ysO ysM yiO yiM yiL yiH yiP yiK yg : Nat → Int32}
theorem zz_S (hR : zR k al kd lo hi lv ip va sl pl L BS FS NK ML HL NL LA FL xkc xml xhl xnl xla xfl xfc xhe xbc xjr xjl xjt xjo xjh xjs xic xsa xse xta xoc xgc rS rK rL rH rV rE rI rP fS bS tB tS fi bA sO sM iO iM iL iH iP iK jI jO gu oP ykc yml yhl ynl yla yfl yjr yjs yjl yjt yjo yjh ygc yS yK yL yH yV yE yI yT ysO ysM yiO yiM yiL yiH yiP yiK yg) {a b c d : Nat → Int32} (h : zS LA a b c d) : i_Rel (k + 4) (xkc, xml, xhl, xnl, xla, xfl, xfc, xhe, xbc, xjr, xjl, xjt, xjo, xjh, xjs, xic, xsa, xse, xta, xoc, xgc, rS, rK, rL, rH, rV, rE, rI, rP, fS, bS, tB, tS, fi, bA, a, b, iO, iM, iL, iH, iP, iK, jI, jO, gu, oP) (ykc, yml, yhl, ynl, yla, yfl, yjr, yjs, yjl, yjt, yjo, yjh, ygc, yS, yK, yL, yH, yV, yE, yI, yT, c, d, yiO, yiM, yiL, yiH, yiP, yiK, yg) := by
  have hR' := zz_up hR
  exact zz_in ⟨hR'.1, hR'.2.1, h, hR'.2.2.2.1, hR'.2.2.2.2⟩
theorem zz_I (hR : zR k al kd lo hi lv ip va sl pl L BS FS NK ML HL NL LA FL xkc xml xhl xnl xla xfl xfc xhe xbc xjr xjl xjt xjo xjh xjs xic xsa xse xta xoc xgc rS rK rL rH rV rE rI rP fS bS tB tS fi bA sO sM iO iM iL iH iP iK jI jO gu oP ykc yml yhl ynl yla yfl yjr yjs yjl yjt yjo yjh ygc yS yK yL yH yV yE yI yT ysO ysM yiO yiM yiL yiH yiP yiK yg) {a b c d e f a' b' c' d' e' f' : Nat → Int32} (h : zI LA a b c d e f a' b' c' d' e' f') : i_Rel (k + 4) (xkc, xml, xhl, xnl, xla, xfl, xfc, xhe, xbc, xjr, xjl, xjt, xjo, xjh, xjs, xic, xsa, xse, xta, xoc, xgc, rS, rK, rL, rH, rV, rE, rI, rP, fS, bS, tB, tS, fi, bA, sO, sM, a, b, c, d, e, f, jI, jO, gu, oP) (ykc, yml, yhl, ynl, yla, yfl, yjr, yjs, yjl, yjt, yjo, yjh, ygc, yS, yK, yL, yH, yV, yE, yI, yT, ysO, ysM, a', b', c', d', e', f', yg) := by
  have hR' := zz_up hR
  exact zz_in ⟨hR'.1, hR'.2.1, hR'.2.2.1, h, hR'.2.2.2.2⟩
end
theorem i_vc_openSnapshot {k : Nat} {u : SX} {v : SY} (I : i_Rel k u v) (hk : k + 4 ≤ 2052) : wpX_openSnapshot (fun r u' => wpY_openSnapshot (fun r' v' => r' = r ∧ i_Rel (k + 4) u' v') v) u := by
  refine zz_el (P := fun u v => wpX_openSnapshot (fun r u' => wpY_openSnapshot (fun r' v' => r' = r ∧ i_Rel (k + 4) u' v') v) u) I ?_
  intro al kd lo hi lv ip va sl pl L BS FS NK ML HL NL LA FL xkc xml xhl xnl xla xfl xfc xhe xbc xjr xjl xjt xjo xjh xjs xic xsa xse xta xoc xgc rS rK rL rH rV rE rI rP fS bS tB tS fi bA sO sM iO iM iL iH iP iK jI jO gu oP ykc yml yhl ynl yla yfl yjr yjs yjl yjt yjo yjh ygc yS yK yL yH yV yE yI yT ysO ysM yiO yiM yiL yiH yiP yiK yg hR
  have hU := zz_in (zz_up hR)
  have H := zz_H hR
  have HY := zz_Y hR
  obtain ⟨⟨⟨a1, a2, a3, a4⟩, ⟨b1, b2, b3, b4⟩, ⟨c1, c2, c3⟩, ⟨d1, d2, d3, d4⟩, ⟨e1, e2, e3, e4⟩, ⟨f1, f2, f3⟩⟩, hC, hS, hI, hJ⟩ := id hR
  have hst : ∀ j, j < 3 → ysO (j + 1) = sO j ∧ ysM (j + 1) = sM j := fun j hj => ⟨(hS j hj).1, (hS j hj).2.1⟩
  unfold wpX_openSnapshot
  dsimp only
  rcases zb_first 3 sO with ⟨j, j1, j2, j3⟩ | hno
  · have hS' : zS LA (upd sO j 1) (upd sM j xla) (upd ysO (j + 1) 1) (upd ysM (j + 1) yla) := zS_set (j := j) (m := LA) hS (Nat.le_refl LA) (fun i hi' => ⟨pk_un hi', pk_un hi', pk_un (by omega), pk_un (by omega)⟩) (by rw [pk_us]; exact e1) (by rw [pk_us, pk_us]) (by rw [pk_us]; exact e2)
    refine zx_tk1 j1 j2 j3 ?_
    exact zy_tk1 j1 ((hst j j1).1.trans j2) (fun i hi' => by rw [(hst i (by omega)).1]; exact j3 i hi') ⟨rfl, zz_S hR hS'⟩
  · refine zx_tk0 hno ?_
    exact zy_tk0 (fun i hi' => by rw [(hst i hi').1]; exact hno i hi') ⟨rfl, hU⟩
theorem i_vc_openAt {k : Nat} {u : SX} {v : SY} (I : i_Rel k u v) (hk : k + 4 ≤ 2052) (v1 : Int32) : wpX_openAt (fun r u' => wpY_openAt (fun r' v' => r' = r ∧ i_Rel (k + 4) u' v') v v1) u v1 := by
  refine zz_el (P := fun u v => wpX_openAt (fun r u' => wpY_openAt (fun r' v' => r' = r ∧ i_Rel (k + 4) u' v') v v1) u v1) I ?_
  intro al kd lo hi lv ip va sl pl L BS FS NK ML HL NL LA FL xkc xml xhl xnl xla xfl xfc xhe xbc xjr xjl xjt xjo xjh xjs xic xsa xse xta xoc xgc rS rK rL rH rV rE rI rP fS bS tB tS fi bA sO sM iO iM iL iH iP iK jI jO gu oP ykc yml yhl ynl yla yfl yjr yjs yjl yjt yjo yjh ygc yS yK yL yH yV yE yI yT ysO ysM yiO yiM yiL yiH yiP yiK yg hR
  have hU := zz_in (zz_up hR)
  have H := zz_H hR
  have HY := zz_Y hR
  obtain ⟨⟨⟨a1, a2, a3, a4⟩, ⟨b1, b2, b3, b4⟩, ⟨c1, c2, c3⟩, ⟨d1, d2, d3, d4⟩, ⟨e1, e2, e3, e4⟩, ⟨f1, f2, f3⟩⟩, hC, hS, hI, hJ⟩ := id hR
  have hst : ∀ j, j < 3 → ysO (j + 1) = sO j ∧ ysM (j + 1) = sM j := fun j hj => ⟨(hS j hj).1, (hS j hj).2.1⟩
  have hla : xla = yla := e1.trans e2.symm
  have hfl : xfl = yfl := f1.trans f2.symm
  unfold wpX_openAt
  dsimp only
  refine br_c (fun z => ?_) (fun z => br_c (fun y => br_c (fun w => ?_) (fun w => ?_)) (fun y => ?_))
  · unfold wpY_openAt
    dsimp only
    exact br_t z ⟨rfl, hU⟩
  · rw [e1] at y
    obtain ⟨m, m1, rfl⟩ := nI_of z
    have hm : m ≤ LA := (nI_leI m1 (by omega)).mp y
    rcases zb_first 3 sO with ⟨j, j1, j2, j3⟩ | hno
    · have hS' : zS LA (upd sO j 1) (upd sM j (nI m)) (upd ysO (j + 1) 1) (upd (upd ysM (j + 1) yla) (j + 1) (nI m)) := zS_set (j := j) (m := m) hS hm (fun i hi' => ⟨pk_un hi', pk_un hi', pk_un (by omega), by rw [pk_un (by omega), pk_un (by omega)]⟩) pk_us (by rw [pk_us, pk_us]) pk_us
      refine zx_tk1 j1 j2 j3 ?_
      unfold wpY_openAt
      dsimp only
      refine br_f z (br_t (by rw [← hla, e1]; exact y) (br_t (by rw [← hfl]; exact w) (zy_tk1 j1 ((hst j j1).1.trans j2) (fun i hi' => by rw [(hst i (by omega)).1]; exact j3 i hi') ?_)))
      rw [nI_clamp (by omega : j + 1 < 2 ^ 31)]
      exact br_f (nI_nlt (b := 1) (by omega) (by omega)) (br_f (nI_nlt (a := 3) (by omega) (by omega)) ⟨vp_in_nI (by omega) (by omega), nm_e ⟨rfl, zz_S hR hS'⟩⟩)
    · refine zx_tk0 hno ?_
      unfold wpY_openAt
      dsimp only
      exact br_f z (br_t (by rw [← hla, e1]; exact y) (br_t (by rw [← hfl]; exact w) (zy_tk0 (fun i hi' => by rw [(hst i hi').1]; exact hno i hi') (br_t (by decide +kernel) ⟨rfl, hU⟩))))
  · unfold wpY_openAt
    dsimp only
    exact br_f z (br_t (by rw [← hla]; exact y) (br_f (by rw [← hfl]; exact w) ⟨rfl, hU⟩))
  · unfold wpY_openAt
    dsimp only
    exact br_f z (br_f (by rw [← hla]; exact y) ⟨rfl, hU⟩)
theorem i_vc_closeSnapshot {k : Nat} {u : SX} {v : SY} (I : i_Rel k u v) (hk : k + 4 ≤ 2052) (v1 : Int32) : wpX_closeSnapshot (fun r u' => wpY_closeSnapshot (fun r' v' => r' = r ∧ i_Rel (k + 4) u' v') v v1) u v1 := by
  refine zz_el (P := fun u v => wpX_closeSnapshot (fun r u' => wpY_closeSnapshot (fun r' v' => r' = r ∧ i_Rel (k + 4) u' v') v v1) u v1) I ?_
  intro al kd lo hi lv ip va sl pl L BS FS NK ML HL NL LA FL xkc xml xhl xnl xla xfl xfc xhe xbc xjr xjl xjt xjo xjh xjs xic xsa xse xta xoc xgc rS rK rL rH rV rE rI rP fS bS tB tS fi bA sO sM iO iM iL iH iP iK jI jO gu oP ykc yml yhl ynl yla yfl yjr yjs yjl yjt yjo yjh ygc yS yK yL yH yV yE yI yT ysO ysM yiO yiM yiL yiH yiP yiK yg hR
  have hU := zz_in (zz_up hR)
  have H := zz_H hR
  have HY := zz_Y hR
  obtain ⟨⟨⟨a1, a2, a3, a4⟩, ⟨b1, b2, b3, b4⟩, ⟨c1, c2, c3⟩, ⟨d1, d2, d3, d4⟩, ⟨e1, e2, e3, e4⟩, ⟨f1, f2, f3⟩⟩, hC, hS, hI, hJ⟩ := id hR
  have hst : ∀ j, j < 3 → ysO (j + 1) = sO j ∧ ysM (j + 1) = sM j := fun j hj => ⟨(hS j hj).1, (hS j hj).2.1⟩
  unfold wpX_closeSnapshot
  dsimp only
  rcases zb_hand 3 (by omega) v1 with z | ⟨z1, z2, z3⟩ | ⟨i, i1, i2, i3, i4, i5, i6, i7⟩
  · refine br_t z ?_
    unfold wpY_closeSnapshot
    dsimp only
    exact br_t z ⟨rfl, hU⟩
  · refine br_f z1 (br_f z2 ?_)
    unfold wpY_closeSnapshot
    dsimp only
    exact br_f z1 (br_t z3 ⟨rfl, hU⟩)
  · rw [i6, nI_clamp (by omega : i < 2 ^ 31), zl_nb0]
    refine br_f i3 (br_t i4 ⟨vp_in_nI i1 (by omega), br_c (fun e => ?_) (fun e => ⟨vp_in_nI i1 (by omega), nm_e ?_⟩)⟩)
    · subst i2
      unfold wpY_closeSnapshot
      dsimp only
      rw [nI_clamp (by omega : i + 1 < 2 ^ 31), (hst i i1).1]
      exact br_f i3 (br_f i5 ⟨vp_in_nI (by omega) (by omega), br_t e ⟨rfl, hU⟩⟩)
    · subst i2
      unfold wpY_closeSnapshot
      dsimp only
      rw [nI_clamp (by omega : i + 1 < 2 ^ 31), (hst i i1).1, zl_nb0]
      exact br_f i3 (br_f i5 ⟨vp_in_nI (by omega) (by omega), br_f e ⟨vp_in_nI (by omega) (by omega), nm_e ⟨rfl, zz_S hR (zS_cl hS i1)⟩⟩⟩)
end
section
section
variable {k : Nat} {al : Nat → Bool} {kd lo hi lv ip : Nat → Nat} {va : Nat → Int32} {sl pl : Nat → Nat} {L : Nat → List Nat} {BS FS : List Nat} {NK ML HL NL LA FL : Nat} {xkc xml xhl xnl xla xfl xfc xhe xbc xjr xjl xjt xjo xjh xjs xic xsa xse xta xoc xgc : Int32} {rS rK rL rH rV rE rI rP fS bS tB tS fi bA sO sM iO iM iL iH iP iK jI jO gu oP : Nat → Int32} {ykc yml yhl ynl yla yfl yjr yjs yjl yjt yjo yjh ygc : Int32} {yS yK yL yH yV yE yI yT ysO ysM yiO yiM yiL yiH yiP yiK yg : Nat → Int32}
/-- an iterator set to a place and a key -/
theorem zz_Ip {j : Nat} (hR : zR k al kd lo hi lv ip va sl pl L BS FS NK ML HL NL LA FL xkc xml xhl xnl xla xfl xfc xhe xbc xjr xjl xjt xjo xjh xjs xic xsa xse xta xoc xgc rS rK rL rH rV rE rI rP fS bS tB tS fi bA sO sM iO iM iL iH iP iK jI jO gu oP ykc yml yhl ynl yla yfl yjr yjs yjl yjt yjo yjh ygc yS yK yL yH yV yE yI yT ysO ysM yiO yiM yiL yiH yiP yiK yg) (hj : j < 2) (p : Nat) (hp : p = 0 ∨ p = 2) (ho : ¬ iO j = 0) : i_Rel (k + 4) (xkc, xml, xhl, xnl, xla, xfl, xfc, xhe, xbc, xjr, xjl, xjt, xjo, xjh, xjs, xic, xsa, xse, xta, xoc, xgc, rS, rK, rL, rH, rV, rE, rI, rP, fS, bS, tB, tS, fi, bA, sO, sM, iO, iM, iL, iH, upd iP j (nI p), iK, jI, jO, gu, oP) (ykc, yml, yhl, ynl, yla, yfl, yjr, yjs, yjl, yjt, yjo, yjh, ygc, yS, yK, yL, yH, yV, yE, yI, yT, ysO, ysM, yiO, yiM, yiL, yiH, upd yiP (j + 1) (nI p), yiK, yg) := by
  have hI := hR.2.2.2.1
  obtain ⟨⟨t1, t2, t3, t4, t5⟩, h2⟩ := hI j hj
  obtain ⟨m, l, h, p0, o1, o2, o3, o4, o5, o6, o7, o8, o9⟩ := h2 ho
  have hI' : zI LA iO iM iL iH (upd iP j (nI p)) iK yiO yiM yiL yiH (upd yiP (j + 1) (nI p)) yiK := zI_set (j := j) hI (fun i hi' => ⟨⟨rfl, rfl, rfl, rfl, pk_un hi', rfl⟩, ⟨rfl, rfl, rfl, rfl, pk_un (by omega), rfl⟩⟩) ⟨t1, t2, t3, t4, by rw [pk_us, pk_us]⟩ (fun _ => ⟨m, l, h, p, o1, o2, o3, o4, o5, o6, pk_us, by omega, fun e => by omega⟩)
  exact zz_I hR hI'
theorem zz_Ip2 {j : Nat} (hR : zR k al kd lo hi lv ip va sl pl L BS FS NK ML HL NL LA FL xkc xml xhl xnl xla xfl xfc xhe xbc xjr xjl xjt xjo xjh xjs xic xsa xse xta xoc xgc rS rK rL rH rV rE rI rP fS bS tB tS fi bA sO sM iO iM iL iH iP iK jI jO gu oP ykc yml yhl ynl yla yfl yjr yjs yjl yjt yjo yjh ygc yS yK yL yH yV yE yI yT ysO ysM yiO yiM yiL yiH yiP yiK yg) (hj : j < 2) (ho : ¬ iO j = 0) (p : Nat) (hp : p = 0 ∨ p = 2) (hP : iP j = nI p) : i_Rel (k + 4) (xkc, xml, xhl, xnl, xla, xfl, xfc, xhe, xbc, xjr, xjl, xjt, xjo, xjh, xjs, xic, xsa, xse, xta, xoc, xgc, rS, rK, rL, rH, rV, rE, rI, rP, fS, bS, tB, tS, fi, bA, sO, sM, iO, iM, iL, iH, upd iP j (nI p), iK, jI, jO, gu, oP) (ykc, yml, yhl, ynl, yla, yfl, yjr, yjs, yjl, yjt, yjo, yjh, ygc, yS, yK, yL, yH, yV, yE, yI, yT, ysO, ysM, yiO, yiM, yiL, yiH, yiP, yiK, yg) := by
  have hI := hR.2.2.2.1
  obtain ⟨⟨t1, t2, t3, t4, t5⟩, h2⟩ := hI j hj
  obtain ⟨m, l, h, p0, o1, o2, o3, o4, o5, o6, o7, o8, o9⟩ := h2 ho
  have hI' : zI LA iO iM iL iH (upd iP j (nI p)) iK yiO yiM yiL yiH yiP yiK := zI_set (j := j) hI (fun i hi' => ⟨⟨rfl, rfl, rfl, rfl, pk_un hi', rfl⟩, ⟨rfl, rfl, rfl, rfl, rfl, rfl⟩⟩) ⟨t1, t2, t3, t4, by rw [pk_us, t5, hP]⟩ (fun _ => ⟨m, l, h, p, o1, o2, o3, o4, o5, o6, pk_us, by omega, fun e => by omega⟩)
  exact zz_I hR hI'
theorem zz_Ik {j l h c : Nat} (hR : zR k al kd lo hi lv ip va sl pl L BS FS NK ML HL NL LA FL xkc xml xhl xnl xla xfl xfc xhe xbc xjr xjl xjt xjo xjh xjs xic xsa xse xta xoc xgc rS rK rL rH rV rE rI rP fS bS tB tS fi bA sO sM iO iM iL iH iP iK jI jO gu oP ykc yml yhl ynl yla yfl yjr yjs yjl yjt yjo yjh ygc yS yK yL yH yV yE yI yT ysO ysM yiO yiM yiL yiH yiP yiK yg) (hj : j < 2) (ho : ¬ iO j = 0) (hl : iL j = nI l) (hh : iH j = nI h) (hl2 : l < 24) (hh2 : h < 24) (h1 : l ≤ c) (h2 : c ≤ h) : i_Rel (k + 4) (xkc, xml, xhl, xnl, xla, xfl, xfc, xhe, xbc, xjr, xjl, xjt, xjo, xjh, xjs, xic, xsa, xse, xta, xoc, xgc, rS, rK, rL, rH, rV, rE, rI, rP, fS, bS, tB, tS, fi, bA, sO, sM, iO, iM, iL, iH, upd iP j 1, upd iK j (nI c), jI, jO, gu, oP) (ykc, yml, yhl, ynl, yla, yfl, yjr, yjs, yjl, yjt, yjo, yjh, ygc, yS, yK, yL, yH, yV, yE, yI, yT, ysO, ysM, yiO, yiM, yiL, yiH, upd yiP (j + 1) 1, upd yiK (j + 1) (nI c), yg) := by
  have hI := hR.2.2.2.1
  obtain ⟨⟨t1, t2, t3, t4, t5⟩, h3⟩ := hI j hj
  obtain ⟨m, l', h', p0, o1, o2, o3, o4, o5, o6, o7, o8, o9⟩ := h3 ho
  have hI' : zI LA iO iM iL iH (upd iP j 1) (upd iK j (nI c)) yiO yiM yiL yiH (upd yiP (j + 1) 1) (upd yiK (j + 1) (nI c)) := zI_set (j := j) hI (fun i hi' => ⟨⟨rfl, rfl, rfl, rfl, pk_un hi', pk_un hi'⟩, ⟨rfl, rfl, rfl, rfl, pk_un (by omega), pk_un (by omega)⟩⟩) ⟨t1, t2, t3, t4, by rw [pk_us, pk_us]⟩ (fun _ => ⟨m, l, h, 1, o1, o2, hl, hh, by omega, hh2, pk_us, by omega, fun _ => ⟨c, pk_us, pk_us, h1, h2⟩⟩)
  exact zz_I hR hI'
theorem zz_fin {j l h p : Nat} {r : Int32} {WY : (Int32 → SY → Prop) → Prop} (hR : zR k al kd lo hi lv ip va sl pl L BS FS NK ML HL NL LA FL xkc xml xhl xnl xla xfl xfc xhe xbc xjr xjl xjt xjo xjh xjs xic xsa xse xta xoc xgc rS rK rL rH rV rE rI rP fS bS tB tS fi bA sO sM iO iM iL iH iP iK jI jO gu oP ykc yml yhl ynl yla yfl yjr yjs yjl yjt yjo yjh ygc yS yK yL yH yV yE yI yT ysO ysM yiO yiM yiL yiH yiP yiK yg) (hj : j < 2) (ho : ¬ iO j = 0) (hl : iL j = nI l) (hh : iH j = nI h) (hl2 : l < 24) (hh2 : h < 24) (hp : p = 0 ∨ p = 2)
    (hY : ∀ post : Int32 → SY → Prop, (r = -1 → post (-1) (ykc, yml, yhl, ynl, yla, yfl, yjr, yjs, yjl, yjt, yjo, yjh, ygc, yS, yK, yL, yH, yV, yE, yI, yT, ysO, ysM, yiO, yiM, yiL, yiH, upd yiP (j + 1) (nI p), yiK, yg)) → (∀ c, r = nI c → l ≤ c → c ≤ h → post (nI c) (ykc, yml, yhl, ynl, yla, yfl, yjr, yjs, yjl, yjt, yjo, yjh, ygc, yS, yK, yL, yH, yV, yE, yI, yT, ysO, ysM, yiO, yiM, yiL, yiH, upd yiP (j + 1) 1, upd yiK (j + 1) (nI c), yg)) → WY post) :
    (r = -1 → WY (fun r' v' => r' = -1 ∧ i_Rel (k + 4) (xkc, xml, xhl, xnl, xla, xfl, xfc, xhe, xbc, xjr, xjl, xjt, xjo, xjh, xjs, xic, xsa, xse, xta, xoc, xgc, rS, rK, rL, rH, rV, rE, rI, rP, fS, bS, tB, tS, fi, bA, sO, sM, iO, iM, iL, iH, upd iP j (nI p), iK, jI, jO, gu, oP) v')) ∧ (∀ c, r = nI c → l ≤ c → c ≤ h → WY (fun r' v' => r' = nI c ∧ i_Rel (k + 4) (xkc, xml, xhl, xnl, xla, xfl, xfc, xhe, xbc, xjr, xjl, xjt, xjo, xjh, xjs, xic, xsa, xse, xta, xoc, xgc, rS, rK, rL, rH, rV, rE, rI, rP, fS, bS, tB, tS, fi, bA, sO, sM, iO, iM, iL, iH, upd iP j 1, upd iK j (nI c), jI, jO, gu, oP) v')) := by
  refine ⟨fun er => hY _ (fun _ => ⟨rfl, zz_Ip hR hj p hp ho⟩) (fun c e e2 e3 => absurd (e.symm.trans er) (zl_nIm1 (by omega))), fun c ec c1 c2 => hY _ (fun er => absurd (ec.symm.trans er) (zl_nIm1 (by omega))) (fun c' e e2 e3 => ?_)⟩
  have : c' = c := (nI_eq (by omega) (by omega)).mp (e.symm.trans ec)
  subst this
  exact ⟨rfl, zz_Ik hR hj ho hl hh hl2 hh2 c1 c2⟩
end
theorem i_vc_openIter {k : Nat} {u : SX} {v : SY} (I : i_Rel k u v) (hk : k + 4 ≤ 2052) (v1 : Int32) (v2 : Int32) (v3 : Int32) : wpX_openIter (fun r u' => wpY_openIter (fun r' v' => r' = r ∧ i_Rel (k + 4) u' v') v v1 v2 v3) u v1 v2 v3 := by
  refine zz_el (P := fun u v => wpX_openIter (fun r u' => wpY_openIter (fun r' v' => r' = r ∧ i_Rel (k + 4) u' v') v v1 v2 v3) u v1 v2 v3) I ?_
  intro al kd lo hi lv ip va sl pl L BS FS NK ML HL NL LA FL xkc xml xhl xnl xla xfl xfc xhe xbc xjr xjl xjt xjo xjh xjs xic xsa xse xta xoc xgc rS rK rL rH rV rE rI rP fS bS tB tS fi bA sO sM iO iM iL iH iP iK jI jO gu oP ykc yml yhl ynl yla yfl yjr yjs yjl yjt yjo yjh ygc yS yK yL yH yV yE yI yT ysO ysM yiO yiM yiL yiH yiP yiK yg hR
  have hU := zz_in (zz_up hR)
  have H := zz_H hR
  have HY := zz_Y hR
  obtain ⟨⟨⟨a1, a2, a3, a4⟩, ⟨b1, b2, b3, b4⟩, ⟨c1, c2, c3⟩, ⟨d1, d2, d3, d4⟩, ⟨e1, e2, e3, e4⟩, ⟨f1, f2, f3⟩⟩, hC, hS, hI, hJ⟩ := id hR
  have hst : ∀ j, j < 3 → ysO (j + 1) = sO j ∧ ysM (j + 1) = sM j := fun j hj => ⟨(hS j hj).1, (hS j hj).2.1⟩
  unfold wpX_openIter
  dsimp only
  rcases zs_cases hS v1 with ⟨m, hm, hv⟩ | hv
  · refine zx_mo1 e1 hv (br_t (nI_pos' (by omega)) ?_)
    rcases zb_range NK a4 v2 v3 with ⟨a, b, hab, hb, rfl, rfl⟩ | hb
    · refine zx_gr1 a1 a4 hab hb (br_f zl_10 ?_)
      rcases zb_first 2 iO with ⟨j, j1, j2, j3⟩ | hno
      · have hI' : zI LA (upd iO j 1) (upd iM j (nI m)) (upd iL j (nI a)) (upd iH j (nI b)) (upd iP j 0) (upd iK j (nI a)) (upd yiO (j + 1) 1) (upd yiM (j + 1) (nI m)) (upd yiL (j + 1) (nI a)) (upd yiH (j + 1) (nI b)) (upd yiP (j + 1) 0) yiK := zI_set (j := j) hI (fun i hi' => ⟨⟨pk_un hi', pk_un hi', pk_un hi', pk_un hi', pk_un hi', pk_un hi'⟩, ⟨pk_un (by omega), pk_un (by omega), pk_un (by omega), pk_un (by omega), pk_un (by omega), rfl⟩⟩) ⟨by rw [pk_us, pk_us], by rw [pk_us, pk_us], by rw [pk_us, pk_us], by rw [pk_us, pk_us], by rw [pk_us, pk_us]⟩ (fun _ => ⟨m, a, b, 0, hm, pk_us, pk_us, pk_us, hab, by omega, pk_us, by omega, fun e => by omega⟩)
        refine zx_oi1 j1 j2 j3 ?_
        unfold wpY_openIter
        dsimp only
        exact zy_us1 hst hv (br_f zl_10 (zy_gr1 a2 a3 a4 hab hb (br_f zl_10 (zy_oi1 e2 hst hv j1 ((hI j j1).1.1.trans j2) (fun i hi' => by rw [(hI i (by omega)).1.1]; exact j3 i hi') ⟨rfl, zz_I hR hI'⟩))))
      · refine zx_oi0 hno ?_
        unfold wpY_openIter
        dsimp only
        exact zy_us1 hst hv (br_f zl_10 (zy_gr1 a2 a3 a4 hab hb (br_f zl_10 (zy_oi0 (fun i hi' => by rw [(hI i hi').1.1]; exact hno i hi') ⟨rfl, hU⟩))))
    · refine zx_gr0 a1 a4 hb (br_t rfl ?_)
      unfold wpY_openIter
      dsimp only
      exact zy_us1 hst hv (br_f zl_10 (zy_gr0 a2 a3 a4 hb (br_t rfl ⟨rfl, hU⟩)))
  · refine zx_mo0 hv (br_f zl_m6 ?_)
    unfold wpY_openIter
    dsimp only
    exact zy_us0 hst hv (br_t rfl ⟨rfl, hU⟩)
theorem i_vc_closeIter {k : Nat} {u : SX} {v : SY} (I : i_Rel k u v) (hk : k + 4 ≤ 2052) (v1 : Int32) : wpX_closeIter (fun r u' => wpY_closeIter (fun r' v' => r' = r ∧ i_Rel (k + 4) u' v') v v1) u v1 := by
  refine zz_el (P := fun u v => wpX_closeIter (fun r u' => wpY_closeIter (fun r' v' => r' = r ∧ i_Rel (k + 4) u' v') v v1) u v1) I ?_
  intro al kd lo hi lv ip va sl pl L BS FS NK ML HL NL LA FL xkc xml xhl xnl xla xfl xfc xhe xbc xjr xjl xjt xjo xjh xjs xic xsa xse xta xoc xgc rS rK rL rH rV rE rI rP fS bS tB tS fi bA sO sM iO iM iL iH iP iK jI jO gu oP ykc yml yhl ynl yla yfl yjr yjs yjl yjt yjo yjh ygc yS yK yL yH yV yE yI yT ysO ysM yiO yiM yiL yiH yiP yiK yg hR
  have hU := zz_in (zz_up hR)
  have H := zz_H hR
  have HY := zz_Y hR
  obtain ⟨⟨⟨a1, a2, a3, a4⟩, ⟨b1, b2, b3, b4⟩, ⟨c1, c2, c3⟩, ⟨d1, d2, d3, d4⟩, ⟨e1, e2, e3, e4⟩, ⟨f1, f2, f3⟩⟩, hC, hS, hI, hJ⟩ := id hR
  have hst : ∀ j, j < 3 → ysO (j + 1) = sO j ∧ ysM (j + 1) = sM j := fun j hj => ⟨(hS j hj).1, (hS j hj).2.1⟩
  unfold wpX_closeIter
  dsimp only
  rcases zi_cases iO v1 with ⟨j, j1, rfl, j3⟩ | hv
  · obtain ⟨⟨t1, t2, t3, t4, t5⟩, ho⟩ := hI j j1
    have hI' : zI LA (upd iO j 0) iM iL iH iP iK (upd yiO (j + 1) 0) yiM yiL yiH yiP yiK := zI_set (j := j) hI (fun i hi' => ⟨⟨pk_un hi', rfl, rfl, rfl, rfl, rfl⟩, ⟨pk_un (by omega), rfl, rfl, rfl, rfl, rfl⟩⟩) ⟨by rw [pk_us, pk_us], t2, t3, t4, t5⟩ (fun z => absurd pk_us z)
    refine zx_ix1 j1 j3 (br_t (nI_pos' (by omega)) ?_)
    rw [nI_clamp (by omega : j < 2 ^ 31), zl_nb0]
    refine ⟨vp_in_nI j1 (by omega), nm_e ?_⟩
    unfold wpY_closeIter
    dsimp only
    rw [nI_clamp (by omega : j + 1 < 2 ^ 31), zl_nb0]
    exact zy_ix1 j1 (by rw [t1]; exact j3) (br_f zl_10 ⟨vp_in_nI (by omega) (by omega), nm_e ⟨rfl, zz_I hR hI'⟩⟩)
  · refine zx_ix0 hv (br_f zl_m1nn ?_)
    unfold wpY_closeIter
    dsimp only
    exact zy_ix0 (fun j j1 e => by rw [(hI j j1).1.1]; exact hv j j1 e) (br_t rfl ⟨rfl, hU⟩)
theorem i_vc_next {k : Nat} {u : SX} {v : SY} (I : i_Rel k u v) (hk : k + 4 ≤ 2052) (v1 : Int32) : wpX_next (fun r u' => wpY_next (fun r' v' => r' = r ∧ i_Rel (k + 4) u' v') v v1) u v1 := by
  refine zz_el (P := fun u v => wpX_next (fun r u' => wpY_next (fun r' v' => r' = r ∧ i_Rel (k + 4) u' v') v v1) u v1) I ?_
  intro al kd lo hi lv ip va sl pl L BS FS NK ML HL NL LA FL xkc xml xhl xnl xla xfl xfc xhe xbc xjr xjl xjt xjo xjh xjs xic xsa xse xta xoc xgc rS rK rL rH rV rE rI rP fS bS tB tS fi bA sO sM iO iM iL iH iP iK jI jO gu oP ykc yml yhl ynl yla yfl yjr yjs yjl yjt yjo yjh ygc yS yK yL yH yV yE yI yT ysO ysM yiO yiM yiL yiH yiP yiK yg hR
  have hU := zz_in (zz_up hR)
  have H := zz_H hR
  have HY := zz_Y hR
  obtain ⟨⟨⟨a1, a2, a3, a4⟩, ⟨b1, b2, b3, b4⟩, ⟨c1, c2, c3⟩, ⟨d1, d2, d3, d4⟩, ⟨e1, e2, e3, e4⟩, ⟨f1, f2, f3⟩⟩, hC, hS, hI, hJ⟩ := id hR
  have hst : ∀ j, j < 3 → ysO (j + 1) = sO j ∧ ysM (j + 1) = sM j := fun j hj => ⟨(hS j hj).1, (hS j hj).2.1⟩
  unfold wpX_next
  dsimp only
  rcases zi_cases iO v1 with ⟨j, j1, rfl, j3⟩ | hv
  · obtain ⟨⟨t1, t2, t3, t4, t5⟩, ho⟩ := hI j j1
    obtain ⟨m, l, h, p, o1, o2, o3, o4, o5, o6, o7, o8, o9⟩ := ho j3
    have wj : vp_in (nI j) 2 := vp_in_nI j1 (by omega)
    have wj3 : vp_in (nI (j + 1)) 3 := vp_in_nI (by omega) (by omega)
    have cj : (nI j).toNatClampNeg = j := nI_clamp (by omega)
    have cj1 : (nI (j + 1)).toNatClampNeg = j + 1 := nI_clamp (by omega)
    have yo : ¬ yiO (j + 1) = 0 := by rw [t1]; exact j3
    have hgo : ∀ (f : Nat), f ≤ 24 → l ≤ f → (∀ r, zk_up (fun k => zg_vl al kd lo hi va k m) f h r → (r = -1 → wpY_next (fun r' v' => r' = -1 ∧ i_Rel (k + 4) (xkc, xml, xhl, xnl, xla, xfl, xfc, xhe, xbc, xjr, xjl, xjt, xjo, xjh, xjs, xic, xsa, xse, xta, xoc, xgc, rS, rK, rL, rH, rV, rE, rI, rP, fS, bS, tB, tS, fi, bA, sO, sM, iO, iM, iL, iH, upd iP j 2, iK, jI, jO, gu, oP) v') (ykc, yml, yhl, ynl, yla, yfl, yjr, yjs, yjl, yjt, yjo, yjh, ygc, yS, yK, yL, yH, yV, yE, yI, yT, ysO, ysM, yiO, yiM, yiL, yiH, yiP, yiK, yg) (nI (j + 1))) ∧ (∀ c, r = nI c → l ≤ c → c ≤ h → wpY_next (fun r' v' => r' = nI c ∧ i_Rel (k + 4) (xkc, xml, xhl, xnl, xla, xfl, xfc, xhe, xbc, xjr, xjl, xjt, xjo, xjh, xjs, xic, xsa, xse, xta, xoc, xgc, rS, rK, rL, rH, rV, rE, rI, rP, fS, bS, tB, tS, fi, bA, sO, sM, iO, iM, iL, iH, upd iP j 1, upd iK j (nI c), jI, jO, gu, oP) v') (ykc, yml, yhl, ynl, yla, yfl, yjr, yjs, yjl, yjt, yjo, yjh, ygc, yS, yK, yL, yH, yV, yE, yI, yT, ysO, ysM, yiO, yiM, yiL, yiH, yiP, yiK, yg) (nI (j + 1)))) → wX_next_61 (fun r u' => wpY_next (fun r' v' => r' = r ∧ i_Rel (k + 4) u' v') (ykc, yml, yhl, ynl, yla, yfl, yjr, yjs, yjl, yjt, yjo, yjh, ygc, yS, yK, yL, yH, yV, yE, yI, yT, ysO, ysM, yiO, yiM, yiL, yiH, yiP, yiK, yg) (nI (j + 1))) (nI j) (nI f) xkc xml xhl xnl xla xfl xfc xhe xbc xjr xjl xjt xjo xjh xjs xic xsa xse xta xoc xgc rS rK rL rH rV rE rI rP fS bS tB tS fi bA sO sM iO iM iL iH iP iK jI jO gu oP := by
      intro f hf hlf hq
      unfold wX_next_61
      rw [cj, o2, o4]
      refine ⟨wj, wj, zx_fu H hf o6 (by omega) (fun r hr => ?_)⟩
      obtain ⟨q0, q1⟩ := hq r hr
      rcases hr with ⟨e, _⟩ | ⟨c, e, c1, c2, c3, c4⟩
      · subst e
        exact zx_se0 j1 (q0 rfl)
      · subst e
        exact zx_se1 j1 (by omega) (q1 c rfl (by omega) c2)
    refine zx_ix1 j1 j3 (br_t (nI_pos' (by omega)) ⟨wj, ?_⟩)
    rw [cj, o3, o7, o4]
    refine nm_e ⟨wj, pk_eq p 1 (fun ep => ⟨wj, ?_⟩) (fun ep => ⟨wj, pk_eq p 2 (fun ep2 => ⟨wj, nm_r (nI_1 h) (hgo (h + 1) (by omega) (by omega) (fun r hr => ?_))⟩) (fun ep2 => hgo l (by omega) (Nat.le_refl l) (fun r hr => zz_fin (WY := fun post => wpY_next post (ykc, yml, yhl, ynl, yla, yfl, yjr, yjs, yjl, yjt, yjo, yjh, ygc, yS, yK, yL, yH, yV, yE, yI, yT, ysO, ysM, yiO, yiM, yiL, yiH, yiP, yiK, yg) (nI (j + 1))) (p := 2) hR j1 j3 o3 o4 (by omega) o6 (Or.inr rfl) (fun post h0 h1 => ?_)))⟩)⟩
    · obtain ⟨c, s1, s2, s3, s4⟩ := o9 ep
      subst ep
      rw [s1]
      refine nm_r (nI_1 c) (hgo (c + 1) (by omega) (by omega) (fun r hr => zz_fin (WY := fun post => wpY_next post (ykc, yml, yhl, ynl, yla, yfl, yjr, yjs, yjl, yjt, yjo, yjh, ygc, yS, yK, yL, yH, yV, yE, yI, yT, ysO, ysM, yiO, yiM, yiL, yiH, yiP, yiK, yg) (nI (j + 1))) (p := 2) hR j1 j3 o3 o4 (by omega) o6 (Or.inr rfl) (fun post h0 h1 => ?_)))
      unfold wpY_next
      dsimp only
      rw [cj1, t5, o7, s2, nI_1]
      refine zy_ix1 j1 yo (br_f zl_10 ⟨wj3, br_f (by decide +kernel) ⟨wj3, br_t rfl ⟨wj3, ?_⟩⟩⟩)
      unfold wY_next_45
      exact zy_up HY (by omega) (by omega) (t3.trans o3) (by omega) (t4.trans o4) o6 (t2.trans o2) (by omega) hr (fun k => ⟨fun z => z.1, fun z => ⟨z, by omega⟩⟩) h0 (fun c e1 e2 e3 => h1 c e1 (by omega) e3)
    · subst ep2
      refine ⟨fun er => ?_, fun c ec c1 c2 => ?_⟩
      · unfold wpY_next
        dsimp only
        rw [cj1, t5, o7]
        exact zy_ix1 j1 yo (br_f zl_10 ⟨wj3, br_t rfl ⟨rfl, zz_Ip2 hR j1 j3 2 (Or.inr rfl) o7⟩⟩)
      · rcases hr with ⟨e, _⟩ | ⟨c', e, q1, q2, _⟩
        · exact absurd (ec.symm.trans e) (zl_nIm1 (by omega))
        · omega
    · unfold wpY_next
      dsimp only
      rw [cj1, t5, o7]
      refine zy_ix1 j1 yo (br_f zl_10 ⟨wj3, br_f (fun z => ep2 ((nI_eq (b := 2) (by omega) (by omega)).mp z)) ⟨wj3, br_f (fun z => ep ((nI_eq (b := 1) (by omega) (by omega)).mp z)) ?_⟩⟩)
      unfold wY_next_45
      exact zy_up (fy := 0) HY (by omega) (by omega) (t3.trans o3) (by omega) (t4.trans o4) o6 (t2.trans o2) (by omega) hr (fun k => ⟨fun z => z.2, fun z => ⟨by omega, z⟩⟩) h0 h1
  · refine zx_ix0 hv (br_f zl_m1nn ?_)
    unfold wpY_next
    dsimp only
    exact zy_ix0 (fun j j1 e => by rw [(hI j j1).1.1]; exact hv j j1 e) (br_t rfl ⟨rfl, hU⟩)
theorem i_vc_seek {k : Nat} {u : SX} {v : SY} (I : i_Rel k u v) (hk : k + 4 ≤ 2052) (v1 : Int32) (v2 : Int32) : wpX_seek (fun r u' => wpY_seek (fun r' v' => r' = r ∧ i_Rel (k + 4) u' v') v v1 v2) u v1 v2 := by
  refine zz_el (P := fun u v => wpX_seek (fun r u' => wpY_seek (fun r' v' => r' = r ∧ i_Rel (k + 4) u' v') v v1 v2) u v1 v2) I ?_
  intro al kd lo hi lv ip va sl pl L BS FS NK ML HL NL LA FL xkc xml xhl xnl xla xfl xfc xhe xbc xjr xjl xjt xjo xjh xjs xic xsa xse xta xoc xgc rS rK rL rH rV rE rI rP fS bS tB tS fi bA sO sM iO iM iL iH iP iK jI jO gu oP ykc yml yhl ynl yla yfl yjr yjs yjl yjt yjo yjh ygc yS yK yL yH yV yE yI yT ysO ysM yiO yiM yiL yiH yiP yiK yg hR
  have hU := zz_in (zz_up hR)
  have H := zz_H hR
  have HY := zz_Y hR
  obtain ⟨⟨⟨a1, a2, a3, a4⟩, ⟨b1, b2, b3, b4⟩, ⟨c1, c2, c3⟩, ⟨d1, d2, d3, d4⟩, ⟨e1, e2, e3, e4⟩, ⟨f1, f2, f3⟩⟩, hC, hS, hI, hJ⟩ := id hR
  have hst : ∀ j, j < 3 → ysO (j + 1) = sO j ∧ ysM (j + 1) = sM j := fun j hj => ⟨(hS j hj).1, (hS j hj).2.1⟩
  unfold wpX_seek
  dsimp only
  rcases zi_cases iO v1 with ⟨j, j1, rfl, j3⟩ | hv
  · obtain ⟨⟨t1, t2, t3, t4, t5⟩, ho⟩ := hI j j1
    obtain ⟨m, l, h, p, o1, o2, o3, o4, o5, o6, o7, o8, o9⟩ := ho j3
    have wj : vp_in (nI j) 2 := vp_in_nI j1 (by omega)
    have cj : (nI j).toNatClampNeg = j := nI_clamp (by omega)
    have yo : ¬ yiO (j + 1) = 0 := by rw [t1]; exact j3
    refine zx_ix1 j1 j3 (br_t (nI_pos' (by omega)) ?_)
    rcases zb_key NK a4 v2 with ⟨q, hq, rfl⟩ | hb
    · have hgo : ∀ (f : Nat), f ≤ 24 → (∀ k, (q ≤ k ∧ l ≤ k) ↔ f ≤ k) → wX_seek_46 (fun r u' => wpY_seek (fun r' v' => r' = r ∧ i_Rel (k + 4) u' v') (ykc, yml, yhl, ynl, yla, yfl, yjr, yjs, yjl, yjt, yjo, yjh, ygc, yS, yK, yL, yH, yV, yE, yI, yT, ysO, ysM, yiO, yiM, yiL, yiH, yiP, yiK, yg) (nI (j + 1)) (nI q)) (nI j) (nI f) xkc xml xhl xnl xla xfl xfc xhe xbc xjr xjl xjt xjo xjh xjs xic xsa xse xta xoc xgc rS rK rL rH rV rE rI rP fS bS tB tS fi bA sO sM iO iM iL iH iP iK jI jO gu oP := by
        intro f hf hq2
        unfold wX_seek_46
        rw [cj, o2, o4]
        refine ⟨wj, wj, zx_fu H hf o6 (by omega) (fun r hr => ?_)⟩
        obtain ⟨q0, q1⟩ := zz_fin (r := r) (WY := fun post => wpY_seek post (ykc, yml, yhl, ynl, yla, yfl, yjr, yjs, yjl, yjt, yjo, yjh, ygc, yS, yK, yL, yH, yV, yE, yI, yT, ysO, ysM, yiO, yiM, yiL, yiH, yiP, yiK, yg) (nI (j + 1)) (nI q)) (p := 2) hR j1 j3 o3 o4 (by omega) o6 (Or.inr rfl) (fun post h0 h1 => by
          unfold wpY_seek
          dsimp only
          exact zy_ix1 j1 yo (br_f zl_10 (zy_bk0 a2 a3 a4 hq (br_t rfl (zy_up HY (by omega) (by omega) (t3.trans o3) (by omega) (t4.trans o4) o6 (t2.trans o2) (by omega) hr hq2 h0 (fun c e1 e2 e3 => h1 c e1 ((hq2 c).mpr e2).2 e3))))))
        rcases hr with ⟨e, _⟩ | ⟨c, e, c1, c2, c3, c4⟩
        · subst e
          exact zx_se0 j1 (q0 rfl)
        · subst e
          exact zx_se1 j1 (by omega) (q1 c rfl ((hq2 c).mpr c1).2 c2)
      refine zx_gk1 a1 a4 hq (br_f zl_10 ⟨wj, ?_⟩)
      rw [cj, o3]
      refine pk_le l q (fun z => hgo q (by omega) (fun k => ⟨fun w => w.1, fun w => ⟨w, by omega⟩⟩)) (fun z => ⟨wj, nm_e (hgo l (by omega) (fun k => ⟨fun w => w.2, fun w => ⟨by omega, w⟩⟩))⟩)
    · refine zx_gk0 a1 a4 hb (br_t rfl ?_)
      unfold wpY_seek
      dsimp only
      exact zy_ix1 j1 yo (br_f zl_10 (zy_bk1 a2 a3 a4 hb (br_f zl_10 ⟨rfl, hU⟩)))
  · refine zx_ix0 hv (br_f zl_m1nn ?_)
    unfold wpY_seek
    dsimp only
    exact zy_ix0 (fun j j1 e => by rw [(hI j j1).1.1]; exact hv j j1 e) (br_t rfl ⟨rfl, hU⟩)
theorem i_vc_prev {k : Nat} {u : SX} {v : SY} (I : i_Rel k u v) (hk : k + 4 ≤ 2052) (v1 : Int32) : wpX_prev (fun r u' => wpY_prev (fun r' v' => r' = r ∧ i_Rel (k + 4) u' v') v v1) u v1 := by
  refine zz_el (P := fun u v => wpX_prev (fun r u' => wpY_prev (fun r' v' => r' = r ∧ i_Rel (k + 4) u' v') v v1) u v1) I ?_
  intro al kd lo hi lv ip va sl pl L BS FS NK ML HL NL LA FL xkc xml xhl xnl xla xfl xfc xhe xbc xjr xjl xjt xjo xjh xjs xic xsa xse xta xoc xgc rS rK rL rH rV rE rI rP fS bS tB tS fi bA sO sM iO iM iL iH iP iK jI jO gu oP ykc yml yhl ynl yla yfl yjr yjs yjl yjt yjo yjh ygc yS yK yL yH yV yE yI yT ysO ysM yiO yiM yiL yiH yiP yiK yg hR
  have hU := zz_in (zz_up hR)
  have H := zz_H hR
  have HY := zz_Y hR
  obtain ⟨⟨⟨a1, a2, a3, a4⟩, ⟨b1, b2, b3, b4⟩, ⟨c1, c2, c3⟩, ⟨d1, d2, d3, d4⟩, ⟨e1, e2, e3, e4⟩, ⟨f1, f2, f3⟩⟩, hC, hS, hI, hJ⟩ := id hR
  have hst : ∀ j, j < 3 → ysO (j + 1) = sO j ∧ ysM (j + 1) = sM j := fun j hj => ⟨(hS j hj).1, (hS j hj).2.1⟩
  unfold wpX_prev
  dsimp only
  rcases zi_cases iO v1 with ⟨j, j1, rfl, j3⟩ | hv
  · obtain ⟨⟨t1, t2, t3, t4, t5⟩, ho⟩ := hI j j1
    obtain ⟨m, l, h, p, o1, o2, o3, o4, o5, o6, o7, o8, o9⟩ := ho j3
    have wj : vp_in (nI j) 2 := vp_in_nI j1 (by omega)
    have wj3 : vp_in (nI (j + 1)) 3 := vp_in_nI (by omega) (by omega)
    have cj : (nI j).toNatClampNeg = j := nI_clamp (by omega)
    have cj1 : (nI (j + 1)).toNatClampNeg = j + 1 := nI_clamp (by omega)
    have yo : ¬ yiO (j + 1) = 0 := by rw [t1]; exact j3
    have hgo : ∀ (f : Nat), f ≤ h + 1 → (∀ r, zk_dn (fun k => zg_vl al kd lo hi va k m) f l r → (r = -1 → wpY_prev (fun r' v' => r' = -1 ∧ i_Rel (k + 4) (xkc, xml, xhl, xnl, xla, xfl, xfc, xhe, xbc, xjr, xjl, xjt, xjo, xjh, xjs, xic, xsa, xse, xta, xoc, xgc, rS, rK, rL, rH, rV, rE, rI, rP, fS, bS, tB, tS, fi, bA, sO, sM, iO, iM, iL, iH, upd iP j 0, iK, jI, jO, gu, oP) v') (ykc, yml, yhl, ynl, yla, yfl, yjr, yjs, yjl, yjt, yjo, yjh, ygc, yS, yK, yL, yH, yV, yE, yI, yT, ysO, ysM, yiO, yiM, yiL, yiH, yiP, yiK, yg) (nI (j + 1))) ∧ (∀ c, r = nI c → l ≤ c → c ≤ h → wpY_prev (fun r' v' => r' = nI c ∧ i_Rel (k + 4) (xkc, xml, xhl, xnl, xla, xfl, xfc, xhe, xbc, xjr, xjl, xjt, xjo, xjh, xjs, xic, xsa, xse, xta, xoc, xgc, rS, rK, rL, rH, rV, rE, rI, rP, fS, bS, tB, tS, fi, bA, sO, sM, iO, iM, iL, iH, upd iP j 1, upd iK j (nI c), jI, jO, gu, oP) v') (ykc, yml, yhl, ynl, yla, yfl, yjr, yjs, yjl, yjt, yjo, yjh, ygc, yS, yK, yL, yH, yV, yE, yI, yT, ysO, ysM, yiO, yiM, yiL, yiH, yiP, yiK, yg) (nI (j + 1)))) → wX_prev_60 (fun r u' => wpY_prev (fun r' v' => r' = r ∧ i_Rel (k + 4) u' v') (ykc, yml, yhl, ynl, yla, yfl, yjr, yjs, yjl, yjt, yjo, yjh, ygc, yS, yK, yL, yH, yV, yE, yI, yT, ysO, ysM, yiO, yiM, yiL, yiH, yiP, yiK, yg) (nI (j + 1))) (nI j) (nI f - 1) xkc xml xhl xnl xla xfl xfc xhe xbc xjr xjl xjt xjo xjh xjs xic xsa xse xta xoc xgc rS rK rL rH rV rE rI rP fS bS tB tS fi bA sO sM iO iM iL iH iP iK jI jO gu oP := by
      intro f hf hq
      unfold wX_prev_60
      rw [cj, o2, o3]
      refine ⟨wj, wj, zx_fd H (by omega) (by omega) (by omega) (fun r hr => ?_)⟩
      obtain ⟨q0, q1⟩ := hq r hr
      rcases hr with ⟨e, _⟩ | ⟨c, e, c1, c2, c3, c4⟩
      · subst e
        exact zx_se0 j1 (q0 rfl)
      · subst e
        exact zx_se1 j1 (by omega) (q1 c rfl c1 (by omega))
    refine zx_ix1 j1 j3 (br_t (nI_pos' (by omega)) ⟨wj, ?_⟩)
    rw [cj, o3, o7, o4]
    refine nm_r (nI_pred h).symm ⟨wj, pk_eq p 1 (fun ep => ⟨wj, ?_⟩) (fun ep => ⟨wj, pk_eq p 0 (fun ep2 => ⟨wj, nm_e (hgo l (by omega) (fun r hr => ?_))⟩) (fun ep2 => hgo (h + 1) (Nat.le_refl _) (fun r hr => zz_fin (WY := fun post => wpY_prev post (ykc, yml, yhl, ynl, yla, yfl, yjr, yjs, yjl, yjt, yjo, yjh, ygc, yS, yK, yL, yH, yV, yE, yI, yT, ysO, ysM, yiO, yiM, yiL, yiH, yiP, yiK, yg) (nI (j + 1))) (p := 0) hR j1 j3 o3 o4 (by omega) o6 (Or.inl rfl) (fun post h0 h1 => ?_)))⟩)⟩
    · obtain ⟨c, s1, s2, s3, s4⟩ := o9 ep
      subst ep
      rw [s1]
      refine nm_e (hgo c (by omega) (fun r hr => zz_fin (WY := fun post => wpY_prev post (ykc, yml, yhl, ynl, yla, yfl, yjr, yjs, yjl, yjt, yjo, yjh, ygc, yS, yK, yL, yH, yV, yE, yI, yT, ysO, ysM, yiO, yiM, yiL, yiH, yiP, yiK, yg) (nI (j + 1))) (p := 0) hR j1 j3 o3 o4 (by omega) o6 (Or.inl rfl) (fun post h0 h1 => ?_)))
      unfold wpY_prev
      dsimp only
      rw [cj1, t5, o7, s2]
      exact zy_ix1 j1 yo (br_f zl_10 ⟨wj3, br_f zl_10 ⟨wj3, br_t rfl ⟨wj3, nm_e (zy_dn HY (by omega) (by omega) (t3.trans o3) (by omega) (t4.trans o4) o6 (t2.trans o2) (by omega) hr (fun k => ⟨fun z => z.1, fun z => ⟨z, by omega⟩⟩) h0 h1)⟩⟩⟩)
    · subst ep2
      refine ⟨fun er => ?_, fun c ec c1 c2 => ?_⟩
      · unfold wpY_prev
        dsimp only
        rw [cj1, t5, o7]
        exact zy_ix1 j1 yo (br_f zl_10 ⟨wj3, br_t rfl ⟨rfl, zz_Ip2 hR j1 j3 0 (Or.inl rfl) o7⟩⟩)
      · rcases hr with ⟨e, _⟩ | ⟨c', e, q1, q2, _⟩
        · exact absurd (ec.symm.trans e) (zl_nIm1 (by omega))
        · omega
    · unfold wpY_prev
      dsimp only
      rw [cj1, t5, o7]
      refine zy_ix1 j1 yo (br_f zl_10 ⟨wj3, br_f (fun z => ep2 ((nI_eq (b := 0) (by omega) (by omega)).mp z)) ⟨wj3, br_f (fun z => ep ((nI_eq (b := 1) (by omega) (by omega)).mp z)) ?_⟩⟩)
      have key := zy_dn (post := post) (fy := 24) (ykc := ykc) (yml := yml) (yhl := yhl) (ynl := ynl) (yla := yla) (yfl := yfl) (yjr := yjr) (yjs := yjs) (yjl := yjl) (yjt := yjt) (yjo := yjo) (yjh := yjh) (ygc := ygc) (yS := yS) (yK := yK) (yL := yL) (yH := yH) (yV := yV) (yE := yE) (yI := yI) (yT := yT) (ysO := ysO) (ysM := ysM) (yiO := yiO) (yiM := yiM) (yiL := yiL) (yiH := yiH) (yiP := yiP) (yiK := yiK) (yg := yg) HY (by omega) (Nat.le_refl 24) (t3.trans o3) (by omega) (t4.trans o4) o6 (t2.trans o2) (by omega) hr (fun k => ⟨fun z => by omega, fun z => by omega⟩) h0 h1
      rw [show nI 24 - 1 = (23 : Int32) by decide +kernel] at key
      exact key
  · refine zx_ix0 hv (br_f zl_m1nn ?_)
    unfold wpY_prev
    dsimp only
    exact zy_ix0 (fun j j1 e => by rw [(hI j j1).1.1]; exact hv j j1 e) (br_t rfl ⟨rfl, hU⟩)
end
section
/-! the job does not see later records -/
def zE (FL : Nat) (al al' : Nat → Bool) (kd kd' lo lo' hi hi' ip ip' sl sl' : Nat → Nat) : Prop := ∀ n, n ≤ FL → al' n = al n ∧ kd' n = kd n ∧ lo' n = lo n ∧ hi' n = hi n ∧ ip' n = ip n ∧ sl' n = sl n
section
variable {FL : Nat} {al al' : Nat → Bool} {kd kd' lo lo' hi hi' ip ip' sl sl' : Nat → Nat}
theorem zg_dgC {G : List Nat} {n k : Nat} (hE : zE FL al al' kd kd' lo lo' hi hi' ip ip' sl sl') (hG : ∀ g, g ∈ G → g ≤ FL) : zg_dg al' lo' hi' G n k = zg_dg al lo hi G n k := by
  have hd : ∀ g, g ∈ G → zg_dc al' lo' hi' k g = zg_dc al lo hi k g := fun g hg => zg_dcC (fun m hm => by
    obtain ⟨h1, h2, h3, h4, h5, h6⟩ := hE m (by have := hG g hg; omega)
    exact ⟨h1, fun _ => ⟨h3, h4⟩⟩)
  rw [Bool.eq_iff_iff, zg_dg_iff, zg_dg_iff]
  exact ⟨fun ⟨g, g1, g2⟩ => ⟨g, g1, by rw [← hd g g1]; exact g2⟩, fun ⟨g, g1, g2⟩ => ⟨g, g1, by rw [hd g g1]; exact g2⟩⟩
theorem zg_opC {G : List Nat} {n k : Nat} (hE : zE FL al al' kd kd' lo lo' hi hi' ip ip' sl sl') (hG : ∀ g, g ∈ G → g ≤ FL) (hn : n ≤ FL) : zg_op al' kd' lo' hi' ip' G n k = zg_op al kd lo hi ip G n k := by
  rw [Bool.eq_iff_iff, zg_op_iff, zg_op_iff]
  constructor
  · rintro ⟨p, p1, p2, p3, p4, p5⟩
    obtain ⟨h1, h2, h3, h4, h5, h6⟩ := hE p (by omega)
    rw [h1] at p2
    rw [h2] at p3
    rw [h3] at p4
    rw [h5, zg_dgC hE hG] at p5
    exact ⟨p, p1, p2, p3, p4, p5⟩
  · rintro ⟨p, p1, p2, p3, p4, p5⟩
    obtain ⟨h1, h2, h3, h4, h5, h6⟩ := hE p (by omega)
    refine ⟨p, p1, ?_, ?_, ?_, ?_⟩
    · rw [h1]; exact p2
    · rw [h2]; exact p3
    · rw [h3]; exact p4
    · rw [h5, zg_dgC hE hG]; exact p5
theorem zg_stC {G : List Nat} {n : Nat} (hE : zE FL al al' kd kd' lo lo' hi hi' ip ip' sl sl') (hG : ∀ g, g ∈ G → g ≤ FL) (hn : n ≤ FL) : zg_st al' kd' lo' hi' ip' G n = zg_st al kd lo hi ip G n := by
  obtain ⟨h1, h2, h3, h4, h5, h6⟩ := hE n hn
  by_cases c : kd n = 1
  · rw [zg_st1 c, zg_st1 (by rw [h2]; exact c), h3, zg_dgC hE hG]
  · rw [Bool.eq_iff_iff, zg_stn c, zg_stn (by rw [h2]; exact c)]
    constructor
    · rintro ⟨k, k1, k2, k3⟩
      rw [zg_opC hE hG hn] at k2
      rw [zg_dgC hE hG] at k3
      exact ⟨k, k1, k2, k3⟩
    · rintro ⟨k, k1, k2, k3⟩
      refine ⟨k, k1, ?_, ?_⟩
      · rw [zg_opC hE hG hn]; exact k2
      · rw [zg_dgC hE hG]; exact k3
theorem zd_c {a b : Nat} (h1 : kd' a = kd a) (h2 : kd' b = kd b) (h3 : lo' a = lo a) (h4 : lo' b = lo b) : zd kd' lo' a b ↔ zd kd lo a b := by
  unfold zd
  rw [h1, h2, zo_c h2 h4 h3]
theorem zj_PC {GX JI RS RT JO : List Nat} (h : zj_P al kd lo hi ip FL GX JI RS RT JO) (hE : zE FL al al' kd kd' lo lo' hi hi' ip ip' sl sl') (hG : ∀ g, g ∈ GX → g ≤ FL) (hN : ∀ n, FL < n → al' n = true → ¬ ip' n = 1) : zj_P al' kd' lo' hi' ip' FL GX JI RS RT JO := by
  obtain ⟨⟨p1, p2, p3, p4, p5, p6⟩, p7, p8, p9⟩ := h
  have hp : ∀ R : List Nat, (∀ n, n ∈ R → n ∈ JI) → (JO ++ R).Pairwise (zd kd lo) → (JO ++ R).Pairwise (zd kd' lo') := fun R hR hq => hq.imp_of_mem (fun {a b} ha hb z => by
    have ha' := hE a (p2 a ((List.mem_append.mp ha).elim (p5 a) (hR a)))
    have hb' := hE b (p2 b ((List.mem_append.mp hb).elim (p5 b) (hR b)))
    exact (zd_c ha'.2.1 hb'.2.1 ha'.2.2.1 hb'.2.2.1).mpr z)
  refine ⟨⟨fun n => ?_, p2, p3, p4, p5, p6⟩, hp RS p3 p7, hp RT p4 p8, fun n q1 q2 q3 => ?_⟩
  · by_cases c : n ≤ FL
    · obtain ⟨h1, h2, h3, h4, h5, h6⟩ := hE n c
      rw [h1, h5]
      exact p1 n
    · exact ⟨fun z => absurd (p2 n z) c, fun z => absurd z.2 (hN n (by omega) z.1)⟩
  · rw [zg_stC hE hG (p2 n q1)]
    exact p9 n q1 q2 q3
theorem zj_JC {GX JI RS RT JO : List Nat} {SA TA : Nat} {xic xsa xse xta xoc xgc : Int32} {rP rP' jI jO gu oP : Nat → Int32} (h : zj_J al kd lo ip sl FL GX JI RS RT JO SA TA xic xsa xse xta xoc xgc rP jI jO gu oP) (hP : zj_P al kd lo hi ip FL GX JI RS RT JO) (hE : zE FL al al' kd kd' lo lo' hi hi' ip ip' sl sl') (hr : ∀ n, n ∈ JI → rP' (sl n) = rP (sl n)) : zj_J al' kd' lo' ip' sl' FL GX JI RS RT JO SA TA xic xsa xse xta xoc xgc rP' jI jO gu oP := by
  obtain ⟨⟨p1, p2, p3, p4, p5, p6⟩, p7, p8, p9⟩ := hP
  obtain ⟨⟨i1, i2, i3⟩, ⟨s1, s2, s3, s4⟩, ⟨t1, t2, t3⟩, ⟨o1, o2⟩, g, k1, k2⟩ := h
  have hsl : ∀ n, n ∈ JI → sl' n = sl n := fun n hn => (hE n (p2 n hn)).2.2.2.2.2
  refine ⟨⟨zl_at_f hsl i1, i2, i3⟩, ⟨zl_at_f (fun n hn => hsl n (p3 n hn)) s1, s2, s3, s4⟩, ⟨zl_at_f (fun n hn => hsl n (p4 n hn)) t1, t2, t3⟩, ⟨zl_at_f (fun n hn => hsl n (p5 n hn)) o1, o2⟩, g, fun n hn => ?_, fun k hk => ?_⟩
  · rw [hsl n hn, hr n hn]
    exact k1 n hn
  · obtain ⟨q, q1, q2, q3⟩ := k2 k hk
    refine ⟨q, q1, q2, fun n hn => (q3 n hn).trans ⟨fun ⟨p, w1, w2, w3⟩ => ?_, fun ⟨p, w1, w2, w3⟩ => ?_⟩⟩
    · obtain ⟨h1, h2, h3, h4, h5, h6⟩ := hE p (by omega)
      refine ⟨p, ?_, ?_, w3⟩
      · dsimp only; rw [h1, h2, h5]; exact w1
      · rw [h3]; exact w2
    · obtain ⟨h1, h2, h3, h4, h5, h6⟩ := hE p (by omega)
      dsimp only at w1
      rw [h1, h2, h5] at w1
      rw [h3] at w2
      exact ⟨p, w1, w2, w3⟩
theorem zJbC {lv lv' : Nat → Nat} {NL : Nat} {xjr xjl xjt xjo xjh xjs xic xsa xse xta xoc xgc yjr yjs yjl yjt yjo yjh ygc : Int32} {rP rP' jI jO gu oP yg : Nat → Int32} (h : zJb al kd lo hi lv ip sl NL FL xjr xjl xjt xjo xjh xjs xic xsa xse xta xoc xgc yjr yjs yjl yjt yjo yjh ygc rP jI jO gu oP yg) (hE : zE FL al al' kd kd' lo lo' hi hi' ip ip' sl sl') (hN : ∀ n, FL < n → al' n = true → (al n = true ∧ ip' n = ip n ∧ lv' n = lv n) ∨ ip' n = 0) (hlv : ∀ n, n ≤ FL → ¬ lv n = 0 → lv' n = lv n) (hr : ∀ n, al n = true → rP' (sl n) = rP (sl n)) : zJb al' kd' lo' hi' lv' ip' sl' NL FL xjr xjl xjt xjo xjh xjs xic xsa xse xta xoc xgc yjr yjs yjl yjt yjo yjh ygc rP' jI jO gu oP yg := by
  refine ⟨h.1, ?_⟩
  rcases h.2 with ⟨z1, z2, z3⟩ | ⟨z1, JL, JT, GX, GY, JI, RS, RT, JO, SA, TA, ⟨g0, g00, g01, g02, g03, g04⟩, g2, g3, g4, g5, g6, g9⟩
  · refine Or.inl ⟨z1, z2, fun n hn => ?_⟩
    by_cases c : n ≤ FL
    · obtain ⟨h1, h2, h3, h4, h5, h6⟩ := hE n c
      rw [h5]
      exact z3 n (by rw [← h1]; exact hn)
    · rcases hN n (by omega) hn with ⟨w1, w2, w3⟩ | w
      · rw [w2]; exact z3 n w1
      · exact w
  · have hNN : ∀ n, FL < n → al' n = true → ¬ ip' n = 1 := fun n hn ha hi1 => by
      rcases hN n hn ha with ⟨w1, w2, w3⟩ | w
      · have := g3.1.2.1 n ((g3.1.1 n).mpr ⟨w1, by rw [← w2]; exact hi1⟩)
        omega
      · omega
    refine Or.inr ⟨z1, JL, JT, GX, GY, JI, RS, RT, JO, SA, TA, ⟨g0, g00, g01, g02, g03, g04⟩, fun n hn hi1 => ?_, zj_PC g3 hE g4.2.2.2.2.1.2.2.2 hNN, zj_JC g4 g3 hE (fun n hn => hr n ((g3.1.1 n).mp hn).1), g5, g6, g9⟩
    by_cases c : n ≤ FL
    · obtain ⟨h1, h2, h3, h4, h5, h6⟩ := hE n c
      have hl := g2 n (by rw [← h1]; exact hn) (by rw [← h5]; exact hi1)
      rw [hlv n c (by omega)]
      exact hl
    · exact absurd hi1 (hNN n (by omega) hn)
end
theorem zt_fl_n {lv : Nat → Nat} {n : Nat} (h : ¬ lv n = 0) : zt_fl lv n = lv n := if_neg h
theorem zt_fl_nl {lv : Nat → Nat} {n NL : Nat} (h : lv n ≤ NL) (h2 : 1 ≤ NL) : zt_fl lv n ≤ NL := by
  unfold zt_fl
  by_cases c : lv n = 0
  · rw [if_pos c]; exact h2
  · rw [if_neg c]; exact h
theorem zt_fl_0 {lv : Nat → Nat} {n : Nat} : ¬ zt_fl lv n = 0 := by
  unfold zt_fl
  by_cases c : lv n = 0
  · rw [if_pos c]; omega
  · rw [if_neg c]; exact c
theorem i_vc_flush {k : Nat} {u : SX} {v : SY} (I : i_Rel k u v) (hk : k + 4 ≤ 2052) : wpX_flush (fun r u' => wpY_flush (fun r' v' => r' = r ∧ i_Rel (k + 4) u' v') v) u := by
  refine zz_el (P := fun u v => wpX_flush (fun r u' => wpY_flush (fun r' v' => r' = r ∧ i_Rel (k + 4) u' v') v) u) I ?_
  intro al kd lo hi lv ip va sl pl L BS FS NK ML HL NL LA FL xkc xml xhl xnl xla xfl xfc xhe xbc xjr xjl xjt xjo xjh xjs xic xsa xse xta xoc xgc rS rK rL rH rV rE rI rP fS bS tB tS fi bA sO sM iO iM iL iH iP iK jI jO gu oP ykc yml yhl ynl yla yfl yjr yjs yjl yjt yjo yjh ygc yS yK yL yH yV yE yI yT ysO ysM yiO yiM yiL yiH yiP yiK yg hR
  have hU := zz_in (zz_up hR)
  have H := zz_H hR
  have HY := zz_Y hR
  obtain ⟨⟨⟨a1, a2, a3, a4⟩, ⟨b1, b2, b3, b4⟩, ⟨c1, c2, c3⟩, ⟨d1, d2, d3, d4⟩, ⟨e1, e2, e3, e4⟩, ⟨f1, f2, f3⟩⟩, hC, hS, hI, hJ⟩ := id hR
  have hst : ∀ j, j < 3 → ysO (j + 1) = sO j ∧ ysM (j + 1) = sM j := fun j hj => ⟨(hS j hj).1, (hS j hj).2.1⟩
  obtain ⟨q1, q2, q3, q4, q5, q6, q7⟩ := hC
  refine zx_flush (L := L) (lv := lv) (al := al) q5 q6 q1 (fun n hn => (q3 n hn).2.2.1) (zp_C64 q4) (fun xbc' rE' bA' tB' tS' fi' L' m1 m2 m3 => ?_)
  refine zy_flush HY (fun D yE' d1 d2 H' => ⟨?_, ?_⟩)
  · obtain ⟨l1, l2⟩ := zz_lev q5 q6 (v := 0) (by omega)
    rw [zl_card d1 l1 (fun n => (d2 n).trans (l2 n).symm), List.length_append]
  · have hR' := zz_up hR
    obtain ⟨l1, l2⟩ := zz_lev m1 m2 (v := 0) (by omega)
    have hl0 : (L' 0).length + (L' 1).length ≤ ML := by
      have : (L' (2 * 0) ++ L' (2 * 0 + 1)).length ≤ ([] : List Nat).length := l1.length_le_of_subset (fun n hn => absurd ((l2 n).mp hn).2 zt_fl_0)
      rw [List.length_append, List.length_nil] at this
      exact Nat.le_trans this (Nat.zero_le ML)
    have hJ' := zJbC (lv' := zt_fl lv) (rP' := rP) hJ (fun n hn => ⟨rfl, rfl, rfl, rfl, rfl, rfl⟩ : zE FL al al kd kd lo lo hi hi ip ip sl sl) (fun n _ hn => ?_) (fun n _ h0 => zt_fl_n h0) (fun _ _ => rfl)
    · exact zz_in (lv := zt_fl lv) (L := L') (pl := pl) (BS := BS) (FS := FS) ⟨hR'.1, ⟨q1, H', fun n hn => ⟨(q3 n hn).1, zt_fl_nl (q3 n hn).2.1 (by omega), m3 n hn, (q3 n hn).2.2.2⟩, q4, m1, m2, hl0⟩, hS, hI, hJ'⟩
    · rcases hJ.2 with ⟨z1, z2, z3⟩ | ⟨z1, JL, JT, GX, GY, JI, RS, RT, JO, SA, TA, g1, g2, g3, g4, g5, g6, g9⟩
      · exact Or.inr (z3 n hn)
      · rcases (HY.2.2.1 n hn).2 with w | w
        · exact Or.inr w
        · have := g3.1.2.1 n ((g3.1.1 n).mpr ⟨hn, w⟩)
          omega
end
section
section
variable {k : Nat} {al : Nat → Bool} {kd lo hi lv ip : Nat → Nat} {va : Nat → Int32} {sl pl : Nat → Nat} {L : Nat → List Nat} {BS FS : List Nat} {NK ML HL NL LA FL : Nat} {xkc xml xhl xnl xla xfl xfc xhe xbc xjr xjl xjt xjo xjh xjs xic xsa xse xta xoc xgc : Int32} {rS rK rL rH rV rE rI rP fS bS tB tS fi bA sO sM iO iM iL iH iP iK jI jO gu oP : Nat → Int32} {ykc yml yhl ynl yla yfl yjr yjs yjl yjt yjo yjh ygc : Int32} {yS yK yL yH yV yE yI yT ysO ysM yiO yiM yiL yiH yiP yiK yg : Nat → Int32}
theorem zx_wfull {post : Int32 → SX → Prop} {NB : Nat} {p0 p1 p2 p3 : Int32} (hhl : xhl = nI HL) (hhe : xhe = nI NB) (hNB : NB ≤ 64) (hf : HL ≤ NB) (h : post (-5) (xkc, xml, xhl, xnl, xla, xfl, xfc, xhe, xbc, xjr, xjl, xjt, xjo, xjh, xjs, xic, xsa, xse, xta, xoc, xgc, rS, rK, rL, rH, rV, rE, rI, rP, fS, bS, tB, tS, fi, bA, sO, sM, iO, iM, iL, iH, iP, iK, jI, jO, gu, oP)) : wpX_write post (xkc, xml, xhl, xnl, xla, xfl, xfc, xhe, xbc, xjr, xjl, xjt, xjo, xjh, xjs, xic, xsa, xse, xta, xoc, xgc, rS, rK, rL, rH, rV, rE, rI, rP, fS, bS, tB, tS, fi, bA, sO, sM, iO, iM, iL, iH, iP, iK, jI, jO, gu, oP) p0 p1 p2 p3 := by
  unfold wpX_write
  dsimp only
  exact br_t (by rw [hhl, hhe]; exact nI_le hf (by omega)) h
/-- the relation after a write -/
theorem zz_wr {K lo0 hi0 v0 : Nat} {val : Int32} {FS0 : List Nat} {lw pl' : Nat → Nat} {L' : Nat → List Nat} {rE' bA' tB' tS' fi' yS' yK' yL' yH' yV' yE' yI' : Nat → Int32} (hR : zR k al kd lo hi lv ip va sl pl L BS FS NK ML HL NL LA FL xkc xml xhl xnl xla xfl xfc xhe xbc xjr xjl xjt xjo xjh xjs xic xsa xse xta xoc xgc rS rK rL rH rV rE rI rP fS bS tB tS fi bA sO sM iO iM iL iH iP iK jI jO gu oP ykc yml yhl ynl yla yfl yjr yjs yjl yjt yjo yjh ygc yS yK yL yH yV yE yI yT ysO ysM yiO yiM yiL yiH yiP yiK yg) (hk : k + 4 ≤ 2052) (hFS : FS = FS0 ++ [v0]) (hK1 : 1 ≤ K) (hK3 : K ≤ 3) (hlh : lo0 ≤ hi0) (hh : hi0 < 24) (hkl : K ≠ 3 → lo0 = hi0) (hval : ¬ val < 0)
    (hlw : lw = (if (L 0).length + (L 1).length < ML then lv else zt_fl lv)) (hE' : ∀ n, al n = true → rE' (sl n) = nI (lw n)) (hT' : zt_Tab (zl_un kd (LA + 1) K) (zl_un lo (LA + 1) lo0) (zl_un hi (LA + 1) hi0) (zl_un sl (LA + 1) v0) L' tB' tS' fi') (hM' : zt_Mem (zl_ub al (LA + 1) true) (zl_un kd (LA + 1) K) (zl_un lw (LA + 1) 0) L') (hY' : zy_H (zl_ub al (LA + 1) true) (zl_un kd (LA + 1) K) (zl_un lo (LA + 1) lo0) (zl_un hi (LA + 1) hi0) (zl_un lw (LA + 1) 0) (zl_un ip (LA + 1) 0) (upd va (LA + 1) val) pl' yS' yK' yL' yH' yV' yE' yI') :
    i_Rel (k + 4) (xkc, xml, xhl, xnl, nI (LA + 1), xfl, nI FS0.length, nI (BS.length + 1), 1, xjr, xjl, xjt, xjo, xjh, xjs, xic, xsa, xse, xta, xoc, xgc, upd rS v0 (nI (LA + 1)), upd rK v0 (nI K), upd rL v0 (nI lo0), upd rH v0 (nI hi0), upd rV v0 val, upd rE' v0 0, upd rI v0 0, upd rP v0 0, fS, upd bS BS.length (nI v0), tB', tS', fi', bA', sO, sM, iO, iM, iL, iH, iP, iK, jI, jO, gu, oP) (ykc, yml, yhl, ynl, nI (LA + 1), yfl, yjr, yjs, yjl, yjt, yjo, yjh, ygc, yS', yK', yL', yH', yV', yE', yI', yT, ysO, ysM, yiO, yiM, yiL, yiH, yiP, yiK, yg) := by
  obtain ⟨⟨n1, n2, n3, n4, ⟨n5, n6, n7, n8⟩, ⟨n9, n10, n11⟩⟩, ⟨q1, q2, q3, q4, q5, q6, q7⟩, hS, hI, hJ⟩ := hR
  obtain ⟨⟨p1, p2, p3, p4⟩, ⟨p5, p6, p7, p8, p9⟩, p10⟩ := q4
  subst hFS
  have hv64 : v0 < 64 := p8 v0 (List.mem_append.mpr (Or.inr List.mem_cons_self))
  have hsv : ∀ n, al n = true → sl n ≠ v0 := fun n hn e => p9 n hn (by rw [e]; exact List.mem_append.mpr (Or.inr List.mem_cons_self))
  have hLA : ∀ n, al n = true → n ≤ LA := fun n hn => (q3 n hn).1
  have hne : ∀ n, al n = true → n ≠ LA + 1 := fun n hn e => by have := hLA n hn; omega
  have hcase : ∀ n, zl_ub al (LA + 1) true n = true → n = LA + 1 ∨ (n ≠ LA + 1 ∧ al n = true) := fun n hn => by
    by_cases e : n = LA + 1
    · exact Or.inl e
    · rw [zl_ubn e] at hn; exact Or.inr ⟨e, hn⟩
  have hlwn : ∀ n, al n = true → lw n ≤ NL := fun n hn => by
    rw [hlw]
    have h1 := (q3 n hn).2.1
    by_cases c : (L 0).length + (L 1).length < ML
    · rw [if_pos c]; exact h1
    · rw [if_neg c]; exact zt_fl_nl h1 (by omega)
  have hS' := zg_Rw (N := LA + 1) (v := v0) (K0 := K) (lo0 := lo0) (hi0 := hi0) (val := val) q1 (fun n hn => by have := hLA n hn; omega) (by omega) (by omega) hv64 hsv hK1 hK3 hlh hh hkl hval
  have hslf : ∀ x, x ∈ BS → zl_un sl (LA + 1) v0 x = sl x := fun x hx => zl_unn (hne x ((p4 x).mp hx))
  have hnd := List.nodup_append.mp p7
  have hP' : zp_P (zl_ub al (LA + 1) true) (zl_un sl (LA + 1) v0) (BS ++ [LA + 1]) FS0 (nI (BS.length + 1)) (nI FS0.length) (upd bS BS.length (nI v0)) fS := by
    refine ⟨⟨?_, by rw [List.length_append]; rfl, ?_, fun n => ?_⟩, ⟨(zl_at_app.mp p5).1, rfl, hnd.1, fun s hs => p8 s (List.mem_append.mpr (Or.inl hs)), fun n hn hs => ?_⟩, ?_⟩
    · have := zl_at_snoc (x := LA + 1) (v := v0) (zl_at_f hslf p1) zl_uns
      rw [Nat.zero_add] at this
      exact this
    · refine List.pairwise_append.mpr ⟨p3, List.pairwise_singleton _ _, fun a ha b hb => ?_⟩
      rw [List.mem_singleton.mp hb]
      have := hLA a ((p4 a).mp ha)
      omega
    · rw [List.mem_append, List.mem_singleton]
      by_cases e : n = LA + 1
      · subst e
        exact ⟨fun _ => zl_ubs, fun _ => Or.inr rfl⟩
      · rw [zl_ubn e, p4 n]
        exact ⟨fun z => z.elim id (fun w => absurd w e), Or.inl⟩
    · rcases hcase n hn with e | ⟨e, w⟩
      · subst e
        rw [zl_uns] at hs
        exact hnd.2.2 v0 hs v0 List.mem_cons_self rfl
      · rw [zl_unn e] at hs
        exact p9 n w (List.mem_append.mpr (Or.inl hs))
    · rw [List.length_append, List.length_singleton] at p10 ⊢
      omega
  have hl0 : (L' 0).length + (L' 1).length ≤ ML := by
    obtain ⟨l1, l2⟩ := zz_lev hT' hM' (v := 0) (by omega)
    obtain ⟨l3, l4⟩ := zz_lev q5 q6 (v := 0) (by omega)
    by_cases c : (L 0).length + (L 1).length < ML
    · rw [if_pos c] at hlw
      have : (L' (2 * 0) ++ L' (2 * 0 + 1)).length ≤ ((LA + 1) :: (L (2 * 0) ++ L (2 * 0 + 1))).length := l1.length_le_of_subset (fun n hn => by
        obtain ⟨w1, w2⟩ := (l2 n).mp hn
        rcases hcase n w1 with e | ⟨e, w⟩
        · rw [e]; exact List.mem_cons_self
        · rw [zl_unn e, hlw] at w2
          exact List.mem_cons_of_mem _ ((l4 n).mpr ⟨w, w2⟩))
      rw [List.length_cons, List.length_append, List.length_append] at this
      have e2 : (L (2 * 0)).length + (L (2 * 0 + 1)).length = (L 0).length + (L 1).length := rfl
      have e3 : (L' (2 * 0)).length + (L' (2 * 0 + 1)).length = (L' 0).length + (L' 1).length := rfl
      omega
    · rw [if_neg c] at hlw
      have : (L' (2 * 0) ++ L' (2 * 0 + 1)).length ≤ [LA + 1].length := l1.length_le_of_subset (fun n hn => by
        obtain ⟨w1, w2⟩ := (l2 n).mp hn
        rcases hcase n w1 with e | ⟨e, w⟩
        · rw [e]; exact List.mem_cons_self
        · rw [zl_unn e, hlw] at w2
          exact absurd w2 zt_fl_0)
      rw [List.length_singleton, List.length_append] at this
      have e3 : (L' (2 * 0)).length + (L' (2 * 0 + 1)).length = (L' 0).length + (L' 1).length := rfl
      omega
  have hJ' := zJbC (lv' := zl_un lw (LA + 1) 0) (rP' := upd rP v0 0) hJ (fun n hn => ⟨zl_ubn (by omega), zl_unn (by omega), zl_unn (by omega), zl_unn (by omega), zl_unn (by omega), zl_unn (by omega)⟩ : zE FL al (zl_ub al (LA + 1) true) kd (zl_un kd (LA + 1) K) lo (zl_un lo (LA + 1) lo0) hi (zl_un hi (LA + 1) hi0) ip (zl_un ip (LA + 1) 0) sl (zl_un sl (LA + 1) v0)) (fun n hn1 hn => ?_) (fun n hn h0 => ?_) (fun n hn => pk_un (hsv n hn))
  · exact zz_in (BS := BS ++ [LA + 1]) (FS := FS0) (L := L') (pl := pl') ⟨⟨n1, n2, n3, n4, ⟨rfl, rfl, by omega, by omega⟩, ⟨n9, n10, by omega⟩⟩, ⟨hS', hY', fun n hn => by
      rcases hcase n hn with e | ⟨e, w⟩
      · subst e
        rw [zl_uns, zl_uns, zl_uns, pk_us, pk_us]
        exact ⟨Nat.le_refl _, by omega, rfl, rfl⟩
      · rw [zl_unn e, zl_unn e, zl_unn e, pk_un (hsv n w), pk_un (hsv n w)]
        exact ⟨by have := hLA n w; omega, hlwn n w, hE' n w, (q3 n w).2.2.2⟩, hP', hT', hM', hl0⟩, fun j hj => by
      obtain ⟨s1, s2, s3⟩ := hS j hj
      exact ⟨s1, s2, fun z => by obtain ⟨m, m1, m2⟩ := s3 z; exact ⟨m, by omega, m2⟩⟩, fun j hj => by
      obtain ⟨s1, s2⟩ := hI j hj
      exact ⟨s1, fun z => by
        obtain ⟨m, l, h, p, o1, o2⟩ := s2 z
        exact ⟨m, l, h, p, by omega, o2⟩⟩, hJ'⟩
  · rcases hcase n hn with e | ⟨e, w⟩
    · subst e
      exact Or.inr zl_uns
    · rcases hJ.2 with ⟨z1, z2, z3⟩ | ⟨z1, JL, JT, GX, GY, JI, RS, RT, JO, SA, TA, g1, g2, g3, g4, g5, g6, g9⟩
      · rw [zl_unn e]; exact Or.inr (z3 n w)
      · rw [zl_unn e]
        rcases (q2.2.2.1 n w).2 with w2 | w2
        · exact Or.inr w2
        · have := g3.1.2.1 n ((g3.1.1 n).mpr ⟨w, w2⟩)
          omega
  · rw [zl_unn (by omega), hlw]
    by_cases c : (L 0).length + (L 1).length < ML
    · rw [if_pos c]
    · rw [if_neg c]; exact zt_fl_n h0
/-- both writes -/
theorem zz_wb {K lo0 hi0 : Nat} {val : Int32} {postX : Int32 → SX → Prop} (hR : zR k al kd lo hi lv ip va sl pl L BS FS NK ML HL NL LA FL xkc xml xhl xnl xla xfl xfc xhe xbc xjr xjl xjt xjo xjh xjs xic xsa xse xta xoc xgc rS rK rL rH rV rE rI rP fS bS tB tS fi bA sO sM iO iM iL iH iP iK jI jO gu oP ykc yml yhl ynl yla yfl yjr yjs yjl yjt yjo yjh ygc yS yK yL yH yV yE yI yT ysO ysM yiO yiM yiL yiH yiP yiK yg) (hk : k + 4 ≤ 2052) (hK1 : 1 ≤ K) (hK3 : K ≤ 3) (hlh : lo0 ≤ hi0) (hh : hi0 < 24) (hkl : K ≠ 3 → lo0 = hi0) (hval : ¬ val < 0)
    (h5 : (∀ post : Int32 → Prop, post 1 → wpY_full post (ykc, yml, yhl, ynl, yla, yfl, yjr, yjs, yjl, yjt, yjo, yjh, ygc, yS, yK, yL, yH, yV, yE, yI, yT, ysO, ysM, yiO, yiM, yiL, yiH, yiP, yiK, yg)) → postX (-5) (xkc, xml, xhl, xnl, xla, xfl, xfc, xhe, xbc, xjr, xjl, xjt, xjo, xjh, xjs, xic, xsa, xse, xta, xoc, xgc, rS, rK, rL, rH, rV, rE, rI, rP, fS, bS, tB, tS, fi, bA, sO, sM, iO, iM, iL, iH, iP, iK, jI, jO, gu, oP))
    (hgo : ∀ r u', (∀ post : Int32 → Prop, post 0 → wpY_full post (ykc, yml, yhl, ynl, yla, yfl, yjr, yjs, yjl, yjt, yjo, yjh, ygc, yS, yK, yL, yH, yV, yE, yI, yT, ysO, ysM, yiO, yiM, yiL, yiH, yiP, yiK, yg)) → (∀ post : Int32 → SY → Prop, (∀ r' v', r' = r → i_Rel (k + 4) u' v' → post r' v') → wpY_write post (ykc, yml, yhl, ynl, yla, yfl, yjr, yjs, yjl, yjt, yjo, yjh, ygc, yS, yK, yL, yH, yV, yE, yI, yT, ysO, ysM, yiO, yiM, yiL, yiH, yiP, yiK, yg) (nI K) (nI lo0) (nI hi0) val) → postX r u') : wpX_write postX (xkc, xml, xhl, xnl, xla, xfl, xfc, xhe, xbc, xjr, xjl, xjt, xjo, xjh, xjs, xic, xsa, xse, xta, xoc, xgc, rS, rK, rL, rH, rV, rE, rI, rP, fS, bS, tB, tS, fi, bA, sO, sM, iO, iM, iL, iH, iP, iK, jI, jO, gu, oP) (nI K) (nI lo0) (nI hi0) val := by
  have hR0 := hR
  obtain ⟨⟨n1, ⟨nb1, nb2, nb3, nb4⟩, ⟨nc1, nc2, nc3⟩, n4, ⟨n5, n6, n7, n8⟩, ⟨n9, n10, n11⟩⟩, ⟨q1, q2, q3, q4, q5, q6, q7⟩, hS, hI, hJ⟩ := hR
  have hq4 := q4
  obtain ⟨⟨p1, p2, p3, p4⟩, ⟨p5, p6, p7, p8, p9⟩, p10⟩ := q4
  have hBn : BS.Nodup := List.nodup_iff_pairwise_ne.mpr (p3.imp (fun z => Nat.ne_of_lt z))
  by_cases hf : HL ≤ BS.length
  · exact zx_wfull nc1 p2 (by omega) hf (h5 (fun post hp => zy_full q2 nc2 nc3 n6 (by omega) hBn p4 (by omega) (fun _ => hp) (fun z => absurd hf (by omega))))
  · rcases zl_snoc FS with e | ⟨FS0, v0, e⟩
    · rw [e, List.length_nil] at p10; omega
    · have hv64 : v0 < 64 := p8 v0 (by rw [e]; exact List.mem_append.mpr (Or.inr List.mem_cons_self))
      have hsv : ∀ n, al n = true → sl n ≠ v0 := fun n hn q => p9 n hn (by rw [q, e]; exact List.mem_append.mpr (Or.inr List.mem_cons_self))
      have hfS : fS FS0.length = nI v0 := by
        rw [e] at p5
        have := zl_at_mid p5
        rw [Nat.zero_add] at this
        exact this
      have hfl : FS.length = FS0.length + 1 := by rw [e, List.length_append]; rfl
      refine zx_write (LA := LA) (NF := FS0.length) (v := v0) (NB := BS.length) (HL := HL) (ML := ML) (K := K) (lo0 := lo0) (hi0 := hi0) (al := al) (kd := kd) (lo := lo) (hi := hi) (lv := lv) (va := va) (sl := sl) (L := L) n5 (by omega) (p6.trans (congrArg nI hfl)) (by omega) hfS hv64 p2 (by omega) nc1 (by omega) nc3 nb1 (by omega) hK1 hK3 hlh hh hkl hval q5 q6 q1 (fun n hn => (q3 n hn).2.2.1) (fun n hn => (q3 n hn).1) hsv (zp_C hq4) ?_
      intro lw rE' bA' tB' tS' fi' L' w1 w2 w3 w4
      refine hgo _ _ (fun post hp => zy_full q2 nc2 nc3 n6 (by omega) hBn p4 (by omega) (fun z => absurd z hf) (fun _ => hp)) (fun post hp => ?_)
      obtain ⟨l1, l2⟩ := zz_lev q5 q6 (v := 0) (by omega)
      have el : (L (2 * 0) ++ L (2 * 0 + 1)).length = (L 0).length + (L 1).length := by rw [List.length_append]
      refine zy_write (L0 := L (2 * 0) ++ L (2 * 0 + 1)) (NB := BS.length) (LA := LA) (ML := ML) q2 (by omega) (zp_C hq4) n6 (by omega) (fun n hn => (q3 n hn).1) nb2 (by omega) l1 l2 (by rw [el]; exact q7) hK1 hK3 hlh hh hkl hval ?_
      intro lw2 pl' yS' yK' yL' yH' yV' yE' yI' w5 w6
      rw [el, ← w1] at w5
      subst w5
      exact hp _ _ rfl (zz_wr hR0 hk e hK1 hK3 hlh hh hkl hval w1 w2 w3 w4 w6)
end
theorem i_vc_put {k : Nat} {u : SX} {v : SY} (I : i_Rel k u v) (hk : k + 4 ≤ 2052) (v1 : Int32) (v2 : Int32) : wpX_put (fun r u' => wpY_put (fun r' v' => r' = r ∧ i_Rel (k + 4) u' v') v v1 v2) u v1 v2 := by
  refine zz_el (P := fun u v => wpX_put (fun r u' => wpY_put (fun r' v' => r' = r ∧ i_Rel (k + 4) u' v') v v1 v2) u v1 v2) I ?_
  intro al kd lo hi lv ip va sl pl L BS FS NK ML HL NL LA FL xkc xml xhl xnl xla xfl xfc xhe xbc xjr xjl xjt xjo xjh xjs xic xsa xse xta xoc xgc rS rK rL rH rV rE rI rP fS bS tB tS fi bA sO sM iO iM iL iH iP iK jI jO gu oP ykc yml yhl ynl yla yfl yjr yjs yjl yjt yjo yjh ygc yS yK yL yH yV yE yI yT ysO ysM yiO yiM yiL yiH yiP yiK yg hR
  have hU := zz_in (zz_up hR)
  have H := zz_H hR
  have HY := zz_Y hR
  obtain ⟨⟨⟨a1, a2, a3, a4⟩, ⟨b1, b2, b3, b4⟩, ⟨c1, c2, c3⟩, ⟨d1, d2, d3, d4⟩, ⟨e1, e2, e3, e4⟩, ⟨f1, f2, f3⟩⟩, hC, hS, hI, hJ⟩ := id hR
  have hst : ∀ j, j < 3 → ysO (j + 1) = sO j ∧ ysM (j + 1) = sM j := fun j hj => ⟨(hS j hj).1, (hS j hj).2.1⟩
  unfold wpX_put
  dsimp only
  rcases zb_key NK a4 v1 with ⟨q, hq, rfl⟩ | hb
  · refine zx_gk1 a1 a4 hq (br_f zl_10 (br_c (fun z => ?_) (fun z => ?_)))
    · refine zz_wb (K := 1) (lo0 := q) (hi0 := q) hR hk (by omega) (by omega) (Nat.le_refl q) (by omega) (fun _ => rfl) (Int32.not_lt.mpr z) (fun hf => ?_) (fun r u' hf hw => ?_)
      · unfold wpY_put
        dsimp only
        exact zy_bk0 a2 a3 a4 hq (br_t rfl (br_t z (hf _ (br_f zl_10 ⟨rfl, hU⟩))))
      · unfold wpY_put
        dsimp only
        exact zy_bk0 a2 a3 a4 hq (br_t rfl (br_t z (hf _ (br_t rfl (hw _ (fun r' v' h1 h2 => ⟨h1, h2⟩))))))
    · unfold wpY_put
      dsimp only
      exact zy_bk0 a2 a3 a4 hq (br_t rfl (br_f z ⟨rfl, hU⟩))
  · refine zx_gk0 a1 a4 hb (br_t rfl ?_)
    unfold wpY_put
    dsimp only
    exact zy_bk1 a2 a3 a4 hb (br_f zl_10 ⟨rfl, hU⟩)
theorem i_vc_remove {k : Nat} {u : SX} {v : SY} (I : i_Rel k u v) (hk : k + 4 ≤ 2052) (v1 : Int32) : wpX_remove (fun r u' => wpY_remove (fun r' v' => r' = r ∧ i_Rel (k + 4) u' v') v v1) u v1 := by
  refine zz_el (P := fun u v => wpX_remove (fun r u' => wpY_remove (fun r' v' => r' = r ∧ i_Rel (k + 4) u' v') v v1) u v1) I ?_
  intro al kd lo hi lv ip va sl pl L BS FS NK ML HL NL LA FL xkc xml xhl xnl xla xfl xfc xhe xbc xjr xjl xjt xjo xjh xjs xic xsa xse xta xoc xgc rS rK rL rH rV rE rI rP fS bS tB tS fi bA sO sM iO iM iL iH iP iK jI jO gu oP ykc yml yhl ynl yla yfl yjr yjs yjl yjt yjo yjh ygc yS yK yL yH yV yE yI yT ysO ysM yiO yiM yiL yiH yiP yiK yg hR
  have hU := zz_in (zz_up hR)
  have H := zz_H hR
  have HY := zz_Y hR
  obtain ⟨⟨⟨a1, a2, a3, a4⟩, ⟨b1, b2, b3, b4⟩, ⟨c1, c2, c3⟩, ⟨d1, d2, d3, d4⟩, ⟨e1, e2, e3, e4⟩, ⟨f1, f2, f3⟩⟩, hC, hS, hI, hJ⟩ := id hR
  have hst : ∀ j, j < 3 → ysO (j + 1) = sO j ∧ ysM (j + 1) = sM j := fun j hj => ⟨(hS j hj).1, (hS j hj).2.1⟩
  unfold wpX_remove
  dsimp only
  rcases zb_key NK a4 v1 with ⟨q, hq, rfl⟩ | hb
  · refine zx_gk1 a1 a4 hq (br_f zl_10 ?_)
    refine zz_wb (K := 2) (lo0 := q) (hi0 := q) (val := 0) hR hk (by omega) (by omega) (Nat.le_refl q) (by omega) (fun _ => rfl) (by decide) (fun hf => ?_) (fun r u' hf hw => ?_)
    · unfold wpY_remove
      dsimp only
      exact zy_bk0 a2 a3 a4 hq (br_t rfl (hf _ (br_f zl_10 ⟨rfl, hU⟩)))
    · unfold wpY_remove
      dsimp only
      exact zy_bk0 a2 a3 a4 hq (br_t rfl (hf _ (br_t rfl (hw _ (fun r' v' h1 h2 => ⟨h1, h2⟩)))))
  · refine zx_gk0 a1 a4 hb (br_t rfl ?_)
    unfold wpY_remove
    dsimp only
    exact zy_bk1 a2 a3 a4 hb (br_f zl_10 ⟨rfl, hU⟩)
theorem i_vc_removeRange {k : Nat} {u : SX} {v : SY} (I : i_Rel k u v) (hk : k + 4 ≤ 2052) (v1 : Int32) (v2 : Int32) : wpX_removeRange (fun r u' => wpY_removeRange (fun r' v' => r' = r ∧ i_Rel (k + 4) u' v') v v1 v2) u v1 v2 := by
  refine zz_el (P := fun u v => wpX_removeRange (fun r u' => wpY_removeRange (fun r' v' => r' = r ∧ i_Rel (k + 4) u' v') v v1 v2) u v1 v2) I ?_
  intro al kd lo hi lv ip va sl pl L BS FS NK ML HL NL LA FL xkc xml xhl xnl xla xfl xfc xhe xbc xjr xjl xjt xjo xjh xjs xic xsa xse xta xoc xgc rS rK rL rH rV rE rI rP fS bS tB tS fi bA sO sM iO iM iL iH iP iK jI jO gu oP ykc yml yhl ynl yla yfl yjr yjs yjl yjt yjo yjh ygc yS yK yL yH yV yE yI yT ysO ysM yiO yiM yiL yiH yiP yiK yg hR
  have hU := zz_in (zz_up hR)
  have H := zz_H hR
  have HY := zz_Y hR
  obtain ⟨⟨⟨a1, a2, a3, a4⟩, ⟨b1, b2, b3, b4⟩, ⟨c1, c2, c3⟩, ⟨d1, d2, d3, d4⟩, ⟨e1, e2, e3, e4⟩, ⟨f1, f2, f3⟩⟩, hC, hS, hI, hJ⟩ := id hR
  have hst : ∀ j, j < 3 → ysO (j + 1) = sO j ∧ ysM (j + 1) = sM j := fun j hj => ⟨(hS j hj).1, (hS j hj).2.1⟩
  unfold wpX_removeRange
  dsimp only
  rcases zb_range NK a4 v1 v2 with ⟨a, b, hab, hb, rfl, rfl⟩ | hb
  · refine zx_gr1 a1 a4 hab hb (br_f zl_10 ?_)
    refine zz_wb (K := 3) (lo0 := a) (hi0 := b) (val := 0) hR hk (by omega) (by omega) hab (by omega) (fun z => absurd rfl z) (by decide) (fun hf => ?_) (fun r u' hf hw => ?_)
    · unfold wpY_removeRange
      dsimp only
      exact zy_gr1 a2 a3 a4 hab hb (br_f zl_10 (hf _ (br_f zl_10 ⟨rfl, hU⟩)))
    · unfold wpY_removeRange
      dsimp only
      exact zy_gr1 a2 a3 a4 hab hb (br_f zl_10 (hf _ (br_t rfl (hw _ (fun r' v' h1 h2 => ⟨h1, h2⟩)))))
  · refine zx_gr0 a1 a4 hb (br_t rfl ?_)
    unfold wpY_removeRange
    dsimp only
    exact zy_gr0 a2 a3 a4 hb (br_t rfl ⟨rfl, hU⟩)
end
section
theorem zg_dgG {al : Nat → Bool} {lo hi : Nat → Nat} {G G' : List Nat} {n k : Nat} (h : ∀ g, g ∈ G ↔ g ∈ G') : zg_dg al lo hi G n k = zg_dg al lo hi G' n k := by
  rw [Bool.eq_iff_iff, zg_dg_iff, zg_dg_iff]
  exact ⟨fun ⟨g, g1, g2⟩ => ⟨g, (h g).mp g1, g2⟩, fun ⟨g, g1, g2⟩ => ⟨g, (h g).mpr g1, g2⟩⟩
theorem zg_stG {al : Nat → Bool} {kd lo hi ip : Nat → Nat} {G G' : List Nat} {n : Nat} (h : ∀ g, g ∈ G ↔ g ∈ G') : zg_st al kd lo hi ip G n = zg_st al kd lo hi ip G' n := by
  have hd : ∀ n k, zg_dg al lo hi G n k = zg_dg al lo hi G' n k := fun n k => zg_dgG h
  unfold zg_st zg_op
  simp only [hd]
section
variable {k : Nat} {al : Nat → Bool} {kd lo hi lv ip : Nat → Nat} {va : Nat → Int32} {sl pl : Nat → Nat} {L : Nat → List Nat} {BS FS : List Nat} {NK ML HL NL LA FL : Nat} {xkc xml xhl xnl xla xfl xfc xhe xbc xjr xjl xjt xjo xjh xjs xic xsa xse xta xoc xgc : Int32} {rS rK rL rH rV rE rI rP fS bS tB tS fi bA sO sM iO iM iL iH iP iK jI jO gu oP : Nat → Int32} {ykc yml yhl ynl yla yfl yjr yjs yjl yjt yjo yjh ygc : Int32} {yS yK yL yH yV yE yI yT ysO ysM yiO yiM yiL yiH yiP yiK yg : Nat → Int32}
theorem zz_abort {JL JT : Nat} {GX GY JI RS RT JO : List Nat} {SA TA : Nat} {yI' rP' : Nat → Int32} (hR : zR k al kd lo hi lv ip va sl pl L BS FS NK ML HL NL LA FL xkc xml xhl xnl xla xfl xfc xhe xbc xjr xjl xjt xjo xjh xjs xic xsa xse xta xoc xgc rS rK rL rH rV rE rI rP fS bS tB tS fi bA sO sM iO iM iL iH iP iK jI jO gu oP ykc yml yhl ynl yla yfl yjr yjs yjl yjt yjo yjh ygc yS yK yL yH yV yE yI yT ysO ysM yiO yiM yiL yiH yiP yiK yg) (hr : zJr al kd lo hi lv ip sl NL FL xjl xjt xjs xic xsa xse xta xoc xgc ygc rP jI jO gu oP yg JL JT GX GY JI RS RT JO SA TA) (hy : ∀ i, i < 64 → yI' i = 0) : i_Rel (k + 4) (xkc, xml, xhl, xnl, xla, xfl, xfc, xhe, xbc, 0, xjl, xjt, xjo, xjh, 0, 0, 0, 0, 0, 0, 0, rS, rK, rL, rH, rV, rE, zl_set sl JI 0 rI, rP', fS, bS, tB, tS, fi, bA, sO, sM, iO, iM, iL, iH, iP, iK, jI, jO, gu, oP) (ykc, yml, yhl, ynl, yla, yfl, 0, 0, yjl, yjt, yjo, yjh, 0, yS, yK, yL, yH, yV, yE, yI', yT, ysO, ysM, yiO, yiM, yiL, yiH, yiP, yiK, yg) := by
  have hR' := zz_up hR
  obtain ⟨q1, q2, q3, q4, q5, q6, q7⟩ := hR.2.1
  obtain ⟨g1, g2, g3, g4, g5, g6, g9⟩ := hr
  refine zz_in (ip := fun _ => 0) (pl := pl) (BS := BS) (FS := FS) (L := L) ⟨hR'.1, ⟨q1, ⟨q2.1, q2.2.1, fun n hn => ⟨hy _ (q2.1 n hn).1.1, Or.inl rfl⟩, q2.2.2.2.1, fun i hi' _ => hy i hi'⟩, fun n hn => ⟨(q3 n hn).1, (q3 n hn).2.1, (q3 n hn).2.2.1, ?_⟩, q4, q5, q6, q7⟩, hR'.2.2.1, hR'.2.2.2.1, ⟨⟨rfl, rfl, hR.2.2.2.2.1.2.2⟩, Or.inl ⟨rfl, rfl, fun _ _ => rfl⟩⟩⟩
  by_cases c : n ∈ JI
  · exact zl_set_in c
  · have h0 : ip n = 0 := (q2.2.2.1 n hn).2.resolve_right (fun w => c ((g3.1.1 n).mpr ⟨hn, w⟩))
    rw [zl_set_out (fun x hx e => c (by rw [← zg_inj (q1 x ((g3.1.1 x).mp hx).1) (q1 n hn) e]; exact hx)), (q3 n hn).2.2.2, h0]
end
theorem i_vc_abort {k : Nat} {u : SX} {v : SY} (I : i_Rel k u v) (hk : k + 4 ≤ 2052) : wpX_abort (fun r u' => wpY_abort (fun r' v' => r' = r ∧ i_Rel (k + 4) u' v') v) u := by
  refine zz_el (P := fun u v => wpX_abort (fun r u' => wpY_abort (fun r' v' => r' = r ∧ i_Rel (k + 4) u' v') v) u) I ?_
  intro al kd lo hi lv ip va sl pl L BS FS NK ML HL NL LA FL xkc xml xhl xnl xla xfl xfc xhe xbc xjr xjl xjt xjo xjh xjs xic xsa xse xta xoc xgc rS rK rL rH rV rE rI rP fS bS tB tS fi bA sO sM iO iM iL iH iP iK jI jO gu oP ykc yml yhl ynl yla yfl yjr yjs yjl yjt yjo yjh ygc yS yK yL yH yV yE yI yT ysO ysM yiO yiM yiL yiH yiP yiK yg hR
  have hU := zz_in (zz_up hR)
  have H := zz_H hR
  have HY := zz_Y hR
  obtain ⟨⟨⟨a1, a2, a3, a4⟩, ⟨b1, b2, b3, b4⟩, ⟨c1, c2, c3⟩, ⟨d1, d2, d3, d4⟩, ⟨e1, e2, e3, e4⟩, ⟨f1, f2, f3⟩⟩, hC, hS, hI, hJ⟩ := id hR
  have hst : ∀ j, j < 3 → ysO (j + 1) = sO j ∧ ysM (j + 1) = sM j := fun j hj => ⟨(hS j hj).1, (hS j hj).2.1⟩
  obtain ⟨⟨j1, j2, j3, j4, j5, j6⟩, hJ⟩ := hJ
  unfold wpX_abort
  dsimp only
  rcases hJ with ⟨z1, z2, z3⟩ | ⟨z1, JL, JT, GX, GY, JI, RS, RT, JO, SA, TA, hr⟩
  · refine br_t z1 ?_
    unfold wpY_abort
    dsimp only
    exact br_t (j1.trans z1) ⟨rfl, hU⟩
  · have hr0 := hr
    obtain ⟨g1, g2, g3, ⟨⟨i1, i2, i3⟩, -⟩, g5, g6, g9⟩ := hr
    refine br_f (by rw [z1]; exact zl_10) (zx_ej (JI := JI) (sl := sl) i1 i2 i3 (fun x hx => (hC.1 x ((g3.1.1 x).mp hx).1).1.1) ?_)
    dsimp only
    unfold wpY_abort
    dsimp only
    exact br_f (by rw [j1, z1]; exact zl_10) (zy_ej (fun yI' hy => ⟨j2, zz_abort hR hr0 hy⟩))
section
variable {k : Nat} {al : Nat → Bool} {kd lo hi lv ip : Nat → Nat} {va : Nat → Int32} {sl pl : Nat → Nat} {L : Nat → List Nat} {BS FS : List Nat} {NK ML HL NL LA FL : Nat} {xkc xml xhl xnl xla xfl xfc xhe xbc xjr xjl xjt xjo xjh xjs xic xsa xse xta xoc xgc : Int32} {rS rK rL rH rV rE rI rP fS bS tB tS fi bA sO sM iO iM iL iH iP iK jI jO gu oP : Nat → Int32} {ykc yml yhl ynl yla yfl yjr yjs yjl yjt yjo yjh ygc : Int32} {yS yK yL yH yV yE yI yT ysO ysM yiO yiM yiL yiH yiP yiK yg : Nat → Int32}
/-- the relation after a completion -/
theorem zz_comp {JL JT : Nat} {GX GY JI JO : List Nat} {SA TA : Nat} {al' : Nat → Bool} {BS' FS' : List Nat} {L' : Nat → List Nat} {xhe' xfc' xbc' : Int32} {rE' rI' rP' fS' bS' tB' tS' fi' bA' jO' oP' yS' yE' yI' yT' : Nat → Int32} (hR : zR k al kd lo hi lv ip va sl pl L BS FS NK ML HL NL LA FL xkc xml xhl xnl xla xfl xfc xhe xbc xjr xjl xjt xjo xjh xjs xic xsa xse xta xoc xgc rS rK rL rH rV rE rI rP fS bS tB tS fi bA sO sM iO iM iL iH iP iK jI jO gu oP ykc yml yhl ynl yla yfl yjr yjs yjl yjt yjo yjh ygc yS yK yL yH yV yE yI yT ysO ysM yiO yiM yiL yiH yiP yiK yg) (hJT : 1 ≤ JT ∧ JT ≤ NL) (hal : ∀ n, al' n = true → al n = true)
    (m1 : zt_Tab kd lo hi sl L' tB' tS' fi') (m2 : zt_Mem al' kd (fun n => if ip n = 1 then JT else lv n) L') (m3 : ∀ n, al' n = true → rE' (sl n) = nI (if ip n = 1 then JT else lv n)) (m4 : ∀ n, al' n = true → rI' (sl n) = 0) (m5 : zp_P al' sl BS' FS' xhe' xfc' bS' fS') (hY : zy_H al' kd lo hi (fun n => if ip n = 1 then JT else lv n) (fun _ => 0) va pl yS' yK yL yH yV yE' yI') :
    i_Rel (k + 4) (xkc, xml, xhl, xnl, xla, xfl, xfc', xhe', xbc', 0, xjl, xjt, xjo, xjh, 0, 0, 0, 0, 0, 0, 0, rS, rK, rL, rH, rV, rE', rI', rP', fS', bS', tB', tS', fi', bA', sO, sM, iO, iM, iL, iH, iP, iK, jI, jO', gu, oP') (ykc, yml, yhl, ynl, yla, yfl, 0, 0, yjl, yjt, yjo, yjh, 0, yS', yK, yL, yH, yV, yE', yI', yT', ysO, ysM, yiO, yiM, yiL, yiH, yiP, yiK, yg) := by
  have hR' := zz_up hR
  obtain ⟨q1, q2, q3, q4, q5, q6, q7⟩ := hR.2.1
  have hl0 : (L' 0).length + (L' 1).length ≤ ML := by
    obtain ⟨l1, l2⟩ := zz_lev m1 m2 (v := 0) (by omega)
    obtain ⟨l3, l4⟩ := zz_lev q5 q6 (v := 0) (by omega)
    have : (L' (2 * 0) ++ L' (2 * 0 + 1)).length ≤ (L (2 * 0) ++ L (2 * 0 + 1)).length := l1.length_le_of_subset (fun n hn => by
      obtain ⟨w1, w2⟩ := (l2 n).mp hn
      by_cases c : ip n = 1
      · rw [if_pos c] at w2; omega
      · rw [if_neg c] at w2; exact (l4 n).mpr ⟨hal n w1, w2⟩)
    rw [List.length_append, List.length_append] at this
    have e2 : (L (2 * 0)).length + (L (2 * 0 + 1)).length = (L 0).length + (L 1).length := rfl
    have e3 : (L' (2 * 0)).length + (L' (2 * 0 + 1)).length = (L' 0).length + (L' 1).length := rfl
    omega
  refine zz_in (al := al') (lv := fun n => if ip n = 1 then JT else lv n) (ip := fun _ => 0) (pl := pl) (BS := BS') (FS := FS') (L := L') ⟨hR'.1, ⟨fun n hn => q1 n (hal n hn), hY, fun n hn => ⟨(q3 n (hal n hn)).1, ?_, m3 n hn, m4 n hn⟩, m5, m1, m2, hl0⟩, hR'.2.2.1, hR'.2.2.2.1, ⟨⟨rfl, rfl, hR.2.2.2.2.1.2.2⟩, Or.inl ⟨rfl, rfl, fun _ _ => rfl⟩⟩⟩
  dsimp only
  by_cases c : ip n = 1
  · rw [if_pos c]; exact hJT.2
  · rw [if_neg c]; exact (q3 n (hal n hn)).2.1
end
theorem i_vc_step {k : Nat} {u : SX} {v : SY} (I : i_Rel k u v) (hk : k + 4 ≤ 2052) (v1 : Int32) : wpX_step (fun r u' => wpY_step (fun r' v' => r' = r ∧ i_Rel (k + 4) u' v') v v1) u v1 := by
  refine zz_el (P := fun u v => wpX_step (fun r u' => wpY_step (fun r' v' => r' = r ∧ i_Rel (k + 4) u' v') v v1) u v1) I ?_
  intro al kd lo hi lv ip va sl pl L BS FS NK ML HL NL LA FL xkc xml xhl xnl xla xfl xfc xhe xbc xjr xjl xjt xjo xjh xjs xic xsa xse xta xoc xgc rS rK rL rH rV rE rI rP fS bS tB tS fi bA sO sM iO iM iL iH iP iK jI jO gu oP ykc yml yhl ynl yla yfl yjr yjs yjl yjt yjo yjh ygc yS yK yL yH yV yE yI yT ysO ysM yiO yiM yiL yiH yiP yiK yg hR
  have hU := zz_in (zz_up hR)
  have H := zz_H hR
  have HY := zz_Y hR
  obtain ⟨⟨⟨a1, a2, a3, a4⟩, ⟨b1, b2, b3, b4⟩, ⟨c1, c2, c3⟩, ⟨d1, d2, d3, d4⟩, ⟨e1, e2, e3, e4⟩, ⟨f1, f2, f3⟩⟩, hC, hS, hI, hJ⟩ := id hR
  have hst : ∀ j, j < 3 → ysO (j + 1) = sO j ∧ ysM (j + 1) = sM j := fun j hj => ⟨(hS j hj).1, (hS j hj).2.1⟩
  have hR' := zz_up hR
  obtain ⟨⟨j1, j2, j3, j4, j5, j6⟩, hJ⟩ := hJ
  obtain ⟨q1, q2, q3, q4, q5, q6, q7⟩ := hC
  unfold wpX_step
  dsimp only
  refine br_c (fun z => ?_) (fun z => ?_)
  · rcases hJ with ⟨z1, z2, z3⟩ | ⟨z1, JL, JT, GX, GY, JI, RS, RT, JO, SA, TA, hr⟩
    · refine br_t z1 ?_
      unfold wpY_step
      dsimp only
      exact br_t z (br_t (j1.trans z1) ⟨rfl, hU⟩)
    · obtain ⟨⟨g0, g00, g01, g02, g03, g04⟩, g2, g3, g4, ⟨g5, g55⟩, ⟨g6, g7, g8⟩, g9⟩ := hr
      have hz0 : ¬ v1 < 0 := fun w => by
        have := Int32.lt_of_le_of_lt z w
        exact absurd this (by decide)
      obtain ⟨q, q31, rfl⟩ := nI_of hz0
      have hq1 : 1 ≤ q := (nI_leI (a := 1) (by omega) q31).mp z
      have hJ64 : JI.length ≤ 64 := g4.1.2.2
      have hN64 : RS.length + RT.length ≤ 64 := by
        have hnd : (RS ++ RT).Nodup := List.nodup_append.mpr ⟨zd_nodup (List.pairwise_append.mp g3.2.1).2.1, zd_nodup (List.pairwise_append.mp g3.2.2.1).2.1, fun a ha b hb e => g3.1.2.2.2.2.2 a ha (e ▸ hb)⟩
        have := zp_C64 q4 (RS ++ RT) hnd (fun x hx => ((g3.1.1 x).mp ((List.mem_append.mp hx).elim (g3.1.2.2.1 x) (g3.1.2.2.2.1 x))).1)
        rw [List.length_append] at this
        exact this
      have hip : ∀ n, al n = true → ip n = 0 ∨ ip n = 1 := fun n hn => (q2.2.2.1 n hn).2
      have hjy : ¬ yjr = 0 := by rw [j1, z1]; exact zl_10
      subst g5
      refine br_f (by rw [z1]; exact zl_10) (pk_le (RS.length + RT.length) q (fun w => ?_) (fun w => ?_))
      · refine ⟨RS.length + RT.length + 1, zx_steps (FL := FL) (TD := RS.length + RT.length) (GX := GX) (JI := JI) (ip := ip) H (by omega) hip (zp_C64 q4) hN64 (RS.length + RT.length) 0 RS RT JO SA TA xsa xta xoc rP jO oP (by omega) (Nat.le_refl _) g3 g4 (fun RS' RT' JO' SA' TA' n xsa' xta' xoc' rP' jO' oP' k1 k2 k3 => ?_)⟩
        have hRS0 : RS' = [] := List.eq_nil_of_length_eq_zero (by omega)
        have hRT0 : RT' = [] := List.eq_nil_of_length_eq_zero (by omega)
        subst hRS0 hRT0
        rw [wX_step_32]
        dsimp only
        refine br_t (nI_le (Nat.le_refl _) (by omega)) (nm_r (e' := 0) (by rw [pk_sub (Nat.le_refl _), Nat.sub_self]; rfl) (br_t rfl ?_))
        obtain ⟨⟨s1, s2, s3⟩, s4, s5, ⟨s6, s7⟩, s8, s9, s10⟩ := k3
        obtain ⟨⟨u1, u2, u3, u4, u5, u6⟩, u7, u8, u9⟩ := k2
        rw [List.append_nil] at u7
        refine zx_comp (JL := JL) (JT := JT) (JI := JI) (JO := JO') (ip := ip) (lv := lv) (al := al) (BS := BS) (FS := FS) g0 (by omega) g00 (by omega) q5 q6 g2 q1 (fun n hn => (q3 n hn).2.2.1) (fun n hn => (q3 n hn).2.2.2) hip q4 s6 s7 u7 (fun n hn => (u1 n).mp (u5 n hn)) s1 s2 s3 u1 s9 ?_
        intro xhe' xfc' xbc' rE' rI' rP2 fS' bS' tB' tS' fi' bA' BS' FS' L' m1 m2 m3 m4 m5
        have hee : (fun n => al n && (ip n == 0 || zg_st al kd lo hi ip GY n)) = (fun n => al n && zj_kp ip JO' n) := by
          funext n
          by_cases c : al n = true
          · rw [c, Bool.true_and, Bool.true_and]
            unfold zj_kp
            rcases hip n c with w0 | w0
            · rw [w0]; rfl
            · have := u9 n ((u1 n).mpr ⟨c, w0⟩) List.not_mem_nil List.not_mem_nil
              rw [zg_stG g9] at this
              congr 1
              rw [Bool.eq_iff_iff, decide_eq_true_eq]
              exact this.symm
          · rw [Bool.eq_false_iff.mpr c]
            rfl
        dsimp only
        unfold wpY_step
        dsimp only
        rw [show (nI q < yjs ↔ nI q < nI (RS.length + RT.length)) by rw [j2]]
        refine br_t z (br_f hjy (br_f (nI_nlt w (by omega)) ?_))
        unfold wY_step_37
        refine br_t rfl (zy_comp (JT := JT) (G := GY) q2 g7 g8 g6 (fun g hg => ?_) (j4.trans g00) (by omega) (fun yS' yE' yI' yT' HY' => ⟨rfl, ?_⟩))
        · have := s8.2.2.2 g ((g9 g).mpr hg)
          omega
        · rw [hee] at HY'
          have hr2 : zR k al kd lo hi lv ip va sl pl L BS FS NK ML HL NL LA FL xkc xml xhl xnl xla xfl xfc xhe xbc xjr xjl xjt xjo xjh (nI (RS.length + RT.length)) xic xsa xse xta xoc xgc rS rK rL rH rV rE rI rP fS bS tB tS fi bA sO sM iO iM iL iH iP iK jI jO gu oP ykc yml yhl ynl yla yfl yjr yjs yjl yjt yjo yjh ygc yS yK yL yH yV yE yI yT ysO ysM yiO yiM yiL yiH yiP yiK yg := hR
          exact zz_comp (JL := JL) (GX := GX) (GY := GY) (JI := JI) (JO := JO') (SA := SA) (TA := TA) hr2 ⟨g02, g04⟩ (fun n hn => (Bool.and_eq_true_iff.mp hn).1) m1 m2 m3 m4 m5 HY'
      · refine ⟨q + 1, zx_steps (FL := FL) (TD := q) (GX := GX) (JI := JI) (ip := ip) H (by omega) hip (zp_C64 q4) (by omega) q 0 RS RT JO SA TA xsa xta xoc rP jO oP (by omega) (by omega) g3 g4 (fun RS' RT' JO' SA' TA' n xsa' xta' xoc' rP' jO' oP' k1 k2 k3 => ?_)⟩
        rw [wX_step_32]
        dsimp only
        have hne : ¬ nI (RS.length + RT.length - q) = 0 := nI_ne0 (by omega) (by omega)
        refine br_t (nI_le (Nat.le_refl _) (by omega)) (nm_r (pk_sub (by omega)) (br_f hne ?_))
        unfold wpY_step
        dsimp only
        rw [show (nI q < yjs ↔ nI q < nI (RS.length + RT.length)) by rw [j2], show yjs - nI q = nI (RS.length + RT.length - q) by rw [j2, pk_sub (by omega)]]
        refine br_t z (br_f hjy (br_t (nI_lt w (by omega)) ?_))
        unfold wY_step_37
        have hjs : RS'.length + RT'.length = RS.length + RT.length - q := by omega
        refine br_f hne ⟨rfl, zz_in (pl := pl) (BS := BS) (FS := FS) (L := L) ⟨hR'.1, hR'.2.1, hR'.2.2.1, hR'.2.2.2.1, ⟨⟨j1, rfl, j3, j4, j5, j6⟩, Or.inr ⟨z1, JL, JT, GX, GY, JI, RS', RT', JO', SA', TA', ⟨g0, g00, g01, g02, g03, g04⟩, g2, k2, k3, ⟨by rw [hjs], by omega⟩, ⟨g6, g7, g8⟩, g9⟩⟩⟩⟩
  · unfold wpY_step
    dsimp only
    exact br_f z ⟨rfl, hU⟩
end
section
section
variable {k : Nat} {al : Nat → Bool} {kd lo hi lv ip : Nat → Nat} {va : Nat → Int32} {sl pl : Nat → Nat} {L : Nat → List Nat} {BS FS : List Nat} {NK ML HL NL LA FL : Nat} {xkc xml xhl xnl xla xfl xfc xhe xbc xjr xjl xjt xjo xjh xjs xic xsa xse xta xoc xgc : Int32} {rS rK rL rH rV rE rI rP fS bS tB tS fi bA sO sM iO iM iL iH iP iK jI jO gu oP : Nat → Int32} {ykc yml yhl ynl yla yfl yjr yjs yjl yjt yjo yjh ygc : Int32} {yS yK yL yH yV yE yI yT ysO ysM yiO yiM yiL yiH yiP yiK yg : Nat → Int32}
/-- the relation when nothing is frozen -/
theorem zz_st0 {a b JL JT : Nat} {jI' yI' : Nat → Int32} (hR : zR k al kd lo hi lv ip va sl pl L BS FS NK ML HL NL LA FL xkc xml xhl xnl xla xfl xfc xhe xbc xjr xjl xjt xjo xjh xjs xic xsa xse xta xoc xgc rS rK rL rH rV rE rI rP fS bS tB tS fi bA sO sM iO iM iL iH iP iK jI jO gu oP ykc yml yhl ynl yla yfl yjr yjs yjl yjt yjo yjh ygc yS yK yL yH yV yE yI yT ysO ysM yiO yiM yiL yiH yiP yiK yg) (hj : xjr = 0) (h0 : ∀ n, al n = true → zj_ip lo hi lv a b JL JT n = 0) (hY : zy_H al kd lo hi lv (zj_ip lo hi lv a b JL JT) va pl yS yK yL yH yV yE yI') : i_Rel (k + 4) (xkc, xml, xhl, xnl, xla, xfl, xfc, xhe, xbc, xjr, xjl, xjt, xjo, xjh, xjs, 0, xsa, 0, xta, xoc, xgc, rS, rK, rL, rH, rV, rE, rI, rP, fS, bS, tB, tS, fi, bA, sO, sM, iO, iM, iL, iH, iP, iK, jI', jO, gu, oP) (ykc, yml, yhl, ynl, yla, yfl, yjr, yjs, yjl, yjt, yjo, yjh, ygc, yS, yK, yL, yH, yV, yE, yI', yT, ysO, ysM, yiO, yiM, yiL, yiH, yiP, yiK, yg) := by
  have hR' := zz_up hR
  obtain ⟨q1, q2, q3, q4, q5, q6, q7⟩ := hR.2.1
  have hid : xjs = 0 ∧ ∀ n, al n = true → ip n = 0 := by
    rcases hR.2.2.2.2.2 with ⟨z1, z2, z3⟩ | ⟨z1, _⟩
    · exact ⟨z2, z3⟩
    · rw [hj] at z1; exact absurd z1.symm zl_10
  refine zz_in (pl := pl) (BS := BS) (FS := FS) (L := L) ⟨hR'.1, ⟨q1, ⟨hY.1, hY.2.1, fun n hn => ⟨?_, Or.inl (hid.2 n hn)⟩, hY.2.2.2⟩, q3, q4, q5, q6, q7⟩, hR'.2.2.1, hR'.2.2.2.1, ⟨hR.2.2.2.2.1, Or.inl ⟨hj, hid.1, hid.2⟩⟩⟩
  rw [(hY.2.2.1 n hn).1, h0 n hn, hid.2 n hn]
/-- the relation when the job has begun -/
theorem zz_st1 {a b JL JT : Nat} {JI RS RT GX GY D : List Nat} {xgc' ygc' : Int32} {rI' rP' jI' gu' oP' yI' yg' : Nat → Int32} (hR : zR k al kd lo hi lv ip va sl pl L BS FS NK ML HL NL LA FL xkc xml xhl xnl xla xfl xfc xhe xbc xjr xjl xjt xjo xjh xjs xic xsa xse xta xoc xgc rS rK rL rH rV rE rI rP fS bS tB tS fi bA sO sM iO iM iL iH iP iK jI jO gu oP ykc yml yhl ynl yla yfl yjr yjs yjl yjt yjo yjh ygc yS yK yL yH yV yE yI yT ysO ysM yiO yiM yiL yiH yiP yiK yg) (hjl : 1 ≤ JL ∧ JL ≤ NL) (hjt : 1 ≤ JT ∧ JT ≤ NL) (hne : ¬ JI.length = 0) (hlen : JI.length = RS.length + RT.length) (hP : zj_P al kd lo hi (zj_ip lo hi lv a b JL JT) LA GX JI RS RT []) (hJ : zj_J al kd lo (zj_ip lo hi lv a b JL JT) sl LA GX JI RS RT [] 0 RS.length (nI JI.length) 0 (nI RS.length) (nI RS.length) 0 xgc' rP' jI' jO gu' oP') (hI : ∀ n, al n = true → rI' (sl n) = nI (zj_ip lo hi lv a b JL JT n)) (hG : ∀ g, g ∈ GX ↔ g ∈ GY)
    (hY : zy_H al kd lo hi lv (zj_ip lo hi lv a b JL JT) va pl yS yK yL yH yV yE yI') (g6 : zl_At yg' 0 id GY) (g7 : ygc' = nI GY.length) (g8 : GY.length ≤ 6) :
    i_Rel (k + 4) (xkc, xml, xhl, xnl, xla, nI LA, xfc, xhe, xbc, 1, nI JL, nI JT, nI a, nI b, nI JI.length, nI JI.length, 0, nI RS.length, nI RS.length, 0, xgc', rS, rK, rL, rH, rV, rE, rI', rP', fS, bS, tB, tS, fi, bA, sO, sM, iO, iM, iL, iH, iP, iK, jI', jO, gu', oP') (ykc, yml, yhl, ynl, yla, nI LA, 1, nI JI.length, nI JL, nI JT, nI a, nI b, ygc', yS, yK, yL, yH, yV, yE, yI', yT, ysO, ysM, yiO, yiM, yiL, yiH, yiP, yiK, yg') := by
  obtain ⟨⟨n1, n2, n3, n4, n5, n6⟩, ⟨q1, q2, q3, q4, q5, q6, q7⟩, hS, hIt, hJb⟩ := zz_up hR
  exact zz_in (ip := zj_ip lo hi lv a b JL JT) (FL := LA) (pl := pl) (BS := BS) (FS := FS) (L := L) ⟨⟨n1, n2, n3, n4, n5, ⟨rfl, rfl, Nat.le_refl LA⟩⟩, ⟨q1, hY, fun n hn => ⟨(q3 n hn).1, (q3 n hn).2.1, (q3 n hn).2.2.1, hI n hn⟩, q4, q5, q6, q7⟩, hS, hIt, ⟨⟨rfl, rfl, rfl, rfl, rfl, rfl⟩, Or.inr ⟨rfl, JL, JT, GX, GY, JI, RS, RT, [], 0, RS.length, ⟨rfl, rfl, hjl.1, hjt.1, hjl.2, hjt.2⟩, fun n _ h1 => (zj_ip1.mp h1).2, hP, hJ, ⟨congrArg nI hlen, by omega⟩, ⟨g6, g7, g8⟩, hG⟩⟩⟩
end
theorem i_vc_startCompaction {k : Nat} {u : SX} {v : SY} (I : i_Rel k u v) (hk : k + 4 ≤ 2052) (v1 : Int32) (v2 : Int32) (v3 : Int32) : wpX_startCompaction (fun r u' => wpY_startCompaction (fun r' v' => r' = r ∧ i_Rel (k + 4) u' v') v v1 v2 v3) u v1 v2 v3 := by
  refine zz_el (P := fun u v => wpX_startCompaction (fun r u' => wpY_startCompaction (fun r' v' => r' = r ∧ i_Rel (k + 4) u' v') v v1 v2 v3) u v1 v2 v3) I ?_
  intro al kd lo hi lv ip va sl pl L BS FS NK ML HL NL LA FL xkc xml xhl xnl xla xfl xfc xhe xbc xjr xjl xjt xjo xjh xjs xic xsa xse xta xoc xgc rS rK rL rH rV rE rI rP fS bS tB tS fi bA sO sM iO iM iL iH iP iK jI jO gu oP ykc yml yhl ynl yla yfl yjr yjs yjl yjt yjo yjh ygc yS yK yL yH yV yE yI yT ysO ysM yiO yiM yiL yiH yiP yiK yg hR
  have hU := zz_in (zz_up hR)
  have H := zz_H hR
  have HY := zz_Y hR
  obtain ⟨⟨⟨a1, a2, a3, a4⟩, ⟨b1, b2, b3, b4⟩, ⟨c1, c2, c3⟩, ⟨d1, d2, d3, d4⟩, ⟨e1, e2, e3, e4⟩, ⟨f1, f2, f3⟩⟩, hC, hS, hI, hJ⟩ := id hR
  have hst : ∀ j, j < 3 → ysO (j + 1) = sO j ∧ ysM (j + 1) = sM j := fun j hj => ⟨(hS j hj).1, (hS j hj).2.1⟩
  obtain ⟨q1, q2, q3, q4, q5, q6, q7⟩ := hC
  have hj1 := hJ.1.1
  have hnl : xnl = ynl := d1.trans d2.symm
  unfold wpX_startCompaction
  dsimp only
  refine br_c (fun z => ?_) (fun z => br_c (fun y => ?_) (fun y => ?_))
  · unfold wpY_startCompaction
    dsimp only
    exact br_t z ⟨rfl, hU⟩
  · have yy : v1 ≤ ynl := by rw [← hnl]; exact y
    rcases zb_range NK a4 v2 v3 with ⟨a, b, hab, hb, rfl, rfl⟩ | hb
    · by_cases hj : xjr = 0
      · have hjy : yjr = 0 := hj1.trans hj
        have hz0 : ¬ v1 < 0 := fun w => z (Int32.lt_of_lt_of_le w (by decide))
        obtain ⟨JL, JL31, rfl⟩ := nI_of hz0
        have hJL1 : 1 ≤ JL := by
          have : ¬ nI JL < nI 1 := z
          rw [nI_ltI JL31 (by omega)] at this
          omega
        have hJLN : JL ≤ NL := by rw [d1] at y; exact (nI_leI JL31 (by omega)).mp y
        have hidle : ∀ n, al n = true → rI (sl n) = 0 := fun n hn => by
          rw [(q3 n hn).2.2.2]
          rcases hJ.2 with ⟨z1, z2, z3⟩ | ⟨z1, _⟩
          · rw [z3 n hn]; rfl
          · rw [hj] at z1; exact absurd z1.symm zl_10
        have hs3 : ∀ j, j < 3 → ¬ sO j = 0 → ∃ m, m ≤ LA ∧ sM j = nI m := fun j hj' e => (hS j hj').2.2 e
        have hi2 : ∀ j, j < 2 → ¬ iO j = 0 → ∃ m, m ≤ LA ∧ iM j = nI m := fun j hj' e => by
          obtain ⟨m, l, h, p, o1, o2, _⟩ := (hI j hj').2 e
          exact ⟨m, o1, o2⟩
        have hit : ∀ j, j < 2 → yiO (j + 1) = iO j ∧ yiM (j + 1) = iM j := fun j hj' => ⟨(hI j hj').1.1, (hI j hj').1.2.1⟩
        have hgo : ∀ JT, 1 ≤ JT → JT ≤ NL → (∀ post : Int32 → SY → Prop, (∃ n61 : Nat, wY_startCompaction_61 post (nI JL) (nI a) (nI b) (nI JT) ykc yml yhl ynl yla yfl yjr yjs yjl yjt yjo yjh ygc n61 0 0 yS yK yL yH yV yE yI yT ysO ysM yiO yiM yiL yiH yiP yiK yg) → wpY_startCompaction post (ykc, yml, yhl, ynl, yla, yfl, yjr, yjs, yjl, yjt, yjo, yjh, ygc, yS, yK, yL, yH, yV, yE, yI, yT, ysO, ysM, yiO, yiM, yiL, yiH, yiP, yiK, yg) (nI JL) (nI a) (nI b)) → wX_startCompaction_54 (fun r u' => wpY_startCompaction (fun r' v' => r' = r ∧ i_Rel (k + 4) u' v') (ykc, yml, yhl, ynl, yla, yfl, yjr, yjs, yjl, yjt, yjo, yjh, ygc, yS, yK, yL, yH, yV, yE, yI, yT, ysO, ysM, yiO, yiM, yiL, yiH, yiP, yiK, yg) (nI JL) (nI a) (nI b)) (nI JL) (nI a) (nI b) (nI JT) xkc xml xhl xnl xla xfl xfc xhe xbc xjr xjl xjt xjo xjh xjs xic xsa xse xta xoc xgc rS rK rL rH rV rE rI rP fS bS tB tS fi bA sO sM iO iM iL iH iP iK jI jO gu oP := by
          intro JT hJT1 hJTN hY
          refine zx_go (LA := LA) (BS := BS) (FS := FS) (al := al) (kd := kd) (lo := lo) (hi := hi) (lv := lv) (va := va) (sl := sl) (L := L) (by omega) (by omega) (by omega) (by omega) e1 (by omega) (fun n hn => (q3 n hn).1) hi2 hs3 q4 q5 q6 q1 hidle (fun h0 jI' => ?_) (fun JI RS RT GX xgc' rI' rP' jI' gu' oP' w1 w2 w3 w4 w5 w6 w7 w8 => ?_)
          · refine hY _ (zy_go (sO := sO) (sM := sM) (iO := iO) (iM := iM) (LA := LA) q2 (by omega) (by omega) (by omega) (by omega) e2 (by omega) hit hi2 hst hs3 (zp_C64 q4) (fun h0' yI' H' => ⟨rfl, zz_st0 hR hj h0 H'⟩) (fun D GY ygc' yI' yg' s1 s2 s3 s4 s5 s6 s7 s8 => ?_))
            exfalso
            cases D with
            | nil => exact s1 rfl
            | cons x D =>
              have := (s3 x).mp List.mem_cons_self
              have := h0 x this.1
              omega
          · refine hY _ (zy_go (sO := sO) (sM := sM) (iO := iO) (iM := iM) (LA := LA) q2 (by omega) (by omega) (by omega) (by omega) e2 (by omega) hit hi2 hst hs3 (zp_C64 q4) (fun h0' yI' H' => ?_) (fun D GY ygc' yI' yg' s1 s2 s3 s4 s5 s6 s7 s8 => ?_))
            · exfalso
              cases JI with
              | nil => exact w1 rfl
              | cons x JI =>
                have := (w5.1.1 x).mp List.mem_cons_self
                have := h0' x this.1
                omega
            · have eD : D.length = JI.length := zl_card s2 w3 (fun n => (s3 n).trans (w5.1.1 n).symm)
              rw [eD]
              exact ⟨rfl, zz_st1 (a := a) (b := b) (JL := JL) (JT := JT) (D := D) hR ⟨hJL1, hJLN⟩ ⟨hJT1, hJTN⟩ w1 w4 w5 w6 w7 (fun g => (w8 g).trans (s8 g).symm) s4 s5 s6 s7⟩
        refine zx_gr1 a1 a4 hab hb (br_f zl_10 (br_t hj ?_))
        rw [show (xnl ≤ nI JL ↔ nI NL ≤ nI JL) by rw [d1]]
        refine pk_le NL JL (fun w => hgo JL hJL1 hJLN (fun post hp => ?_)) (fun w => nm_r (nI_1 JL) (hgo (JL + 1) (by omega) (by omega) (fun post hp => ?_)))
        · unfold wpY_startCompaction
          dsimp only
          exact br_f z (br_t yy (zy_gr1 a2 a3 a4 hab hb (br_f zl_10 (br_t hjy (br_t (by rw [d2]; exact nI_le w (by omega)) hp)))))
        · unfold wpY_startCompaction
          dsimp only
          exact br_f z (br_t yy (zy_gr1 a2 a3 a4 hab hb (br_f zl_10 (br_t hjy (br_f (by rw [d2]; exact nI_ge w (by omega)) (nm_r (nI_1 JL) hp))))))
      · refine zx_gr1 a1 a4 hab hb (br_f zl_10 (br_f hj ?_))
        unfold wpY_startCompaction
        dsimp only
        exact br_f z (br_t yy (zy_gr1 a2 a3 a4 hab hb (br_f zl_10 (br_f (by rw [hj1]; exact hj) ⟨rfl, hU⟩))))
    · refine zx_gr0 a1 a4 hb (br_t rfl ?_)
      unfold wpY_startCompaction
      dsimp only
      exact br_f z (br_t yy (zy_gr0 a2 a3 a4 hb (br_t rfl ⟨rfl, hU⟩)))
  · unfold wpY_startCompaction
    dsimp only
    exact br_f z (br_f (by rw [← hnl]; exact y) ⟨rfl, hU⟩)
end
section
/-! the constructors -/
theorem zl_at_of {a : Nat → Int32} {f : Nat → Nat} : ∀ {l : List Nat} {b : Nat}, (∀ i (h : i < l.length), a (b + i) = nI (f l[i])) → zl_At a b f l
  | [], b, _ => trivial
  | x :: l, b, h => ⟨h 0 (Nat.zero_lt_succ _), zl_at_of (fun i hi' => by
      have := h (i + 1) (Nat.succ_lt_succ hi')
      rw [show b + 1 + i = b + (i + 1) by omega]
      exact this)⟩
def zw_F : List Nat := (List.range 64).map (fun i => 63 - i)
theorem zw_Fl : zw_F.length = 64 := by unfold zw_F; rw [List.length_map, List.length_range]
theorem zw_Fn : zw_F.Nodup := by decide +kernel
theorem zw_F64 : ∀ s, s ∈ zw_F → s < 64 := by
  intro s hs
  obtain ⟨i, _, e⟩ := List.mem_map.mp hs
  omega
theorem zw_Fi {i : Nat} (h : i < zw_F.length) : zw_F[i] = 63 - i :=
  (List.getElem_map (fun i => 63 - i)).trans (congrArg (fun i => 63 - i) (List.getElem_range (by rw [zw_Fl] at h; rw [List.length_range]; exact h)))
/-- what a clamp gives -/
def zw_c (a b n : Nat) (x : Int32) : Prop := (a ≤ n ∧ n ≤ b) ∧ ((¬ nI a ≤ x ∧ n = a) ∨ (nI a ≤ x ∧ ¬ x ≤ nI b ∧ n = b) ∨ (nI a ≤ x ∧ x ≤ nI b ∧ x = nI n))
theorem zw_ex (a b : Nat) (hab : a ≤ b) (hb : b < 100) (x : Int32) : ∃ n, zw_c a b n x := by
  by_cases c : nI a ≤ x
  · by_cases d : x ≤ nI b
    · have h0 : ¬ x < 0 := fun z => absurd (Int32.lt_of_le_of_lt c z) (nI_pos (by omega))
      obtain ⟨n, n31, rfl⟩ := nI_of h0
      rw [nI_leI (by omega) n31] at c
      rw [nI_leI n31 (by omega)] at d
      exact ⟨n, ⟨c, d⟩, Or.inr (Or.inr ⟨nI_le c n31, nI_le d (by omega), rfl⟩)⟩
    · exact ⟨b, ⟨hab, Nat.le_refl b⟩, Or.inr (Or.inl ⟨c, d, rfl⟩)⟩
  · exact ⟨a, ⟨Nat.le_refl a, hab⟩, Or.inl ⟨c, rfl⟩⟩
/-- a clamp in two branches -/
theorem zw_br {P : Int32 → Prop} {a b n : Nat} {x : Int32} (h : zw_c a b n x) (hp : P (nI n)) : (nI a ≤ x → ((x ≤ nI b → P x) ∧ (¬ x ≤ nI b → P (nI b)))) ∧ (¬ nI a ≤ x → P (nI a)) := by
  rcases h.2 with ⟨c, e⟩ | ⟨c, d, e⟩ | ⟨c, d, e⟩
  · subst e; exact br_f c hp
  · subst e; exact br_t c (br_f d hp)
  · rw [e] at c d ⊢; exact br_t c (br_t d hp)
section
variable {xkc xml xhl xnl xla xfl xfc xhe xbc xjr xjl xjt xjo xjh xjs xic xsa xse xta xoc xgc : Int32} {rS rK rL rH rV rE rI rP fS bS tB tS fi bA sO sM iO iM iL iH iP iK jI jO gu oP : Nat → Int32}
theorem zw_X {post : Int32 → Prop} {a b n : Nat} {x : Int32} (h : zw_c a b n x) (hp : post (nI n)) : wpX_clamp post (xkc, xml, xhl, xnl, xla, xfl, xfc, xhe, xbc, xjr, xjl, xjt, xjo, xjh, xjs, xic, xsa, xse, xta, xoc, xgc, rS, rK, rL, rH, rV, rE, rI, rP, fS, bS, tB, tS, fi, bA, sO, sM, iO, iM, iL, iH, iP, iK, jI, jO, gu, oP) x (nI a) (nI b) := by
  unfold wpX_clamp
  dsimp only
  exact zw_br (P := post) h hp
theorem zw_l {post : SX → Prop} (h : ∀ fS' : Nat → Int32, (∀ j, j < 64 → fS' j = nI (63 - j)) → post (xkc, xml, xhl, xnl, xla, xfl, 64, xhe, xbc, xjr, xjl, xjt, xjo, xjh, xjs, xic, xsa, xse, xta, xoc, xgc, rS, rK, rL, rH, rV, rE, rI, rP, fS', bS, tB, tS, fi, bA, sO, sM, iO, iM, iL, iH, iP, iK, jI, jO, gu, oP)) : ∀ (d i : Nat) (fS : Nat → Int32), i + d = 64 → (∀ j, j < i → fS j = nI (63 - j)) → wX_init_257 post xkc xml xhl xnl xla xfl xfc xhe xbc xjr xjl xjt xjo xjh xjs xic xsa xse xta xoc xgc (d + 1) (nI i) rS rK rL rH rV rE rI rP fS bS tB tS fi bA sO sM iO iM iL iH iP iK jI jO gu oP := by
  intro d
  induction d with
  | zero =>
    intro i fS hd hf
    rw [wX_init_257]
    dsimp only
    exact br_t (nI_le (a := 64) (by omega) (by omega)) (h fS (fun j hj => hf j (by omega)))
  | succ d ih =>
    intro i fS hd hf
    rw [wX_init_257]
    dsimp only
    rw [nI_clamp (by omega : i < 2 ^ 31), show (63 : Int32) - nI i = nI (63 - i) from pk_sub (a := 63) (by omega)]
    refine br_f (nI_ge (b := 64) (by omega) (by omega)) ⟨vp_in_nI (by omega) (by omega), nm_e (nm_r (nI_1 i) (ih (i + 1) _ (by omega) (fun j hj => ?_)))⟩
    by_cases c : j = i
    · subst c; exact pk_us
    · rw [pk_un c]; exact hf j (by omega)
end
theorem i_vc0 (k0 : Int32) (k1 : Int32) (k2 : Int32) (k3 : Int32) : wpX_init (fun u => wpY_init (fun v => i_Rel 4 u v) k0 k1 k2 k3) k0 k1 k2 k3 := by
  obtain ⟨NK, hNK⟩ := zw_ex 4 24 (by omega) (by omega) k0
  obtain ⟨ML, hML⟩ := zw_ex 1 8 (by omega) (by omega) k1
  obtain ⟨HL, hHL⟩ := zw_ex 8 64 (by omega) (by omega) k2
  obtain ⟨NL, hNL⟩ := zw_ex 2 4 (by omega) (by omega) k3
  unfold wpX_init
  refine zw_X (a := 4) (b := 24) hNK ?_
  refine zw_X (a := 1) (b := 8) hML ?_
  refine zw_X (a := 8) (b := 64) hHL ?_
  refine zw_X (a := 2) (b := 4) hNL ⟨65, ?_⟩
  refine zw_l (fun fS' hf => ?_) 64 0 (fun _ => 0) (by omega) (fun j hj => by omega)
  unfold wpY_init
  refine zw_br (a := 4) (b := 24) (P := fun z => wY_init_154 (fun v => i_Rel 4 _ v) k1 k2 k3 z 0 0 0 0 0 0 0 0 0 0 0 0 0 (fun _ => 0) (fun _ => 0) (fun _ => 0) (fun _ => 0) (fun _ => 0) (fun _ => 0) (fun _ => 0) (fun _ => 0) (fun _ => 0) (fun _ => 0) (fun _ => 0) (fun _ => 0) (fun _ => 0) (fun _ => 0) (fun _ => 0) (fun _ => 0) (fun _ => 0)) hNK ?_
  unfold wY_init_154
  refine zw_br (a := 1) (b := 8) (P := fun z => wY_init_179 (fun v => i_Rel 4 _ v) k2 k3 z (nI NK) 0 0 0 0 0 0 0 0 0 0 0 0 (fun _ => 0) (fun _ => 0) (fun _ => 0) (fun _ => 0) (fun _ => 0) (fun _ => 0) (fun _ => 0) (fun _ => 0) (fun _ => 0) (fun _ => 0) (fun _ => 0) (fun _ => 0) (fun _ => 0) (fun _ => 0) (fun _ => 0) (fun _ => 0) (fun _ => 0)) hML ?_
  unfold wY_init_179
  refine zw_br (a := 8) (b := 64) (P := fun z => wY_init_206 (fun v => i_Rel 4 _ v) k3 z (nI NK) (nI ML) 0 0 0 0 0 0 0 0 0 0 0 (fun _ => 0) (fun _ => 0) (fun _ => 0) (fun _ => 0) (fun _ => 0) (fun _ => 0) (fun _ => 0) (fun _ => 0) (fun _ => 0) (fun _ => 0) (fun _ => 0) (fun _ => 0) (fun _ => 0) (fun _ => 0) (fun _ => 0) (fun _ => 0) (fun _ => 0)) hHL ?_
  unfold wY_init_206
  have hP : zp_P (fun _ => false) (fun _ => 0) [] zw_F 0 64 (fun _ => 0) fS' := by
    refine ⟨⟨trivial, rfl, List.Pairwise.nil, fun n => ⟨fun z => absurd z List.not_mem_nil, fun z => absurd z Bool.false_ne_true⟩⟩, ⟨zl_at_of (fun i hi' => ?_), by rw [zw_Fl]; rfl, zw_Fn, zw_F64, fun n hn => absurd hn Bool.false_ne_true⟩, by rw [zw_Fl, List.length_nil]⟩
    rw [zw_Fi hi', Nat.zero_add]
    rw [zw_Fl] at hi'
    exact hf i hi'
  have hT : zt_Tab (fun _ => 0) (fun _ => 0) (fun _ => 0) (fun _ => 0) (fun _ => []) (fun _ => 0) (fun _ => 0) (fun _ => 0) := fun t ht => ⟨trivial, rfl, by rw [List.length_nil]; omega, List.Pairwise.nil, fun k hk => ⟨fun z => absurd z (by rw [b_0]; exact Bool.false_ne_true), fun ⟨x, hx, _⟩ => absurd hx List.not_mem_nil⟩, fun x hx => absurd hx List.not_mem_nil⟩
  have hM : zt_Mem (fun _ => false) (fun _ => 0) (fun _ => 0) (fun _ => []) := fun t n => ⟨fun z => absurd z List.not_mem_nil, fun z => absurd z.1 Bool.false_ne_true⟩
  have hY : zy_H (fun _ => false) (fun _ => 0) (fun _ => 0) (fun _ => 0) (fun _ => 0) (fun _ => 0) (fun _ => 0) (fun _ => 0) (fun _ => 0) (fun _ => 0) (fun _ => 0) (fun _ => 0) (fun _ => 0) (fun _ => 0) (fun _ => 0) := ⟨fun n hn => absurd hn Bool.false_ne_true, fun n hn => absurd hn Bool.false_ne_true, fun n hn => absurd hn Bool.false_ne_true, fun i _ hs => absurd rfl hs, fun _ _ _ => rfl⟩
  refine zw_br (a := 2) (b := 4) (P := fun z => i_Rel 4 _ (nI NK, nI ML, nI HL, z, 0, 0, 0, 0, 0, 0, 0, 0, 0, (fun _ => 0), (fun _ => 0), (fun _ => 0), (fun _ => 0), (fun _ => 0), (fun _ => 0), (fun _ => 0), (fun _ => 0), (fun _ => 0), (fun _ => 0), (fun _ => 0), (fun _ => 0), (fun _ => 0), (fun _ => 0), (fun _ => 0), (fun _ => 0), (fun _ => 0))) hNL ?_
  exact zz_in (al := fun _ => false) (kd := fun _ => 0) (lo := fun _ => 0) (hi := fun _ => 0) (lv := fun _ => 0) (ip := fun _ => 0) (va := fun _ => 0) (sl := fun _ => 0) (pl := fun _ => 0) (L := fun _ => []) (BS := []) (FS := zw_F) (NK := NK) (ML := ML) (HL := HL) (NL := NL) (LA := 0) (FL := 0) ⟨⟨⟨rfl, rfl, hNK.1.1, hNK.1.2⟩, ⟨rfl, rfl, hML.1.1, hML.1.2⟩, ⟨rfl, rfl, hHL.1.2⟩, ⟨rfl, rfl, hNL.1.1, hNL.1.2⟩, ⟨rfl, rfl, by omega, by omega⟩, ⟨rfl, rfl, by omega⟩⟩, ⟨fun n hn => absurd hn Bool.false_ne_true, hY, fun n hn => absurd hn Bool.false_ne_true, hP, hT, hM, by rw [List.length_nil]; omega⟩, fun j hj => ⟨rfl, rfl, fun z => absurd rfl z⟩, fun j hj => ⟨⟨rfl, rfl, rfl, rfl, rfl⟩, fun z => absurd rfl z⟩, ⟨⟨rfl, rfl, rfl, rfl, rfl, rfl⟩, Or.inl ⟨rfl, rfl, fun n hn => absurd hn Bool.false_ne_true⟩⟩⟩
end
