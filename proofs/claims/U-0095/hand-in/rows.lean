section
theorem pk_us {f : Nat → Int32} {k : Nat} {x : Int32} : upd f k x k = x := if_pos rfl
theorem pk_un {f : Nat → Int32} {k j : Nat} {x : Int32} (h : j ≠ k) : upd f k x j = f j := if_neg h
theorem pk_sub {a b : Nat} (h : b ≤ a) : nI a - nI b = nI (a - b) := by
  obtain ⟨c, rfl⟩ : ∃ c, a = c + b := ⟨a - b, by omega⟩
  rw [← nI_add, Int32.add_sub_cancel, Nat.add_sub_cancel]
theorem pk_m1 (n : Nat) : nI (n + 1) + (-1) = nI n := by
  rw [← nI_1, Int32.add_assoc, show (1 : Int32) + (-1) = 0 from rfl, Int32.add_zero]
theorem pk_mul (a b : Nat) : nI a * nI b = nI (a * b) := (Int32.ofNat_mul a b).symm
theorem pk_div {a d : Nat} (ha : a < 2 ^ 31) (h0 : 0 < d) (hd : d < 2 ^ 31) : nI a / nI d = nI (a / d) := by
  apply Int32.toInt_inj.mp
  rw [lg_idiv_nonneg (by rw [nI_toInt ha]; omega) (by rw [nI_toInt hd]; omega), nI_toInt ha, nI_toInt hd, nI_toInt (Nat.lt_of_le_of_lt (Nat.div_le_self a d) ha)]
  first | rfl | exact (Int.natCast_ediv _ _).symm
theorem pk_ix (x : Int32) {n : Nat} (hn : n < 2 ^ 31) : x < 0 ∨ nI n ≤ x ∨ ∃ j : Nat, j < n ∧ x = nI j := by
  by_cases h : x < 0
  · exact Or.inl h
  · obtain ⟨j, hj, rfl⟩ := nI_of h
    by_cases h2 : j < n
    · exact Or.inr (Or.inr ⟨j, h2, rfl⟩)
    · exact Or.inr (Or.inl (nI_le (by omega) hj))
theorem pk_le {x y : Int32} {A B : Prop} (a b : Nat) (f : a ≤ b → A) (g : b < a → B) (hx : x = nI a := by rfl) (hy : y = nI b := by rfl) (ha : a < 2 ^ 31 := by omega) (hb : b < 2 ^ 31 := by omega) : (x ≤ y → A) ∧ (¬ x ≤ y → B) := by
  subst hx hy
  rw [nI_leI ha hb]
  exact ⟨f, fun z => g (by omega)⟩
theorem pk_lt {x y : Int32} {A B : Prop} (a b : Nat) (f : a < b → A) (g : b ≤ a → B) (hx : x = nI a := by rfl) (hy : y = nI b := by rfl) (ha : a < 2 ^ 31 := by omega) (hb : b < 2 ^ 31 := by omega) : (x < y → A) ∧ (¬ x < y → B) := by
  subst hx hy
  rw [nI_ltI ha hb]
  exact ⟨f, fun z => g (by omega)⟩
theorem pk_eq {x y : Int32} {A B : Prop} (a b : Nat) (f : a = b → A) (g : a ≠ b → B) (hx : x = nI a := by rfl) (hy : y = nI b := by rfl) (ha : a < 2 ^ 31 := by omega) (hb : b < 2 ^ 31 := by omega) : (x = y → A) ∧ (¬ x = y → B) := by
  subst hx hy
  rw [nI_eq ha hb]
  exact ⟨f, g⟩
theorem pk_in {x : Int32} (n N : Nat) (h : n < N) (hx : x = nI n := by rfl) (hN : N < 2 ^ 31 := by omega) : vp_in x N := by
  subst hx
  exact vp_in_nI h hN
theorem pk_cl {x : Int32} (n : Nat) (hx : x = nI n := by rfl) (h : n < 2 ^ 31 := by omega) : x.toNatClampNeg = n := by
  subst hx
  exact nI_clamp h
/-! own: booleans, literals, order -/
theorem hb_vb0 : vp_nar .boolean 0 = 0 := by decide
theorem hb_vb1 : vp_nar .boolean 1 = 1 := by decide
theorem hb_n1 : (-1 : Int32) < 0 := by decide
theorem hb_0n1 : ¬ (0 : Int32) ≤ -1 := by decide
theorem hb_inj {a b : Nat} (h : nI a = nI b) (ha : a < 2 ^ 31) (hb : b < 2 ^ 31) : a = b := (nI_eq ha hb).mp h
theorem hb_i32 {i : Nat} (h : i < 32) : vp_in (nI i) 32 := vp_in_nI h (by decide)
theorem hb_i64 {i : Nat} (h : i < 64) : vp_in (nI i) 64 := vp_in_nI h (by decide)
theorem hb_i8 {i : Nat} (h : i < 8) : vp_in (nI i) 8 := vp_in_nI h (by decide)
theorem hb_c32 {i : Nat} (h : i < 32) : (nI i).toNatClampNeg = i := nI_clamp (by omega)
theorem hb_c64 {i : Nat} (h : i < 64) : (nI i).toNatClampNeg = i := nI_clamp (by omega)
theorem hb_c8 {i : Nat} (h : i < 8) : (nI i).toNatClampNeg = i := nI_clamp (by omega)
theorem hb_g32 {i : Nat} (h : i < 32) : ¬ (32 : Int32) ≤ nI i := nI_ge (b := 32) h (by decide)
theorem hb_e32 : (32 : Int32) ≤ nI 32 := nI_le (a := 32) (b := 32) (by omega) (by decide)
theorem hb_g8 {i : Nat} (h : i < 8) : ¬ (8 : Int32) ≤ nI i := nI_ge (b := 8) h (by decide)
theorem hb_e8 : (8 : Int32) ≤ nI 8 := nI_le (a := 8) (b := 8) (by omega) (by decide)
theorem hb_d10 : ¬ (1 : Int32) = 0 := by decide
theorem hb_d20 : ¬ (2 : Int32) = 0 := by decide
theorem hb_d30 : ¬ (3 : Int32) = 0 := by decide
theorem hb_d21 : ¬ (2 : Int32) = 1 := by decide
theorem hb_d31 : ¬ (3 : Int32) = 1 := by decide
theorem hb_d32 : ¬ (3 : Int32) = 2 := by decide
theorem hb_d12 : ¬ (1 : Int32) = 2 := by decide
theorem hb_d01 : ¬ (0 : Int32) = 1 := by decide
theorem hb_d02 : ¬ (0 : Int32) = 2 := by decide
theorem hb_d03 : ¬ (0 : Int32) = 3 := by decide
theorem hb_d13 : ¬ (1 : Int32) = 3 := by decide
theorem hb_d23 : ¬ (2 : Int32) = 3 := by decide
theorem hb_neg {n : Nat} (h : n < 2 ^ 31) : ¬ nI n = -1 := fun e => nI_pos h (by rw [e]; exact hb_n1)
theorem hb_acc (a b : Nat) : a + 1 + b = a + (b + 1) := by omega
end
section
/-! the pure pictures -/
def hh_mad (t s m a : Int32) : Prop := (m = 1 ∧ a = t) ∨ (m = 2 ∧ a ≤ s)
def hh_opn (t s e b : Int32) : Prop := e = 0 ∨ (e = 1 ∧ ¬ b = t) ∨ (e = 2 ∧ ¬ b ≤ s)
def hh_vis (t s m a e b : Int32) : Prop := hh_mad t s m a ∧ hh_opn t s e b
def hh_ded (h m e b : Int32) : Prop := m = 3 ∨ (m = 2 ∧ e = 2 ∧ b ≤ h)
def hh_act (s : Nat) (ac : Nat → Int32) (x : Int32) : Prop := ∃ t, t < s ∧ x = nI t ∧ ¬ ac t = 0
def hh_leg (k v : Int32) : Prop := ¬ k < 1 ∧ ¬ 9999 < k ∧ ¬ v < 0 ∧ ¬ 9999 < v
def hh_liv (m : Int32) : Prop := m = 1 ∨ m = 2
def hh_e3 (m e : Int32) : Prop := hh_liv m → e = 0 ∨ e = 1 ∨ e = 2
/-- the least of a set of nonzero numbers, 0 for none -/
def hh_min (S : Int32 → Prop) (r : Int32) : Prop := (r = 0 ∧ ∀ x, ¬ S x) ∨ (S r ∧ ∀ x, S x → r ≤ x)
/-- the horizon -/
def hh_hor (ac sn : Nat → Int32) (ck r : Int32) : Prop := (∀ t, t < 8 → ¬ ac t = 0 → r ≤ sn t) ∧ (r = ck ∨ ∃ t, t < 8 ∧ ¬ ac t = 0 ∧ r = sn t) ∧ r ≤ ck
/-! versions: (pointer, tuple, place in the reference); chains: (key, root, place in the reference, versions) -/
abbrev hh_V : Type := Nat × Nat × Nat
abbrev hh_C : Type := Int32 × Nat × Nat × List hh_V
def hh_hz (z : Int32) : List hh_V → Int32
  | [] => z
  | v :: _ => nI v.1
def hh_sg (lt tn : Nat → Int32) (z : Int32) : List hh_V → Prop
  | [] => True
  | v :: M => lt v.1 = nI v.2.1 ∧ tn v.2.1 = hh_hz z M ∧ hh_sg lt tn z M
def hh_rt (ls lt : Nat → Int32) (r : Nat) : List hh_V → Prop
  | [] => ls r = 3
  | v :: M => (v.1 = r → ls r = 1) ∧ (¬ v.1 = r → ls r = 2 ∧ lt r = nI v.1) ∧ ∀ w ∈ M, ¬ w.1 = r
def hh_ps (r : Nat) (L : List hh_V) : List Nat := r :: (L.map fun v => v.1).filter fun q => decide (¬ q = r)
def hh_ch (ls lt tn : Nat → Int32) (c : hh_C) : Prop := hh_rt ls lt c.2.1 c.2.2.2 ∧ hh_sg lt tn (-1) c.2.2.2
def hh_st (f : Nat → Int32) : Nat → List Nat → Prop
  | _, [] => True
  | s, i :: F => f s = nI i ∧ hh_st f (s + 1) F
def hh_T (Cs : List hh_C) : List Nat := Cs.flatMap fun c => c.2.2.2.map fun v => v.2.1
def hh_P (Cs : List hh_C) : List Nat := Cs.flatMap fun c => hh_ps c.2.1 c.2.2.2
def hh_J (Cs : List hh_C) : List Nat := Cs.flatMap fun c => c.2.2.2.map fun v => v.2.2
def hh_Q (Cs : List hh_C) : List Nat := Cs.map fun c => c.2.2.1
def hh_ix (Cs : List hh_C) (ik ir : Nat → Int32) : Prop := ∀ p c, Cs[p]? = some c → ik p = c.1 ∧ ir p = nI c.2.1
/-- the two stacks of free numbers: X the tuples in use, Y the pointers in use -/
def hh_sk (X Y F G : List Nat) (sd lu : Int32) (tf lf : Nat → Int32) : Prop :=
  (∃ S, sd = nI S ∧ S + F.length = 32 ∧ hh_st tf S F) ∧ (∃ U, lu = nI U ∧ U + G.length = 64 ∧ hh_st lf U G) ∧ (X ++ F).Perm (List.range 32) ∧ (Y ++ G).Perm (List.range 64)
/-- the component's heap -/
def hh_hp (Cs : List hh_C) (F G : List Nat) (sd lu iz : Int32) (tn tf ls lt lf ik ir : Nat → Int32) : Prop :=
  iz = nI Cs.length ∧ Cs.length ≤ 32 ∧ hh_ix Cs ik ir ∧ Cs.Pairwise (fun c d => c.1 ≤ d.1) ∧ (∀ c ∈ Cs, hh_ch ls lt tn c)
    ∧ hh_sk (hh_T Cs) (hh_P Cs) F G sd lu tf lf
/-- ended (e, b) before made (m, a) -/
def hh_bf (sn : Nat → Int32) (e b m a : Int32) : Prop :=
  (e = 2 ∧ m = 2 ∧ b ≤ a) ∨ (e = 2 ∧ m = 1 ∧ b ≤ sn a.toNatClampNeg) ∨ (e = 1 ∧ m = 1 ∧ b = a)
def hh_mv1 (ac : Nat → Int32) (m a e b : Int32) : Prop :=
  (m = 1 → hh_act 8 ac a ∧ (e = 0 ∨ (e = 1 ∧ b = a))) ∧ (m = 2 → e = 0 ∨ e = 1 ∨ e = 2)
def hh_mv (ac sn tr ms mn es en : Nat → Int32) : Prop :=
  (∀ i, i < 32 → hh_mv1 ac (ms i) (mn i) (es i) (en i))
    ∧ ∀ i k, i < 32 → k < 32 → ¬ i = k → hh_liv (ms i) → hh_liv (ms k) → tr i = tr k → hh_bf sn (es i) (en i) (ms k) (mn k) ∨ hh_bf sn (es k) (en k) (ms i) (mn i)
/-- one version on both sides -/
def hh_vr (l : Nat) (tr tk tv ms mn es en vc vr vk vv mk mm ek em : Nat → Int32) (c : hh_C) (v : hh_V) : Prop :=
  (tk v.2.1 = c.1 ∧ vk v.2.2 = c.1 ∧ vc v.2.2 = nI c.2.2.1 ∧ vr v.2.2 = tr v.2.1 ∧ vv v.2.2 = tv v.2.1)
    ∧ (mk v.2.2 = ms v.2.1 ∧ mm v.2.2 = mn v.2.1 ∧ (hh_liv (ms v.2.1) → ek v.2.2 = es v.2.1 ∧ (¬ es v.2.1 = 0 → em v.2.2 = en v.2.1)))
    ∧ (hh_liv (ms v.2.1) ∨ ms v.2.1 = 3) ∧ 1 ≤ tr v.2.1 ∧ tr v.2.1 ≤ nI l
def hh_ver (l : Nat) (tr tk tv ms mn es en vc vr vk vv mk mm ek em : Nat → Int32) (Cs : List hh_C) : Prop :=
  ∀ c ∈ Cs, 1 ≤ c.1 ∧ (∃ row, ∀ v ∈ c.2.2.2, tr v.2.1 = row) ∧ ∀ v ∈ c.2.2.2, hh_vr l tr tk tv ms mn es en vc vr vk vv mk mm ek em c v
/-- the reference's places -/
def hh_y (Cs : List hh_C) (st ex kk : Nat → Int32) : Prop :=
  (hh_J Cs).Nodup ∧ (∀ j, j ∈ hh_J Cs ↔ j < 32 ∧ ¬ st j = 0) ∧ (hh_Q Cs).Nodup ∧ (∀ q, q ∈ hh_Q Cs ↔ q < 32 ∧ ¬ ex q = 0) ∧ ∀ c ∈ Cs, kk c.2.2.1 = c.1
def hh_num (k s V C c l : Nat) (sc vl cl ck lr : Int32) : Prop :=
  sc = nI s ∧ 1 ≤ s ∧ s ≤ 8 ∧ vl = nI V ∧ V ≤ 32 ∧ cl = nI C ∧ C ≤ 32 ∧ ck = nI c ∧ c ≤ k ∧ lr = nI l ∧ l ≤ k
def hh_tx (s c : Nat) (ac sn : Nat → Int32) : Prop := (∀ t, s ≤ t → t < 8 → ac t = 0) ∧ ∀ t, t < 8 → sn t ≤ nI c
def hh_fr (F : List Nat) (ms : Nat → Int32) : Prop := ∀ i ∈ F, ms i = 0
/-- a proposition as a boolean -/
noncomputable def hh_b (P : Prop) : Bool := @decide P (Classical.propDecidable P)
theorem hh_bt {P : Prop} : hh_b P = true ↔ P := @decide_eq_true_iff P (Classical.propDecidable P)
theorem hh_bf' {P : Prop} : ¬ P → ¬ hh_b P = true := fun h z => h (hh_bt.mp z)
def hh_su (f : hh_C → Nat) (B : List hh_C) : Nat := (B.map f).sum
theorem hh_su_c (f : hh_C → Nat) (c : hh_C) (B : List hh_C) : hh_su f (c :: B) = f c + hh_su f B := by simp [hh_su]
theorem hh_su_a (f : hh_C → Nat) (A B : List hh_C) : hh_su f (A ++ B) = hh_su f A + hh_su f B := by simp [hh_su]
theorem hh_su_0 {f : hh_C → Nat} {B : List hh_C} (h : ∀ c ∈ B, f c = 0) : hh_su f B = 0 := by
  induction B with
  | nil => rfl
  | cons c B ih => rw [hh_su_c, h c (List.mem_cons_self), ih fun d hd => h d (List.mem_cons_of_mem _ hd)]
def hh_mt (key : Int32) (c : hh_C) : Prop := key = 0 ∨ c.1 = key
/-- what a chain adds to a count over its versions -/
noncomputable def hh_f (key : Int32) (q : hh_V → Prop) (c : hh_C) : Nat := if hh_b (hh_mt key c) then c.2.2.2.countP (fun v => hh_b (q v)) else 0
/-- what a chain adds to a count of chains -/
noncomputable def hh_g (key oe : Int32) (c : hh_C) : Nat := if hh_b (hh_mt key c ∧ (oe = 0 ∨ c.2.2.2 = [])) then 1 else 0
theorem hh_f1 {key : Int32} {q : hh_V → Prop} {c : hh_C} (h : hh_mt key c) : hh_f key q c = c.2.2.2.countP (fun v => hh_b (q v)) := if_pos (hh_bt.mpr h)
theorem hh_f0 {key : Int32} {q : hh_V → Prop} {c : hh_C} (h : ¬ hh_mt key c) : hh_f key q c = 0 := if_neg (hh_bf' h)
theorem hh_g1 {key oe : Int32} {c : hh_C} (h : hh_mt key c ∧ (oe = 0 ∨ c.2.2.2 = [])) : hh_g key oe c = 1 := if_pos (hh_bt.mpr h)
theorem hh_g0 {key oe : Int32} {c : hh_C} (h : ¬ (hh_mt key c ∧ (oe = 0 ∨ c.2.2.2 = []))) : hh_g key oe c = 0 := if_neg (hh_bf' h)
theorem hh_hor_u {ac sn : Nat → Int32} {ck r r' : Int32} (h : hh_hor ac sn ck r) (h' : hh_hor ac sn ck r') : r' = r := by
  obtain ⟨a, b, c⟩ := h
  obtain ⟨a', b', c'⟩ := h'
  apply Int32.le_antisymm
  · rcases b with rfl | ⟨t, ht, hn, rfl⟩
    · exact c'
    · exact a' t ht hn
  · rcases b' with rfl | ⟨t, ht, hn, rfl⟩
    · exact c
    · exact a t ht hn
end
section
section
variable {u0 u1 u2 u3 u4 u5 u6 u7 sc vl cl ck lr sd lu iz : Int32} {ac sn tr tk tv ms mn es en tn tf ls lt lf ik ir : Nat → Int32}
theorem xl_act {s : Nat} (hs : sc = nI s) (h8 : s ≤ 8) {p0 : Int32} {post : Int32 → Prop} (h1 : hh_act s ac p0 → post 1) (h0 : ¬ hh_act s ac p0 → post 0) : wpX_isActive post (u0, u1, u2, u3, u4, u5, u6, u7, sc, vl, cl, ck, lr, sd, lu, iz, ac, sn, tr, tk, tv, ms, mn, es, en, tn, tf, ls, lt, lf, ik, ir) p0 := by
  subst hs
  refine br_c (fun hn => h0 ?_) fun hp => ?_
  · rintro ⟨t, ht, rfl, _⟩
    exact nI_pos (by omega) hn
  · obtain ⟨t, ht, rfl⟩ := nI_of hp
    refine br_c (fun hle => h0 ?_) fun hnl => ?_
    · rintro ⟨t', ht', e, _⟩
      have e2 := hb_inj e (by omega) (by omega)
      rw [nI_leI (by omega) (by omega)] at hle
      omega
    · rw [nI_leI (by omega) (by omega)] at hnl
      have ht8 : t < 8 := by omega
      rw [hb_c8 ht8]
      refine ⟨hb_i8 ht8, br_c (fun e => h0 ?_) fun ne => h1 ⟨t, by omega, rfl, ne⟩⟩
      rintro ⟨t', ht', e', ne⟩
      cases hb_inj e' (by omega) (by omega)
      exact ne e
theorem xl_leg {k v : Int32} {post : Int32 → Prop} (h1 : hh_leg k v → post 1) (h0 : ¬ hh_leg k v → post 0) : wpX_isLegal post (u0, u1, u2, u3, u4, u5, u6, u7, sc, vl, cl, ck, lr, sd, lu, iz, ac, sn, tr, tk, tv, ms, mn, es, en, tn, tf, ls, lt, lf, ik, ir) k v :=
  br_c (fun a => h0 fun z => z.1 a) fun a => br_c (fun b => h0 fun z => z.2.1 b) fun b => br_c (fun c => h0 fun z => z.2.2.1 c) fun c =>
    br_c (fun d => h0 fun z => z.2.2.2 d) fun d => h1 ⟨a, b, c, d⟩
theorem hh_opn_0 {t s e b : Int32} (h : e = 1) (hb : b = t) : ¬ hh_opn t s e b := by
  subst h
  rintro (h | ⟨_, h⟩ | ⟨h, _⟩)
  · exact hb_d10 h
  · exact h hb
  · exact hb_d12 h
theorem hh_opn_2 {t s e b : Int32} (h : e = 2) (hb : b ≤ s) : ¬ hh_opn t s e b := by
  subst h
  rintro (h | ⟨h, _⟩ | ⟨_, h⟩)
  · exact hb_d20 h
  · exact hb_d21 h
  · exact h hb
theorem hh_mad_1 {t s m a : Int32} (h : m = 1) (ha : ¬ a = t) : ¬ hh_mad t s m a := by
  subst h
  rintro (⟨_, h⟩ | ⟨h, _⟩)
  · exact ha h
  · exact hb_d12 h
theorem hh_mad_2 {t s m a : Int32} (h : m = 2) (ha : ¬ a ≤ s) : ¬ hh_mad t s m a := by
  subst h
  rintro (⟨h, _⟩ | ⟨_, h⟩)
  · exact hb_d21 h
  · exact ha h
theorem hh_mad_n {t s m a : Int32} (h : ¬ m = 1) (h2 : ¬ m = 2) : ¬ hh_mad t s m a := by
  rintro (⟨e, _⟩ | ⟨e, _⟩)
  · exact h e
  · exact h2 e
theorem hh_mad_l {t s m a : Int32} (h : hh_mad t s m a) : hh_liv m := by
  rcases h with ⟨e, _⟩ | ⟨e, _⟩
  · exact Or.inl e
  · exact Or.inr e
theorem xl_v62 {i t : Nat} (hi : i < 32) (ht : t < 8) (he : es i = 0 ∨ es i = 1 ∨ es i = 2) {post : Int32 → Prop}
    (h1 : hh_opn (nI t) (sn t) (es i) (en i) → post 1) (h0 : ¬ hh_opn (nI t) (sn t) (es i) (en i) → post 0) : wX_isVisible_62 post (nI i) (nI t) 1 u0 u1 u2 u3 u4 u5 u6 u7 sc vl cl ck lr sd lu iz ac sn tr tk tv ms mn es en tn tf ls lt lf ik ir := by
  unfold wX_isVisible_62
  rw [hb_c32 hi, hb_c8 ht]
  refine br_f hb_d10 ⟨hb_i32 hi, br_c (fun e => ⟨rfl, h1 (Or.inl e)⟩) fun n0 => ⟨hb_i32 hi, br_c (fun e1 => ⟨hb_i32 hi, br_c (fun eb => h0 (hh_opn_0 e1 eb)) fun nb => h1 (Or.inr (Or.inl ⟨e1, nb⟩))⟩) fun n1 => ⟨hb_i32 hi, hb_i8 ht, ?_⟩⟩⟩
  have e2 : es i = 2 := by
    rcases he with e | e | e
    · exact absurd e n0
    · exact absurd e n1
    · exact e
  exact br_c (fun hl => h0 (hh_opn_2 e2 hl)) fun hl => h1 (Or.inr (Or.inr ⟨e2, hl⟩))
theorem xl_vis {i t : Nat} (hi : i < 32) (ht : t < 8) (he : hh_e3 (ms i) (es i)) {post : Int32 → Prop}
    (h1 : hh_vis (nI t) (sn t) (ms i) (mn i) (es i) (en i) → post 1) (h0 : ¬ hh_vis (nI t) (sn t) (ms i) (mn i) (es i) (en i) → post 0) : wpX_isVisible post (u0, u1, u2, u3, u4, u5, u6, u7, sc, vl, cl, ck, lr, sd, lu, iz, ac, sn, tr, tk, tv, ms, mn, es, en, tn, tf, ls, lt, lf, ik, ir) (nI i) (nI t) := by
  have k0 : ¬ hh_mad (nI t) (sn t) (ms i) (mn i) → post 0 := fun z => h0 fun y => z y.1
  have k1 : hh_mad (nI t) (sn t) (ms i) (mn i) → wX_isVisible_62 post (nI i) (nI t) 1 u0 u1 u2 u3 u4 u5 u6 u7 sc vl cl ck lr sd lu iz ac sn tr tk tv ms mn es en tn tf ls lt lf ik ir := fun z =>
    xl_v62 hi ht (he (hh_mad_l z)) (fun y => h1 ⟨z, y⟩) (fun y => h0 fun w => y w.2)
  unfold wpX_isVisible
  dsimp only
  rw [hb_c32 hi, hb_c8 ht]
  refine ⟨hb_i32 hi, br_c (fun e1 => ⟨hb_i32 hi, br_c (fun e => ?_) fun e => ?_⟩) fun n1 => ⟨hb_i32 hi, br_c (fun e2 => ⟨hb_i32 hi, hb_i8 ht, br_c (fun e => ?_) fun e => ?_⟩) fun n2 => ?_⟩⟩
  · exact k1 (Or.inl ⟨e1, e⟩)
  · exact br_t rfl ⟨rfl, k0 (hh_mad_1 e1 e)⟩
  · exact br_t rfl ⟨rfl, k0 (hh_mad_2 e2 (Int32.not_le.mpr e))⟩
  · exact k1 (Or.inr ⟨e2, Int32.not_lt.mp e⟩)
  · exact br_t rfl ⟨rfl, k0 (hh_mad_n n1 n2)⟩
theorem xl_ded {i : Nat} (hi : i < 32) {h : Int32} {post : Int32 → Prop} (h1 : hh_ded h (ms i) (es i) (en i) → post 1) (h0 : ¬ hh_ded h (ms i) (es i) (en i) → post 0) : wpX_isDead post (u0, u1, u2, u3, u4, u5, u6, u7, sc, vl, cl, ck, lr, sd, lu, iz, ac, sn, tr, tk, tv, ms, mn, es, en, tn, tf, ls, lt, lf, ik, ir) (nI i) h := by
  unfold wpX_isDead
  dsimp only
  rw [hb_c32 hi]
  refine ⟨hb_i32 hi, br_c (fun e3 => h1 (Or.inl e3)) fun n3 => ⟨hb_i32 hi, br_c (fun e2 => ⟨hb_i32 hi, br_c (fun d2 => ⟨hb_i32 hi, br_c (fun l => h0 ?_) fun l => h1 (Or.inr ⟨e2, d2, Int32.not_lt.mp l⟩)⟩) fun d2 => h0 ?_⟩) fun n2 => h0 ?_⟩⟩
  · rintro (z | ⟨_, _, z⟩)
    · exact n3 z
    · exact Int32.not_le.mpr l z
  · rintro (z | ⟨_, z, _⟩)
    · exact n3 z
    · exact d2 z
  · rintro (z | ⟨z, _, _⟩)
    · exact n3 z
    · exact n2 z
theorem xl_vt {t : Nat} (ht : t < 8) {row : Int32} (he : ∀ i, i < 32 → hh_e3 (ms i) (es i)) {post : Int32 → Prop}
    (hs : ∀ i, i < 32 → tr i = row → hh_vis (nI t) (sn t) (ms i) (mn i) (es i) (en i) → post (nI i))
    (hn : (∀ i, i < 32 → tr i = row → ¬ hh_vis (nI t) (sn t) (ms i) (mn i) (es i) (en i)) → post (-1)) :
    ∀ d i, i + d = 32 → (∀ k, k < i → tr k = row → ¬ hh_vis (nI t) (sn t) (ms k) (mn k) (es k) (en k)) → wX_visibleTuple_2 post (nI t) row u0 u1 u2 u3 u4 u5 u6 u7 sc vl cl ck lr sd lu iz ac sn tr tk tv ms mn es en tn tf ls lt lf ik ir (d + 1) (nI i) := by
  intro d
  induction d with
  | zero =>
    intro i hi hk
    obtain rfl : i = 32 := by omega
    exact br_t hb_e32 (hn hk)
  | succ d ih =>
    intro i hi hk
    have hi' : i < 32 := by omega
    rw [wX_visibleTuple_2]
    dsimp only
    rw [hb_c32 hi', nI_1 i]
    have next : ¬ (tr i = row ∧ hh_vis (nI t) (sn t) (ms i) (mn i) (es i) (en i)) → wX_visibleTuple_2 post (nI t) row u0 u1 u2 u3 u4 u5 u6 u7 sc vl cl ck lr sd lu iz ac sn tr tk tv ms mn es en tn tf ls lt lf ik ir (d + 1) (nI (i + 1)) := fun z =>
      ih (i + 1) (by omega) fun k hk' e1 e2 => by
        rcases Nat.lt_or_ge k i with h | h
        · exact hk k h e1 e2
        · obtain rfl : k = i := by omega
          exact z ⟨e1, e2⟩
    refine br_f (hb_g32 hi') ⟨hb_i32 hi', br_c (fun e => ?_) fun e => nm_e (next fun z => e z.1)⟩
    exact xl_vis hi' ht (he i hi') (fun z => br_f hb_d10 (hs i hi' e z)) fun z => br_t rfl (nm_e (next fun y => z y.2))
theorem xl_visTup {t : Nat} (ht : t < 8) {row : Int32} (he : ∀ i, i < 32 → hh_e3 (ms i) (es i)) {post : Int32 → Prop}
    (hs : ∀ i, i < 32 → tr i = row → hh_vis (nI t) (sn t) (ms i) (mn i) (es i) (en i) → post (nI i))
    (hn : (∀ i, i < 32 → tr i = row → ¬ hh_vis (nI t) (sn t) (ms i) (mn i) (es i) (en i)) → post (-1)) : wpX_visibleTuple post (u0, u1, u2, u3, u4, u5, u6, u7, sc, vl, cl, ck, lr, sd, lu, iz, ac, sn, tr, tk, tv, ms, mn, es, en, tn, tf, ls, lt, lf, ik, ir) (nI t) row :=
  ⟨33, xl_vt ht he hs hn 32 0 rfl fun k hk => absurd hk (Nat.not_lt_zero k)⟩
/-! least elements -/
theorem hm_same {S S' : Int32 → Prop} {r : Int32} (h : hh_min S r) (e : ∀ x, S' x ↔ S x) : hh_min S' r := by
  rcases h with ⟨h0, h⟩ | ⟨h0, h⟩
  · exact Or.inl ⟨h0, fun x hx => h x ((e x).mp hx)⟩
  · exact Or.inr ⟨(e r).mpr h0, fun x hx => h x ((e x).mp hx)⟩
theorem hm_uniq {S S' : Int32 → Prop} {r r' : Int32} (h : hh_min S r) (h' : hh_min S' r') (e : ∀ x, S x ↔ S' x) : r' = r := by
  rcases h with ⟨h0, h⟩ | ⟨h0, h⟩
  · rcases h' with ⟨g0, g⟩ | ⟨g0, g⟩
    · rw [h0, g0]
    · exact absurd ((e r').mpr g0) (h r')
  · rcases h' with ⟨g0, g⟩ | ⟨g0, g⟩
    · exact absurd ((e r).mp h0) (g r)
    · exact Int32.le_antisymm (g r ((e r).mp h0)) (h r' ((e r').mpr g0))
theorem hm_0 {S S' : Int32 → Prop} {x0 : Int32} (h : hh_min S 0) (hz : ¬ S 0) (e : ∀ x, S' x ↔ S x ∨ x = x0) : hh_min S' x0 := by
  rcases h with ⟨_, h⟩ | ⟨h0, _⟩
  · refine Or.inr ⟨(e x0).mpr (Or.inr rfl), fun x hx => ?_⟩
    rcases (e x).mp hx with z | z
    · exact absurd z (h x)
    · rw [z]; exact Int32.le_refl _
  · exact absurd h0 hz
theorem hm_le {S S' : Int32 → Prop} {r x0 : Int32} (h : hh_min S r) (hr : ¬ r = 0) (hl : r ≤ x0) (e : ∀ x, S' x ↔ S x ∨ x = x0) : hh_min S' r := by
  rcases h with ⟨h0, _⟩ | ⟨h0, h⟩
  · exact absurd h0 hr
  · refine Or.inr ⟨(e r).mpr (Or.inl h0), fun x hx => ?_⟩
    rcases (e x).mp hx with z | z
    · exact h x z
    · rw [z]; exact hl
theorem hm_nl {S S' : Int32 → Prop} {r x0 : Int32} (h : hh_min S r) (hr : ¬ r = 0) (hl : ¬ r ≤ x0) (e : ∀ x, S' x ↔ S x ∨ x = x0) : hh_min S' x0 := by
  rcases h with ⟨h0, _⟩ | ⟨h0, h⟩
  · exact absurd h0 hr
  · refine Or.inr ⟨(e x0).mpr (Or.inr rfl), fun x hx => ?_⟩
    rcases (e x).mp hx with z | z
    · exact Int32.le_trans (Int32.le_of_lt (Int32.not_le.mp hl)) (h x z)
    · rw [z]; exact Int32.le_refl _
theorem xl_less {S S' : Int32 → Prop} {r x0 : Int32} (h : hh_min S r) (hz : ¬ S 0) (e : ∀ x, S' x ↔ S x ∨ x = x0) {post : Int32 → Prop} (hp : ∀ r', hh_min S' r' → post r') : wpX_lesserRow post (u0, u1, u2, u3, u4, u5, u6, u7, sc, vl, cl, ck, lr, sd, lu, iz, ac, sn, tr, tk, tv, ms, mn, es, en, tn, tf, ls, lt, lf, ik, ir) r x0 :=
  br_c (fun e0 => hp _ (hm_0 (e0 ▸ h) hz e)) fun n0 => br_c (fun hl => hp _ (hm_le h n0 hl e)) fun hl => hp _ (hm_nl h n0 hl e)
theorem xl_scan {t : Nat} (ht : t < 8) {aft : Int32} (he : ∀ i, i < 32 → hh_e3 (ms i) (es i)) (h1 : ∀ i, i < 32 → hh_liv (ms i) → ¬ tr i = 0) {post : Int32 → Prop}
    (hp : ∀ r, hh_min (fun x => ∃ i, i < 32 ∧ hh_vis (nI t) (sn t) (ms i) (mn i) (es i) (en i) ∧ ¬ tr i ≤ aft ∧ x = tr i) r → post r) :
    ∀ d i r, i + d = 32 → hh_min (fun x => ∃ k, k < i ∧ hh_vis (nI t) (sn t) (ms k) (mn k) (es k) (en k) ∧ ¬ tr k ≤ aft ∧ x = tr k) r → wX_scan_15 post (nI t) aft u0 u1 u2 u3 u4 u5 u6 u7 sc vl cl ck lr sd lu iz ac sn tr tk tv ms mn es en tn tf ls lt lf ik ir (d + 1) r (nI i) := by
  intro d
  induction d with
  | zero =>
    intro i r hi hr
    obtain rfl : i = 32 := by omega
    exact br_t hb_e32 (hp r hr)
  | succ d ih =>
    intro i r hi hr
    have hi' : i < 32 := by omega
    rw [wX_scan_15]
    dsimp only
    rw [hb_c32 hi', nI_1 i]
    have same : ¬ (hh_vis (nI t) (sn t) (ms i) (mn i) (es i) (en i) ∧ ¬ tr i ≤ aft) → wX_scan_15 post (nI t) aft u0 u1 u2 u3 u4 u5 u6 u7 sc vl cl ck lr sd lu iz ac sn tr tk tv ms mn es en tn tf ls lt lf ik ir (d + 1) r (nI (i + 1)) := fun z =>
      ih (i + 1) r (by omega) (hm_same hr fun x => ⟨fun ⟨k, hk, a, b, c⟩ => ⟨k, by
        rcases Nat.lt_or_ge k i with h | h
        · exact h
        · obtain rfl : k = i := by omega
          exact absurd ⟨a, b⟩ z, a, b, c⟩, fun ⟨k, hk, a, b, c⟩ => ⟨k, by omega, a, b, c⟩⟩)
    refine br_f (hb_g32 hi') (xl_vis hi' ht (he i hi') (fun z => br_f hb_d10 ⟨hb_i32 hi', br_c (fun l => nm_e (same fun y => y.2 l)) fun l => ⟨hb_i32 hi', ?_⟩⟩) fun z => br_t rfl (nm_e (same fun y => z y.1)))
    refine xl_less hr ?_ (S' := fun x => ∃ k, k < i + 1 ∧ hh_vis (nI t) (sn t) (ms k) (mn k) (es k) (en k) ∧ ¬ tr k ≤ aft ∧ x = tr k) (fun x => ⟨?_, ?_⟩) fun r' hr' => nm_e (ih (i + 1) r' (by omega) hr')
    · rintro ⟨k, hk, a, _, c⟩
      exact h1 k (by omega) (hh_mad_l a.1) c.symm
    · rintro ⟨k, hk, a, b, c⟩
      rcases Nat.lt_or_ge k i with h | h
      · exact Or.inl ⟨k, h, a, b, c⟩
      · obtain rfl : k = i := by omega
        exact Or.inr c
    · rintro (⟨k, hk, a, b, c⟩ | c)
      · exact ⟨k, by omega, a, b, c⟩
      · exact ⟨i, by omega, z, l, c⟩
theorem xl_hold {row : Int32} {post : Int32 → Prop}
    (hs : ∀ i, i < 32 → ¬ ms i = 0 → ¬ ms i = 3 → tr i = row → (ms i = 1 → post (mn i)) ∧ (¬ ms i = 1 → es i = 1 → post (en i)))
    (hn : (∀ i, i < 32 → ¬ ms i = 0 → ¬ ms i = 3 → tr i = row → ¬ ms i = 1 ∧ ¬ es i = 1) → post (-1)) :
    ∀ d i, i + d = 32 → (∀ k, k < i → ¬ ms k = 0 → ¬ ms k = 3 → tr k = row → ¬ ms k = 1 ∧ ¬ es k = 1) → wX_holder_2 post row u0 u1 u2 u3 u4 u5 u6 u7 sc vl cl ck lr sd lu iz ac sn tr tk tv ms mn es en tn tf ls lt lf ik ir (d + 1) (nI i) := by
  intro d
  induction d with
  | zero =>
    intro i hi hk
    obtain rfl : i = 32 := by omega
    exact br_t hb_e32 (hn hk)
  | succ d ih =>
    intro i hi hk
    have hi' : i < 32 := by omega
    have next : (¬ ms i = 0 → ¬ ms i = 3 → tr i = row → ¬ ms i = 1 ∧ ¬ es i = 1) → wX_holder_2 post row u0 u1 u2 u3 u4 u5 u6 u7 sc vl cl ck lr sd lu iz ac sn tr tk tv ms mn es en tn tf ls lt lf ik ir (d + 1) (nI (i + 1)) := fun z =>
      ih (i + 1) (by omega) fun k hk' => by
        rcases Nat.lt_or_ge k i with h | h
        · exact hk k h
        · obtain rfl : k = i := by omega
          exact z
    rw [wX_holder_2]
    dsimp only
    unfold wX_holder_31 wX_holder_32
    rw [hb_c32 hi', nI_1 i]
    refine br_f (hb_g32 hi') ⟨hb_i32 hi', br_c (fun e => br_t rfl (nm_e (next fun z => absurd e z))) fun n0 => ⟨hb_i32 hi', br_c (fun e => br_t rfl (nm_e (next fun _ z => absurd e z))) fun n3 =>
      br_f hb_d10 ⟨hb_i32 hi', br_c (fun er => ⟨hb_i32 hi', br_c (fun e1 => ⟨hb_i32 hi', (hs i hi' n0 n3 er).1 e1⟩) fun n1 => ⟨hb_i32 hi', br_c (fun d1 => ⟨hb_i32 hi', (hs i hi' n0 n3 er).2 n1 d1⟩) fun nd => nm_e (next fun _ _ _ => ⟨n1, nd⟩)⟩⟩) fun nr => nm_e (next fun _ _ z => absurd z nr)⟩⟩⟩
end
end
section
/-! facts of a chain for reading it -/
def hh_rd (ls lt tn : Nat → Int32) (c : hh_C) : Prop :=
  c.2.1 < 64 ∧ hh_ch ls lt tn c ∧ c.2.2.2.length ≤ 32 ∧ ∀ v ∈ c.2.2.2, v.1 < 64 ∧ v.2.1 < 32
def hh_be (past key x : Int32) : Prop := (past = 0 ∧ ¬ key ≤ x) ∨ (¬ past = 0 ∧ ¬ key < x)
theorem hh_be_mono {past key x y : Int32} (h : x ≤ y) (hy : hh_be past key y) : hh_be past key x := by
  rcases hy with ⟨a, b⟩ | ⟨a, b⟩
  · exact Or.inl ⟨a, fun z => b (Int32.le_trans z h)⟩
  · exact Or.inr ⟨a, fun z => b (Int32.lt_of_lt_of_le z h)⟩
section
variable {u0 u1 u2 u3 u4 u5 u6 u7 sc vl cl ck lr sd lu iz : Int32} {ac sn tr tk tv ms mn es en tn tf ls lt lf ik ir : Nat → Int32}
theorem xl_fp {r : Nat} {L : List hh_V} (hr : r < 64) (h : hh_rt ls lt r L) {post : Int32 → Prop} (hp : post (hh_hz (-1) L)) : wpX_firstPointer post (u0, u1, u2, u3, u4, u5, u6, u7, sc, vl, cl, ck, lr, sd, lu, iz, ac, sn, tr, tk, tv, ms, mn, es, en, tn, tf, ls, lt, lf, ik, ir) (nI r) := by
  unfold wpX_firstPointer
  dsimp only
  rw [hb_c64 hr]
  cases L with
  | nil =>
    have e : ls r = 3 := h
    exact ⟨hb_i64 hr, br_f (by rw [e]; exact hb_d31) ⟨hb_i64 hr, br_f (by rw [e]; exact hb_d32) hp⟩⟩
  | cons v M =>
    obtain ⟨h1, h2, _⟩ := h
    have hp' : post (nI v.1) := hp
    by_cases e : v.1 = r
    · rw [e] at hp'
      exact ⟨hb_i64 hr, br_t (h1 e) hp'⟩
    · obtain ⟨a, b⟩ := h2 e
      exact ⟨hb_i64 hr, br_f (by rw [a]; exact hb_d21) ⟨hb_i64 hr, br_t a ⟨hb_i64 hr, by rw [b]; exact hp'⟩⟩⟩
theorem xl_vc9 {t : Nat} (ht : t < 8) {post : Int32 → Prop} (he : ∀ i, i < 32 → hh_e3 (ms i) (es i)) : ∀ (L : List hh_V) (k n : Nat), k + L.length ≤ 32 → L.length < n → hh_sg lt tn (-1) L → (∀ v ∈ L, v.1 < 64 ∧ v.2.1 < 32) →
    (∀ v ∈ L, hh_vis (nI t) (sn t) (ms v.2.1) (mn v.2.1) (es v.2.1) (en v.2.1) → post (nI v.2.1)) →
    ((∀ v ∈ L, ¬ hh_vis (nI t) (sn t) (ms v.2.1) (mn v.2.1) (es v.2.1) (en v.2.1)) → post (-1)) →
    wX_visibleInChain_9 post (nI t) u0 u1 u2 u3 u4 u5 u6 u7 sc vl cl ck lr sd lu iz ac sn tr tk tv ms mn es en tn tf ls lt lf ik ir n (hh_hz (-1) L) (nI k) := by
  intro L
  induction L with
  | nil =>
    intro k n hk hn _ _ _ h0
    obtain ⟨n, rfl⟩ : ∃ m, n = m + 1 := ⟨n - 1, by omega⟩
    have hp : post (-1) := h0 fun v hv => absurd hv (List.not_mem_nil)
    exact br_c (fun _ => hp) fun _ => br_t hb_n1 hp
  | cons v M ih =>
    intro k n hk hn hs hb h1 h0
    obtain ⟨n, rfl⟩ : ∃ m, n = m + 1 := ⟨n - 1, by omega⟩
    obtain ⟨a, b, hs⟩ := hs
    obtain ⟨b1, b2⟩ := hb v (List.mem_cons_self)
    have hk' : k + (M.length + 1) ≤ 32 := hk
    have hn' : M.length + 1 < n + 1 := hn
    show wX_visibleInChain_9 post (nI t) u0 u1 u2 u3 u4 u5 u6 u7 sc vl cl ck lr sd lu iz ac sn tr tk tv ms mn es en tn tf ls lt lf ik ir (n + 1) (nI v.1) (nI k)
    rw [wX_visibleInChain_9]
    dsimp only
    rw [hb_c64 b1, a, nI_1 k]
    refine br_f (hb_g32 (by omega)) (br_f (nI_pos (by omega)) ⟨hb_i64 b1, nm_e ?_⟩)
    refine xl_vis b2 ht (he _ b2) (fun z => br_f hb_d10 (h1 v (List.mem_cons_self) z)) fun z => br_t rfl ⟨hb_i32 b2, nm_r ((congrArg tn (hb_c32 b2)).trans b) (nm_e ?_)⟩
    refine ih (k + 1) n (by omega) (by omega) hs (fun w hw => hb w (List.mem_cons_of_mem _ hw)) (fun w hw => h1 w (List.mem_cons_of_mem _ hw)) fun hw => h0 fun w hw' => ?_
    rcases List.mem_cons.mp hw' with e | e
    · rw [e]; exact z
    · exact hw w e
theorem xl_vic {t : Nat} (ht : t < 8) {c : hh_C} (hc : hh_rd ls lt tn c) (he : ∀ i, i < 32 → hh_e3 (ms i) (es i)) {post : Int32 → Prop}
    (h1 : ∀ v ∈ c.2.2.2, hh_vis (nI t) (sn t) (ms v.2.1) (mn v.2.1) (es v.2.1) (en v.2.1) → post (nI v.2.1))
    (h0 : (∀ v ∈ c.2.2.2, ¬ hh_vis (nI t) (sn t) (ms v.2.1) (mn v.2.1) (es v.2.1) (en v.2.1)) → post (-1)) : wpX_visibleInChain post (u0, u1, u2, u3, u4, u5, u6, u7, sc, vl, cl, ck, lr, sd, lu, iz, ac, sn, tr, tk, tv, ms, mn, es, en, tn, tf, ls, lt, lf, ik, ir) (nI t) (nI c.2.1) := by
  unfold wpX_visibleInChain
  exact xl_fp hc.1 hc.2.1.1 ⟨c.2.2.2.length + 1, xl_vc9 ht he c.2.2.2 0 _ (by have := hc.2.2.1; omega) (by omega) hc.2.1.2 hc.2.2.2 h1 h0⟩
theorem xl_pos11 {N : Nat} {key past : Int32} (hN : N ≤ 32) (hso : ∀ p q, p ≤ q → q < N → ik p ≤ ik q) {post : Int32 → Prop}
    (hp : ∀ r, r ≤ N → (∀ p, p < r → hh_be past key (ik p)) → (∀ p, r ≤ p → p < N → ¬ hh_be past key (ik p)) → post (nI r)) :
    ∀ n lo hi k, hi - lo < n → hi - lo + k ≤ 32 → lo ≤ hi → hi ≤ N → (∀ p, p < lo → hh_be past key (ik p)) → (∀ p, hi ≤ p → p < N → ¬ hh_be past key (ik p)) →
    wX_position_11 post key past u0 u1 u2 u3 u4 u5 u6 u7 sc vl cl ck lr sd lu iz ac sn tr tk tv ms mn es en tn tf ls lt lf ik ir n (nI lo) (nI hi) (nI k) := by
  intro n
  induction n with
  | zero => intro lo hi k h; exact absurd h (Nat.not_lt_zero _)
  | succ n ih =>
    intro lo hi k h1 h2 h3 h4 ha hb
    rcases Nat.lt_or_ge lo hi with h | h
    · have hm : (lo + hi) / 2 < 32 := by omega
      have em : (nI lo + nI hi) / 2 = nI ((lo + hi) / 2) := by
        rw [nI_add]
        exact pk_div (d := 2) (by omega) (by omega) (by omega)
      have k1 : hh_be past key (ik ((lo + hi) / 2)) → wX_position_71 post (wX_position_11 post key past u0 u1 u2 u3 u4 u5 u6 u7 sc vl cl ck lr sd lu iz ac sn tr tk tv ms mn es en tn tf ls lt lf ik ir n) key past (nI lo) (nI hi) (nI k) (nI ((lo + hi) / 2)) 1 u0 u1 u2 u3 u4 u5 u6 u7 sc vl cl ck lr sd lu iz ac sn tr tk tv ms mn es en tn tf ls lt lf ik ir := fun z => by
        refine br_f hb_d10 (nm_r (nI_1 _) (nm_r (nI_1 _) ?_))
        refine ih ((lo + hi) / 2 + 1) hi (k + 1) (by omega) (by omega) (by omega) h4 (fun p hp' => ?_) hb
        exact hh_be_mono (hso p _ (by omega) (by omega)) z
      have k0 : ¬ hh_be past key (ik ((lo + hi) / 2)) → wX_position_71 post (wX_position_11 post key past u0 u1 u2 u3 u4 u5 u6 u7 sc vl cl ck lr sd lu iz ac sn tr tk tv ms mn es en tn tf ls lt lf ik ir n) key past (nI lo) (nI hi) (nI k) (nI ((lo + hi) / 2)) 0 u0 u1 u2 u3 u4 u5 u6 u7 sc vl cl ck lr sd lu iz ac sn tr tk tv ms mn es en tn tf ls lt lf ik ir := fun z => by
        refine br_t rfl (nm_r (nI_1 _) ?_)
        refine ih lo ((lo + hi) / 2) (k + 1) (by omega) (by omega) (by omega) (by omega) ha (fun p hp' hp2 y => z ?_)
        exact hh_be_mono (hso _ p hp' hp2) y
      rw [wX_position_11]
      dsimp only
      refine br_f (hb_g32 (by omega)) (br_f (nI_ge h (by omega)) ⟨hb_d20, nm_r em ?_⟩)
      rw [hb_c32 hm]
      refine br_c (fun e => ⟨hb_i32 hm, br_c (fun l => k0 ?_) fun l => k1 (Or.inl ⟨e, l⟩)⟩) fun e => ⟨hb_i32 hm, br_c (fun l => k0 ?_) fun l => k1 (Or.inr ⟨e, l⟩)⟩
      · rintro (⟨_, z⟩ | ⟨z, _⟩)
        · exact z l
        · exact z e
      · rintro (⟨z, _⟩ | ⟨_, z⟩)
        · exact e z
        · exact z l
    · obtain rfl : lo = hi := by omega
      exact br_c (fun _ => hp lo h4 ha hb) fun _ => br_t (nI_le (by omega) (by omega)) (hp lo h4 ha hb)
theorem xl_pos {Cs : List hh_C} {key past : Int32} (hz : iz = nI Cs.length) (hN : Cs.length ≤ 32) (hix : hh_ix Cs ik ir) (hso : Cs.Pairwise fun c d => c.1 ≤ d.1) {post : Int32 → Prop}
    (hp : ∀ r, r ≤ Cs.length → (∀ p c, Cs[p]? = some c → (p < r ↔ hh_be past key c.1)) → post (nI r)) : wpX_position post (u0, u1, u2, u3, u4, u5, u6, u7, sc, vl, cl, ck, lr, sd, lu, iz, ac, sn, tr, tk, tv, ms, mn, es, en, tn, tf, ls, lt, lf, ik, ir) key past := by
  subst hz
  refine ⟨33, xl_pos11 (N := Cs.length) hN ?_ ?_ 33 0 Cs.length 0 (by omega) (by omega) (by omega) (by omega) (fun p h => absurd h (Nat.not_lt_zero p)) fun p h1 h2 => absurd h2 (by omega)⟩
  · intro p q hpq hq
    obtain ⟨c, hc⟩ : ∃ c, Cs[p]? = some c := ⟨_, List.getElem?_eq_getElem (by omega)⟩
    obtain ⟨d, hd⟩ : ∃ d, Cs[q]? = some d := ⟨_, List.getElem?_eq_getElem hq⟩
    rw [(hix p c hc).1, (hix q d hd).1]
    rcases Nat.lt_or_ge p q with h | h
    · have h1 := (List.getElem?_eq_some_iff.mp hc)
      have h2 := (List.getElem?_eq_some_iff.mp hd)
      obtain ⟨h1, rfl⟩ := h1
      obtain ⟨h2, rfl⟩ := h2
      exact List.pairwise_iff_getElem.mp hso p q h1 h2 h
    · obtain rfl : p = q := by omega
      cases hc.symm.trans hd
      exact Int32.le_refl _
  · intro r hr ha hb
    refine hp r hr fun p c hc => ?_
    have hl : p < Cs.length := (List.getElem?_eq_some_iff.mp hc).1
    rw [← (hix p c hc).1]
    exact ⟨ha p, fun z => by
      rcases Nat.lt_or_ge p r with h | h
      · exact h
      · exact absurd z (hb p h hl)⟩
theorem hh_be0 {key x : Int32} : hh_be 0 key x ↔ ¬ key ≤ x := ⟨fun z => by
  rcases z with ⟨_, z⟩ | ⟨z, _⟩
  · exact z
  · exact absurd rfl z, fun z => Or.inl ⟨rfl, z⟩⟩
theorem hh_be1 {key x : Int32} : hh_be 1 key x ↔ x ≤ key := ⟨fun z => by
  rcases z with ⟨z, _⟩ | ⟨_, z⟩
  · exact absurd z hb_d10
  · exact Int32.not_lt.mp z, fun z => Or.inr ⟨hb_d10, Int32.not_lt.mpr z⟩⟩
theorem xl_rs {Cs : List hh_C} {key : Int32} (hz : iz = nI Cs.length) (hN : Cs.length ≤ 32) (hix : hh_ix Cs ik ir) (hso : Cs.Pairwise fun c d => c.1 ≤ d.1) {post : Int32 → Prop}
    (hp : ∀ r, r ≤ Cs.length → (∀ p c, Cs[p]? = some c → (r ≤ p ↔ key = 0 ∨ key ≤ c.1)) → post (nI r)) : wpX_rangeStart post (u0, u1, u2, u3, u4, u5, u6, u7, sc, vl, cl, ck, lr, sd, lu, iz, ac, sn, tr, tk, tv, ms, mn, es, en, tn, tf, ls, lt, lf, ik, ir) key := by
  refine br_c (fun e => ?_) fun e => ?_
  · exact hp 0 (by omega) fun p c _ => ⟨fun _ => Or.inl e, fun _ => Nat.zero_le _⟩
  · refine xl_pos hz hN hix hso fun r hr h => hp r hr fun p c hc => ?_
    have := h p c hc
    rw [hh_be0] at this
    constructor
    · intro z
      refine Or.inr ?_
      have h2 : ¬ p < r := by omega
      exact Classical.not_not.mp fun y => h2 (this.mpr y)
    · rintro (z | z)
      · exact absurd z e
      · have h2 : ¬ p < r := fun y => this.mp y z
        omega
theorem xl_re {Cs : List hh_C} {key : Int32} (hz : iz = nI Cs.length) (hN : Cs.length ≤ 32) (hix : hh_ix Cs ik ir) (hso : Cs.Pairwise fun c d => c.1 ≤ d.1) {post : Int32 → Prop}
    (hp : ∀ r, r ≤ Cs.length → (∀ p c, Cs[p]? = some c → (p < r ↔ key = 0 ∨ c.1 ≤ key)) → post (nI r)) : wpX_rangeEnd post (u0, u1, u2, u3, u4, u5, u6, u7, sc, vl, cl, ck, lr, sd, lu, iz, ac, sn, tr, tk, tv, ms, mn, es, en, tn, tf, ls, lt, lf, ik, ir) key := by
  refine br_c (fun e => ?_) fun e => ?_
  · rw [hz]
    exact hp Cs.length (by omega) fun p c hc => ⟨fun _ => Or.inl e, fun _ => (List.getElem?_eq_some_iff.mp hc).1⟩
  · refine xl_pos hz hN hix hso fun r hr h => hp r hr fun p c hc => ?_
    rw [h p c hc, hh_be1]
    exact ⟨Or.inr, fun z => z.resolve_left e⟩
theorem hh_in (A B : List hh_C) (c : hh_C) : (A ++ c :: B)[A.length]? = some c := by
  rw [List.getElem?_append_right (by omega), Nat.sub_self, List.getElem?_cons_zero]
theorem hh_inB {A B : List hh_C} {c : hh_C} (h : c ∈ B) : ∃ p, A.length ≤ p ∧ (A ++ B)[p]? = some c := by
  obtain ⟨q, hq⟩ := List.mem_iff_getElem?.mp h
  exact ⟨A.length + q, by omega, by rw [List.getElem?_append_right (by omega), Nat.add_sub_cancel_left]; exact hq⟩
theorem hh_inA {A B : List hh_C} {c : hh_C} (h : c ∈ A) : ∃ p, p < A.length ∧ (A ++ B)[p]? = some c := by
  obtain ⟨q, hq⟩ := List.mem_iff_getElem?.mp h
  have hl : q < A.length := (List.getElem?_eq_some_iff.mp hq).1
  exact ⟨q, hl, by rw [List.getElem?_append_left hl]; exact hq⟩
/-! find -/
def hh_S (t aft key : Int32) (s : Int32) (tr ms mn es en : Nat → Int32) (A : List hh_C) (x : Int32) : Prop :=
  ∃ c ∈ A, c.1 = key ∧ ∃ v ∈ c.2.2.2, hh_vis t s (ms v.2.1) (mn v.2.1) (es v.2.1) (en v.2.1) ∧ ¬ tr v.2.1 ≤ aft ∧ x = tr v.2.1
theorem xl_find {t : Nat} (ht : t < 8) {aft key : Int32} {Cs : List hh_C} {fr to : Nat} (he : ∀ i, i < 32 → hh_e3 (ms i) (es i)) (hN : Cs.length ≤ 32) (hto : to ≤ Cs.length)
    (hix : hh_ix Cs ik ir) (hrd : ∀ c ∈ Cs, hh_rd ls lt tn c) (hrow : ∀ c ∈ Cs, (∃ row, ∀ v ∈ c.2.2.2, tr v.2.1 = row) ∧ ∀ v ∈ c.2.2.2, ¬ tr v.2.1 = 0)
    (hk : ∀ p c, Cs[p]? = some c → ((fr ≤ p ∧ p < to) ↔ c.1 = key)) {post : Int32 → Prop}
    (hp : ∀ r, hh_min (hh_S (nI t) aft key (sn t) tr ms mn es en Cs) r → post r) :
    ∀ (B A : List hh_C) (r : Int32) (n : Nat), Cs = A ++ B → fr ≤ A.length → B.length < n → hh_min (hh_S (nI t) aft key (sn t) tr ms mn es en A) r →
    wX_find_33 post (nI t) aft (nI to) u0 u1 u2 u3 u4 u5 u6 u7 sc vl cl ck lr sd lu iz ac sn tr tk tv ms mn es en tn tf ls lt lf ik ir n r (nI A.length) := by
  intro B
  induction B with
  | nil =>
    intro A r n hA hf hn hr
    obtain ⟨n, rfl⟩ : ∃ m, n = m + 1 := ⟨n - 1, by omega⟩
    rw [List.append_nil] at hA
    subst hA
    exact br_t (nI_le hto (by omega)) (hp r hr)
  | cons c B ih =>
    intro A r n hA hf hn hr
    obtain ⟨n, rfl⟩ : ∃ m, n = m + 1 := ⟨n - 1, by omega⟩
    have hn' : B.length + 1 < n + 1 := hn
    have hl : Cs.length = A.length + (B.length + 1) := by rw [hA, List.length_append]; rfl
    have hc : Cs[A.length]? = some c := by rw [hA]; exact hh_in A B c
    have hcm : c ∈ Cs := by rw [hA]; simp
    rcases Nat.lt_or_ge A.length to with h | h
    · have hi' : A.length < 32 := by omega
      have key1 : c.1 = key := (hk _ _ hc).mp ⟨hf, h⟩
      obtain ⟨hr1, hr2⟩ := hrow c hcm
      obtain ⟨row, hrow1⟩ := hr1
      have e1 : Cs = (A ++ [c]) ++ B := by rw [hA]; simp
      have e2 : A.length + 1 = (A ++ [c]).length := by simp
      have next : ∀ r', hh_min (hh_S (nI t) aft key (sn t) tr ms mn es en (A ++ [c])) r' → wX_find_33 post (nI t) aft (nI to) u0 u1 u2 u3 u4 u5 u6 u7 sc vl cl ck lr sd lu iz ac sn tr tk tv ms mn es en tn tf ls lt lf ik ir n r' (nI (A.length + 1)) := fun r' hr' => by
        rw [e2]
        exact ih (A ++ [c]) r' n e1 (by simp; omega) (by omega) hr'
      have same : (∀ v ∈ c.2.2.2, hh_vis (nI t) (sn t) (ms v.2.1) (mn v.2.1) (es v.2.1) (en v.2.1) → tr v.2.1 ≤ aft) → wX_find_33 post (nI t) aft (nI to) u0 u1 u2 u3 u4 u5 u6 u7 sc vl cl ck lr sd lu iz ac sn tr tk tv ms mn es en tn tf ls lt lf ik ir n r (nI (A.length + 1)) := fun z =>
        next r (hm_same hr fun x => ⟨fun ⟨d, hd, a, v, hv, b, e, f⟩ => by
          rcases List.mem_append.mp hd with y | y
          · exact ⟨d, y, a, v, hv, b, e, f⟩
          · rw [List.mem_singleton] at y
            subst y
            exact absurd (z v hv b) e, fun ⟨d, hd, a⟩ => ⟨d, List.mem_append_left _ hd, a⟩⟩)
      rw [wX_find_33]
      dsimp only
      rw [hb_c32 hi', (hix _ _ hc).2, nI_1 A.length]
      refine br_f (nI_ge h (by omega)) ⟨hb_i32 hi', xl_vic ht (hrd c hcm) he (fun v hv z => ?_) fun z => br_t hb_n1 (nm_e (same fun v hv y => absurd y (z v hv)))⟩
      have hv32 : v.2.1 < 32 := ((hrd c hcm).2.2.2 v hv).2
      rw [hb_c32 hv32]
      refine br_f (nI_pos (by omega)) ⟨hb_i32 hv32, br_c (fun l => nm_e (same fun w hw _ => ?_)) fun l => ⟨hb_i32 hv32, ?_⟩⟩
      · rw [hrow1 w hw, ← hrow1 v hv]; exact l
      · refine xl_less hr ?_ (S' := hh_S (nI t) aft key (sn t) tr ms mn es en (A ++ [c])) (fun x => ⟨?_, ?_⟩) fun r' hr' => nm_e (next r' hr')
        · rintro ⟨d, hd, _, w, hw, _, _, f⟩
          exact (hrow d (by rw [hA]; exact List.mem_append_left _ hd)).2 w hw f.symm
        · rintro ⟨d, hd, a, w, hw, b, e, f⟩
          rcases List.mem_append.mp hd with y | y
          · exact Or.inl ⟨d, y, a, w, hw, b, e, f⟩
          · rw [List.mem_singleton] at y
            subst y
            exact Or.inr (by rw [f, hrow1 w hw, hrow1 v hv])
        · rintro (⟨d, hd, a⟩ | e)
          · exact ⟨d, List.mem_append_left _ hd, a⟩
          · exact ⟨c, by simp, key1, v, hv, z, l, e⟩
    · refine br_t (nI_le h (by omega)) (hp r (hm_same hr fun x => ⟨fun ⟨d, hd, a, b⟩ => ?_, fun ⟨d, hd, a⟩ => ⟨d, by rw [hA]; exact List.mem_append_left _ hd, a⟩⟩))
      rw [hA] at hd
      rcases List.mem_append.mp hd with y | y
      · exact ⟨d, y, a, b⟩
      · obtain ⟨p, hp1, hp2⟩ := hh_inB (A := A) y
        rw [← hA] at hp2
        have := (hk p d hp2).mpr a
        omega
/-! nextKey -/
def hh_SK (t key : Int32) (s : Int32) (ms mn es en : Nat → Int32) (A : List hh_C) (x : Int32) : Prop :=
  ∃ c ∈ A, ¬ c.1 ≤ key ∧ (∃ v ∈ c.2.2.2, hh_vis t s (ms v.2.1) (mn v.2.1) (es v.2.1) (en v.2.1)) ∧ x = c.1
theorem xl_nk {t : Nat} (ht : t < 8) {key : Int32} {Cs : List hh_C} {fr : Nat} (he : ∀ i, i < 32 → hh_e3 (ms i) (es i)) (hz : iz = nI Cs.length) (hN : Cs.length ≤ 32)
    (hix : hh_ix Cs ik ir) (hso : Cs.Pairwise fun c d => c.1 ≤ d.1) (hrd : ∀ c ∈ Cs, hh_rd ls lt tn c)
    (hk : ∀ p c, Cs[p]? = some c → (p < fr ↔ c.1 ≤ key)) {post : Int32 → Prop}
    (hp : ∀ r, hh_min (hh_SK (nI t) key (sn t) ms mn es en Cs) r → post r) :
    ∀ (B A : List hh_C) (n : Nat), Cs = A ++ B → fr ≤ A.length → B.length < n → (∀ x, ¬ hh_SK (nI t) key (sn t) ms mn es en A x) →
    wX_nextKey_20 post (nI t) u0 u1 u2 u3 u4 u5 u6 u7 sc vl cl ck lr sd lu iz ac sn tr tk tv ms mn es en tn tf ls lt lf ik ir n (nI A.length) := by
  subst hz
  intro B
  induction B with
  | nil =>
    intro A n hA hf hn hr
    obtain ⟨n, rfl⟩ : ∃ m, n = m + 1 := ⟨n - 1, by omega⟩
    rw [List.append_nil] at hA
    subst hA
    exact br_t (nI_le (by omega) (by omega)) (hp 0 (Or.inl ⟨rfl, hr⟩))
  | cons c B ih =>
    intro A n hA hf hn hr
    obtain ⟨n, rfl⟩ : ∃ m, n = m + 1 := ⟨n - 1, by omega⟩
    have hn' : B.length + 1 < n + 1 := hn
    have hl : Cs.length = A.length + (B.length + 1) := by rw [hA, List.length_append]; rfl
    have hc : Cs[A.length]? = some c := by rw [hA]; exact hh_in A B c
    have hcm : c ∈ Cs := by rw [hA]; simp
    have hi' : A.length < 32 := by omega
    have hgt : ¬ c.1 ≤ key := fun z => by have := (hk _ _ hc).mpr z; omega
    rw [wX_nextKey_20]
    dsimp only
    rw [hb_c32 hi', (hix _ _ hc).2, (hix _ _ hc).1, nI_1 A.length]
    refine br_f (nI_ge (by omega) (by omega)) ⟨hb_i32 hi', xl_vic ht (hrd c hcm) he (fun v hv z => br_f (nI_pos (by have := ((hrd c hcm).2.2.2 v hv).2; omega)) ⟨hb_i32 hi', hp _ (Or.inr ⟨⟨c, hcm, hgt, ⟨v, hv, z⟩, rfl⟩, ?_⟩)⟩) fun z => br_t hb_n1 (nm_e ?_)⟩
    · rintro x ⟨d, hd, a, b, rfl⟩
      rw [hA] at hd hso
      rcases List.mem_append.mp hd with y | y
      · exact absurd ⟨d, y, a, b, rfl⟩ (hr d.1)
      · rcases List.mem_cons.mp y with y | y
        · rw [y]; exact Int32.le_refl _
        · exact (List.pairwise_cons.mp (List.pairwise_append.mp hso).2.1).1 d y
    · have e2 : A.length + 1 = (A ++ [c]).length := by simp
      rw [e2]
      refine ih (A ++ [c]) n (by rw [hA]; simp) (by simp; omega) (by omega) ?_
      rintro x ⟨d, hd, a, ⟨v, hv, b⟩, e⟩
      rcases List.mem_append.mp hd with y | y
      · exact hr x ⟨d, y, a, ⟨v, hv, b⟩, e⟩
      · rw [List.mem_singleton] at y
        subst y
        exact z v hv b
end
end
section
section
variable {u0 u1 u2 u3 u4 u5 u6 u7 sc vl cl ck lr sd lu iz : Int32} {ac sn tr tk tv ms mn es en tn tf ls lt lf ik ir : Nat → Int32}
theorem xl_hor {s : Nat} (hs : sc = nI s) (h8 : s ≤ 8) (hin : ∀ t, s ≤ t → t < 8 → ac t = 0) {post : Int32 → Prop} (hp : ∀ r, hh_hor ac sn ck r → post r) : wpX_horizon post (u0, u1, u2, u3, u4, u5, u6, u7, sc, vl, cl, ck, lr, sd, lu, iz, ac, sn, tr, tk, tv, ms, mn, es, en, tn, tf, ls, lt, lf, ik, ir) := by
  subst hs
  have main : ∀ d t r, t + d = s → (∀ k, k < t → ¬ ac k = 0 → r ≤ sn k) → (r = ck ∨ ∃ k, k < 8 ∧ ¬ ac k = 0 ∧ r = sn k) → r ≤ ck → wX_horizon_7 post u0 u1 u2 u3 u4 u5 u6 u7 (nI s) vl cl ck lr sd lu iz ac sn tr tk tv ms mn es en tn tf ls lt lf ik ir (d + 1) r (nI t) := by
    intro d
    induction d with
    | zero =>
      intro t r h a b c
      obtain rfl : t = s := by omega
      refine br_t (nI_le (by omega) (by omega)) (hp r ⟨fun k hk hn => ?_, b, c⟩)
      rcases Nat.lt_or_ge k t with z | z
      · exact a k z hn
      · exact absurd (hin k z hk) hn
    | succ d ih =>
      intro t r h a b c
      have ht : t < 8 := by omega
      rw [wX_horizon_7]
      dsimp only
      rw [hb_c8 ht, nI_1 t]
      refine br_f (nI_ge (by omega) (by omega)) ⟨hb_i8 ht, br_c (fun e => nm_e (ih (t + 1) r (by omega) (fun k hk hn => ?_) b c)) fun ne => ⟨hb_i8 ht, br_c (fun l => nm_e (ih (t + 1) r (by omega) (fun k hk hn => ?_) b c)) fun l => ⟨hb_i8 ht, nm_e (nm_e (ih (t + 1) (sn t) (by omega) (fun k hk hn => ?_) (Or.inr ⟨t, ht, ne, rfl⟩) ?_))⟩⟩⟩
      · rcases Nat.lt_or_ge k t with z | z
        · exact a k z hn
        · obtain rfl : k = t := by omega
          exact absurd e hn
      · rcases Nat.lt_or_ge k t with z | z
        · exact a k z hn
        · obtain rfl : k = t := by omega
          exact l
      · rcases Nat.lt_or_ge k t with z | z
        · exact Int32.le_trans (Int32.le_of_lt (Int32.not_le.mp l)) (a k z hn)
        · obtain rfl : k = t := by omega
          exact Int32.le_refl _
      · exact Int32.le_trans (Int32.le_of_lt (Int32.not_le.mp l)) c
  exact ⟨s + 1, main s 0 ck (by omega) (fun k hk => absurd hk (Nat.not_lt_zero k)) (Or.inl rfl) (Int32.le_refl _)⟩
theorem xl_cc13 {od h : Int32} {post : Int32 → Prop} : ∀ (L : List hh_V) (k n acc : Nat), k + L.length ≤ 32 → L.length < n → hh_sg lt tn (-1) L → (∀ v ∈ L, v.1 < 64 ∧ v.2.1 < 32) →
    post (nI (acc + L.countP (fun v => hh_b (od = 0 ∨ hh_ded h (ms v.2.1) (es v.2.1) (en v.2.1))))) →
    wX_countChain_13 post od h u0 u1 u2 u3 u4 u5 u6 u7 sc vl cl ck lr sd lu iz ac sn tr tk tv ms mn es en tn tf ls lt lf ik ir n (nI acc) (hh_hz (-1) L) (nI k) := by
  intro L
  induction L with
  | nil =>
    intro k n acc hk hn _ _ h0
    obtain ⟨n, rfl⟩ : ∃ m, n = m + 1 := ⟨n - 1, by omega⟩
    exact br_c (fun _ => h0) fun _ => br_t hb_n1 h0
  | cons v M ih =>
    intro k n acc hk hn hs hb h0
    obtain ⟨n, rfl⟩ : ∃ m, n = m + 1 := ⟨n - 1, by omega⟩
    obtain ⟨a, b, hs⟩ := hs
    obtain ⟨b1, b2⟩ := hb v (List.mem_cons_self)
    have hk' : k + (M.length + 1) ≤ 32 := hk
    have hn' : M.length + 1 < n + 1 := hn
    have hb' : ∀ w ∈ M, w.1 < 64 ∧ w.2.1 < 32 := fun w hw => hb w (List.mem_cons_of_mem _ hw)
    have k1 : (od = 0 ∨ hh_ded h (ms v.2.1) (es v.2.1) (en v.2.1)) → wX_countChain_48 post (wX_countChain_13 post od h u0 u1 u2 u3 u4 u5 u6 u7 sc vl cl ck lr sd lu iz ac sn tr tk tv ms mn es en tn tf ls lt lf ik ir n) od h (nI acc) (nI k) (nI v.2.1) u0 u1 u2 u3 u4 u5 u6 u7 sc vl cl ck lr sd lu iz ac sn tr tk tv ms mn es en tn tf ls lt lf ik ir := fun z => by
      refine nm_r (nI_1 acc) ⟨hb_i32 b2, nm_r ((congrArg tn (hb_c32 b2)).trans b) (nm_r (nI_1 k) ?_)⟩
      refine ih (k + 1) n (acc + 1) (by omega) (by omega) hs hb' ?_
      rw [List.countP_cons, if_pos (hh_bt.mpr z)] at h0
      rw [hb_acc]
      exact h0
    show wX_countChain_13 post od h u0 u1 u2 u3 u4 u5 u6 u7 sc vl cl ck lr sd lu iz ac sn tr tk tv ms mn es en tn tf ls lt lf ik ir (n + 1) (nI acc) (nI v.1) (nI k)
    rw [wX_countChain_13]
    dsimp only
    rw [hb_c64 b1, a]
    refine br_f (hb_g32 (by omega)) (br_f (nI_pos (by omega)) ⟨hb_i64 b1, nm_e (br_c (fun e => k1 (Or.inl e)) fun ne => ?_)⟩)
    refine xl_ded b2 (fun z => br_f hb_d10 (k1 (Or.inr z))) fun z => br_t rfl ⟨hb_i32 b2, nm_r ((congrArg tn (hb_c32 b2)).trans b) (nm_r (nI_1 k) ?_)⟩
    refine ih (k + 1) n acc (by omega) (by omega) hs hb' ?_
    rw [List.countP_cons, if_neg (hh_bf' fun y => ?_), Nat.add_zero] at h0
    · exact h0
    · rcases y with y | y
      · exact ne y
      · exact z y
theorem xl_cc {od h : Int32} {c : hh_C} (hc : hh_rd ls lt tn c) {post : Int32 → Prop}
    (h0 : post (nI (c.2.2.2.countP (fun v => hh_b (od = 0 ∨ hh_ded h (ms v.2.1) (es v.2.1) (en v.2.1)))))) : wpX_countChain post (u0, u1, u2, u3, u4, u5, u6, u7, sc, vl, cl, ck, lr, sd, lu, iz, ac, sn, tr, tk, tv, ms, mn, es, en, tn, tf, ls, lt, lf, ik, ir) (nI c.2.1) od h := by
  unfold wpX_countChain
  refine xl_fp hc.1 hc.2.1.1 ⟨c.2.2.2.length + 1, xl_cc13 c.2.2.2 0 _ 0 (by have := hc.2.2.1; omega) (by omega) hc.2.1.2 hc.2.2.2 ?_⟩
  rw [Nat.zero_add]
  exact h0
theorem xl_ver25 {od h key : Int32} {Cs : List hh_C} {fr to : Nat} (hN : Cs.length ≤ 32) (hto : to ≤ Cs.length)
    (hix : hh_ix Cs ik ir) (hrd : ∀ c ∈ Cs, hh_rd ls lt tn c) (hk : ∀ p c, Cs[p]? = some c → ((fr ≤ p ∧ p < to) ↔ hh_mt key c)) {post : Int32 → Prop} :
    ∀ (B A : List hh_C) (acc n : Nat), Cs = A ++ B → fr ≤ A.length → B.length < n → post (nI (acc + hh_su (hh_f key fun v => od = 0 ∨ hh_ded h (ms v.2.1) (es v.2.1) (en v.2.1)) B)) →
    wX_versions_25 post od (nI to) h u0 u1 u2 u3 u4 u5 u6 u7 sc vl cl ck lr sd lu iz ac sn tr tk tv ms mn es en tn tf ls lt lf ik ir n (nI acc) (nI A.length) := by
  intro B
  induction B with
  | nil =>
    intro A acc n hA hf hn hr
    obtain ⟨n, rfl⟩ : ∃ m, n = m + 1 := ⟨n - 1, by omega⟩
    rw [List.append_nil] at hA
    subst hA
    exact br_t (nI_le hto (by omega)) hr
  | cons c B ih =>
    intro A acc n hA hf hn hr
    obtain ⟨n, rfl⟩ : ∃ m, n = m + 1 := ⟨n - 1, by omega⟩
    have hn' : B.length + 1 < n + 1 := hn
    have hl : Cs.length = A.length + (B.length + 1) := by rw [hA, List.length_append]; rfl
    have hc : Cs[A.length]? = some c := by rw [hA]; exact hh_in A B c
    have hcm : c ∈ Cs := by rw [hA]; simp
    rcases Nat.lt_or_ge A.length to with h | h
    · have hi' : A.length < 32 := by omega
      rw [hh_su_c, hh_f1 ((hk _ _ hc).mp ⟨hf, h⟩)] at hr
      rw [wX_versions_25]
      dsimp only
      rw [hb_c32 hi', (hix _ _ hc).2, nI_1 A.length]
      refine br_f (nI_ge h (by omega)) ⟨hb_i32 hi', xl_cc (hrd c hcm) (nm_r (nI_add _ _) (nm_e ?_))⟩
      rw [show A.length + 1 = (A ++ [c]).length from by simp]
      refine ih (A ++ [c]) _ n (by rw [hA]; simp) (by simp; omega) (by omega) ?_
      rw [Nat.add_assoc]
      exact hr
    · refine br_t (nI_le h (by omega)) ?_
      rw [hh_su_0, Nat.add_zero] at hr
      · exact hr
      · intro d hd
        refine hh_f0 fun z => ?_
        obtain ⟨p, hp1, hp2⟩ := hh_inB (A := A) hd
        rw [← hA] at hp2
        have := (hk p d hp2).mpr z
        omega
theorem hh_rt3 {r : Nat} {L : List hh_V} (h : hh_rt ls lt r L) : ls r = 3 ↔ L = [] := by
  cases L with
  | nil => exact ⟨fun _ => rfl, fun _ => h⟩
  | cons v M =>
    obtain ⟨h1, h2, _⟩ := h
    refine ⟨fun e => ?_, fun e => nomatch e⟩
    by_cases z : v.1 = r
    · rw [h1 z] at e; exact absurd e hb_d13
    · rw [(h2 z).1] at e; exact absurd e hb_d23
theorem xl_chn19 {oe key : Int32} {Cs : List hh_C} {fr to : Nat} (hN : Cs.length ≤ 32) (hto : to ≤ Cs.length)
    (hix : hh_ix Cs ik ir) (hrd : ∀ c ∈ Cs, hh_rd ls lt tn c) (hk : ∀ p c, Cs[p]? = some c → ((fr ≤ p ∧ p < to) ↔ hh_mt key c)) {post : Int32 → Prop} :
    ∀ (B A : List hh_C) (acc n : Nat), Cs = A ++ B → fr ≤ A.length → B.length < n → post (nI (acc + hh_su (hh_g key oe) B)) →
    wX_chains_19 post oe (nI to) u0 u1 u2 u3 u4 u5 u6 u7 sc vl cl ck lr sd lu iz ac sn tr tk tv ms mn es en tn tf ls lt lf ik ir n (nI acc) (nI A.length) := by
  intro B
  induction B with
  | nil =>
    intro A acc n hA hf hn hr
    obtain ⟨n, rfl⟩ : ∃ m, n = m + 1 := ⟨n - 1, by omega⟩
    rw [List.append_nil] at hA
    subst hA
    exact br_t (nI_le hto (by omega)) hr
  | cons c B ih =>
    intro A acc n hA hf hn hr
    obtain ⟨n, rfl⟩ : ∃ m, n = m + 1 := ⟨n - 1, by omega⟩
    have hn' : B.length + 1 < n + 1 := hn
    have hl : Cs.length = A.length + (B.length + 1) := by rw [hA, List.length_append]; rfl
    have hc : Cs[A.length]? = some c := by rw [hA]; exact hh_in A B c
    have hcm : c ∈ Cs := by rw [hA]; simp
    rcases Nat.lt_or_ge A.length to with h | h
    · have hi' : A.length < 32 := by omega
      have hm : hh_mt key c := (hk _ _ hc).mp ⟨hf, h⟩
      obtain ⟨r1, r2, _⟩ := hrd c hcm
      have next : ∀ acc', post (nI (acc' + hh_su (hh_g key oe) B)) → wX_chains_19 post oe (nI to) u0 u1 u2 u3 u4 u5 u6 u7 sc vl cl ck lr sd lu iz ac sn tr tk tv ms mn es en tn tf ls lt lf ik ir n (nI acc') (nI (A.length + 1)) := fun acc' z => by
        rw [show A.length + 1 = (A ++ [c]).length from by simp]
        exact ih (A ++ [c]) acc' n (by rw [hA]; simp) (by simp; omega) (by omega) z
      have n1 : (oe = 0 ∨ c.2.2.2 = []) → wX_chains_19 post oe (nI to) u0 u1 u2 u3 u4 u5 u6 u7 sc vl cl ck lr sd lu iz ac sn tr tk tv ms mn es en tn tf ls lt lf ik ir n (nI (acc + 1)) (nI (A.length + 1)) := fun z => by
        apply next
        rw [hh_su_c, hh_g1 ⟨hm, z⟩] at hr
        rw [Nat.add_assoc]
        exact hr
      rw [wX_chains_19]
      dsimp only
      rw [hb_c32 hi', (hix _ _ hc).2, hb_c64 r1, nI_1 A.length, nI_1 acc]
      refine br_f (nI_ge h (by omega)) (br_c (fun e => nm_e (nm_e (n1 (Or.inl e)))) fun ne => ⟨hb_i32 hi', hb_i64 r1, br_c (fun e => nm_e (nm_e (n1 (Or.inr ((hh_rt3 r2.1).mp e))))) fun e => nm_e (next acc ?_)⟩)
      rw [hh_su_c, hh_g0, Nat.zero_add] at hr
      · exact hr
      · rintro ⟨_, z | z⟩
        · exact ne z
        · exact e ((hh_rt3 r2.1).mpr z)
    · refine br_t (nI_le h (by omega)) ?_
      rw [hh_su_0, Nat.add_zero] at hr
      · exact hr
      · intro d hd
        refine hh_g0 fun z => ?_
        obtain ⟨p, hp1, hp2⟩ := hh_inB (A := A) hd
        rw [← hA] at hp2
        have := (hk p d hp2).mpr z.1
        omega
end
end
section
section
variable {sc vl cl ck lr : Int32} {ac sn st vc vr vk vv mk mm ek em ex kk : Nat → Int32}
theorem yl_act {s : Nat} (hs : sc = nI s) (h8 : s ≤ 8) {p0 : Int32} {post : Int32 → Prop} (h1 : hh_act s ac p0 → post 1) (h0 : ¬ hh_act s ac p0 → post 0) : wpY_isActive post (sc, vl, cl, ck, lr, ac, sn, st, vc, vr, vk, vv, mk, mm, ek, em, ex, kk) p0 := by
  subst hs
  refine br_c (fun hn => h0 ?_) fun hp => ?_
  · rintro ⟨t, ht, rfl, _⟩
    exact nI_pos (by omega) hn
  · obtain ⟨t, ht, rfl⟩ := nI_of hp
    refine br_c (fun hle => h0 ?_) fun hnl => ?_
    · rintro ⟨t', ht', e, _⟩
      have e2 := hb_inj e (by omega) (by omega)
      rw [nI_leI (by omega) (by omega)] at hle
      omega
    · rw [nI_leI (by omega) (by omega)] at hnl
      have ht8 : t < 8 := by omega
      rw [hb_c8 ht8]
      refine br_f (hb_g8 ht8) ⟨hb_i8 ht8, br_c (fun e => h0 ?_) fun ne => h1 ⟨t, by omega, rfl, ne⟩⟩
      rintro ⟨t', ht', e', ne⟩
      cases hb_inj e' (by omega) (by omega)
      exact ne e
theorem yl_leg {k v : Int32} {post : Int32 → Prop} (h1 : hh_leg k v → post 1) (h0 : ¬ hh_leg k v → post 0) : wpY_legal post (sc, vl, cl, ck, lr, ac, sn, st, vc, vr, vk, vv, mk, mm, ek, em, ex, kk) k v :=
  br_c (fun a => h0 fun z => z.1 a) fun a => br_c (fun b => h0 fun z => z.2.1 b) fun b => br_c (fun c => h0 fun z => z.2.2.1 c) fun c =>
    br_c (fun d => h0 fun z => z.2.2.2 d) fun d => h1 ⟨a, b, c, d⟩
theorem yl_109 {j t : Nat} (hj : j < 32) (ht : t < 8) {z : Int32} {post : Int32 → Prop} (n0 : ¬ ek j = 0) (n1 : ek j = 1 → em j = nI t)
    (hO : hh_opn (nI t) (sn t) (ek j) (em j) → wY_visible_139 post z 1 sc vl cl ck lr ac sn st vc vr vk vv mk mm ek em ex kk) (hN : ¬ hh_opn (nI t) (sn t) (ek j) (em j) → wY_visible_139 post z 0 sc vl cl ck lr ac sn st vc vr vk vv mk mm ek em ex kk) :
    wY_visible_109 post (nI t) (nI j) z sc vl cl ck lr ac sn st vc vr vk vv mk mm ek em ex kk := by
  unfold wY_visible_109 wY_visible_134 wY_visible_138
  rw [hb_c32 hj, hb_c8 ht]
  refine ⟨hb_i32 hj, br_c (fun e => ⟨hb_i32 hj, hb_i8 ht, br_c (fun l => hN (hh_opn_2 e l)) fun l => hO (Or.inr (Or.inr ⟨e, l⟩))⟩) fun e => hN ?_⟩
  rintro (y | ⟨y, y2⟩ | ⟨y, _⟩)
  · exact n0 y
  · exact y2 (n1 y)
  · exact e y
theorem yl_79 {j t : Nat} (hj : j < 32) (ht : t < 8) {z : Int32} {post : Int32 → Prop}
    (hO : hh_opn (nI t) (sn t) (ek j) (em j) → wY_visible_139 post z 1 sc vl cl ck lr ac sn st vc vr vk vv mk mm ek em ex kk) (hN : ¬ hh_opn (nI t) (sn t) (ek j) (em j) → wY_visible_139 post z 0 sc vl cl ck lr ac sn st vc vr vk vv mk mm ek em ex kk) :
    wY_visible_79 post (nI t) (nI j) z sc vl cl ck lr ac sn st vc vr vk vv mk mm ek em ex kk := by
  unfold wY_visible_79
  rw [hb_c32 hj]
  exact ⟨hb_i32 hj, br_c (fun e => hO (Or.inl e)) fun n0 => ⟨hb_i32 hj, br_c (fun e1 => ⟨hb_i32 hj, br_c (fun e => yl_109 hj ht n0 (fun _ => e) hO hN) fun e => hO (Or.inr (Or.inl ⟨e1, e⟩))⟩) fun n1 => yl_109 hj ht n0 (fun e => absurd e n1) hO hN⟩⟩
theorem yl_vis {s t j : Nat} (hs : sc = nI s) (h8 : s ≤ 8) (ht : t < s) (ha : ¬ ac t = 0) (hj : j < 32) {post : Int32 → Prop}
    (h1 : ¬ st j = 0 → hh_vis (nI t) (sn t) (mk j) (mm j) (ek j) (em j) → post 1)
    (h0 : ¬ (¬ st j = 0 ∧ hh_vis (nI t) (sn t) (mk j) (mm j) (ek j) (em j)) → post 0) : wpY_visible post (sc, vl, cl, ck, lr, ac, sn, st, vc, vr, vk, vv, mk, mm, ek, em, ex, kk) (nI t) (nI j) := by
  have ht8 : t < 8 := by omega
  unfold wpY_visible
  refine yl_act hs h8 (fun _ => br_f hb_d10 ?_) fun z => absurd ⟨t, ht, rfl, ha⟩ z
  rw [hb_c32 hj]
  refine br_f (nI_pos (by omega)) (br_f (hb_g32 hj) ⟨hb_i32 hj, br_c (fun e => h0 fun z => z.1 e) fun hst => ?_⟩)
  have k1 : hh_mad (nI t) (sn t) (mk j) (mm j) → wY_visible_79 post (nI t) (nI j) 1 sc vl cl ck lr ac sn st vc vr vk vv mk mm ek em ex kk := fun z =>
    yl_79 hj ht8 (fun y => br_f hb_d10 (br_f hb_d10 (h1 hst ⟨z, y⟩))) fun y => br_f hb_d10 (br_t rfl (h0 fun w => y w.2.2))
  have k0 : ¬ hh_mad (nI t) (sn t) (mk j) (mm j) → wY_visible_79 post (nI t) (nI j) 0 sc vl cl ck lr ac sn st vc vr vk vv mk mm ek em ex kk := fun z =>
    yl_79 hj ht8 (fun y => br_t rfl (h0 fun w => z w.2.1)) fun y => br_t rfl (h0 fun w => z w.2.1)
  have k49 : (mk j = 1 → ¬ mm j = nI t) → wY_visible_49 post (nI t) (nI j) sc vl cl ck lr ac sn st vc vr vk vv mk mm ek em ex kk := fun hn => by
    unfold wY_visible_49 wY_visible_78 wY_visible_74
    rw [hb_c32 hj, hb_c8 ht8]
    refine ⟨hb_i32 hj, br_c (fun e2 => ⟨hb_i32 hj, hb_i8 ht8, br_c (fun l => k0 (hh_mad_2 e2 (Int32.not_le.mpr l))) fun l => k1 (Or.inr ⟨e2, Int32.not_lt.mp l⟩)⟩) fun n2 => k0 ?_⟩
    rintro (⟨a, b⟩ | ⟨a, _⟩)
    · exact hn a b
    · exact n2 a
  exact ⟨hb_i32 hj, br_c (fun e1 => ⟨hb_i32 hj, br_c (fun e => k1 (Or.inl ⟨e1, e⟩)) fun e => k49 fun _ => e⟩) fun n1 => k49 fun e => absurd e n1⟩
theorem yl_seen2 {s t : Nat} (hs : sc = nI s) (h8 : s ≤ 8) (ht : t < s) (ha : ¬ ac t = 0) {row : Int32} {post : Int32 → Prop}
    (hy : ∀ j, j < 32 → ¬ st j = 0 → vr j = row → hh_vis (nI t) (sn t) (mk j) (mm j) (ek j) (em j) → post (nI j))
    (hn : (∀ j, j < 32 → ¬ st j = 0 → vr j = row → ¬ hh_vis (nI t) (sn t) (mk j) (mm j) (ek j) (em j)) → post (-1)) :
    ∀ d i, i + d = 32 → (∀ j, j < i → ¬ st j = 0 → vr j = row → ¬ hh_vis (nI t) (sn t) (mk j) (mm j) (ek j) (em j)) → wY_seen_2 post (nI t) row sc vl cl ck lr ac sn st vc vr vk vv mk mm ek em ex kk (d + 1) (nI i) := by
  intro d
  induction d with
  | zero =>
    intro i hi hk
    obtain rfl : i = 32 := by omega
    exact br_t hb_e32 (hn hk)
  | succ d ih =>
    intro i hi hk
    have hi' : i < 32 := by omega
    have next : (¬ st i = 0 → vr i = row → ¬ hh_vis (nI t) (sn t) (mk i) (mm i) (ek i) (em i)) → wY_seen_2 post (nI t) row sc vl cl ck lr ac sn st vc vr vk vv mk mm ek em ex kk (d + 1) (nI (i + 1)) := fun z =>
      ih (i + 1) (by omega) fun k hk' => by
        rcases Nat.lt_or_ge k i with h | h
        · exact hk k h
        · obtain rfl : k = i := by omega
          exact z
    rw [wY_seen_2]
    dsimp only
    rw [hb_c32 hi', nI_1 i]
    exact br_f (hb_g32 hi') (yl_vis hs h8 ht ha hi' (fun a b => br_f hb_d10 ⟨hb_i32 hi', br_c (fun e => hy i hi' a e b) fun e => nm_e (next fun _ z => absurd z e)⟩) fun z => br_t rfl (nm_e (next fun a _ b => z ⟨a, b⟩)))
theorem yl_seen {s t : Nat} (hs : sc = nI s) (h8 : s ≤ 8) (ht : t < s) (ha : ¬ ac t = 0) {row : Int32} {post : Int32 → Prop}
    (hy : ∀ j, j < 32 → ¬ st j = 0 → vr j = row → hh_vis (nI t) (sn t) (mk j) (mm j) (ek j) (em j) → post (nI j))
    (hn : (∀ j, j < 32 → ¬ st j = 0 → vr j = row → ¬ hh_vis (nI t) (sn t) (mk j) (mm j) (ek j) (em j)) → post (-1)) : wpY_seen post (sc, vl, cl, ck, lr, ac, sn, st, vc, vr, vk, vv, mk, mm, ek, em, ex, kk) (nI t) row :=
  ⟨33, yl_seen2 hs h8 ht ha hy hn 32 0 rfl fun k hk => absurd hk (Nat.not_lt_zero k)⟩
theorem yl_hor {c : Nat} (hc : ∀ t, t < 8 → sn t ≤ ck) {r : Int32} (hr : hh_hor ac sn ck r) {post : Int32 → Prop} (hp : post r) : wpY_horizon post (sc, vl, cl, ck, lr, ac, sn, st, vc, vr, vk, vv, mk, mm, ek, em, ex, kk) := by
  have fin : ∀ r', hh_hor ac sn ck r' → post r' := fun r' h => (hh_hor_u hr h) ▸ hp
  have m1 : ∀ d t r, t + d = 8 → (∀ k, k < t → ¬ ac k = 0 → r ≤ sn k) → (∃ k, k < 8 ∧ ¬ ac k = 0 ∧ r = sn k) → wY_horizon_9 post sc vl cl ck lr ac sn st vc vr vk vv mk mm ek em ex kk (d + 1) r 1 (nI t) := by
    intro d
    induction d with
    | zero =>
      intro t r h a b
      obtain rfl : t = 8 := by omega
      refine br_t hb_e8 (fin r ⟨fun k hk hn => a k hk hn, Or.inr b, ?_⟩)
      obtain ⟨k, hk, _, rfl⟩ := b
      exact hc k hk
    | succ d ih =>
      intro t r h a b
      have ht : t < 8 := by omega
      rw [wY_horizon_9]
      dsimp only
      unfold wY_horizon_38
      rw [hb_c8 ht, nI_1 t]
      refine br_f (hb_g8 ht) ⟨hb_i8 ht, br_c (fun e => nm_e (ih (t + 1) r (by omega) (fun k hk hn => ?_) b)) fun ne => br_f hb_d10 ⟨hb_i8 ht, br_c (fun l => nm_e (ih (t + 1) r (by omega) (fun k hk hn => ?_) b)) fun l => ⟨hb_i8 ht, nm_e (nm_e (ih (t + 1) (sn t) (by omega) (fun k hk hn => ?_) ⟨t, ht, ne, rfl⟩))⟩⟩⟩
      · rcases Nat.lt_or_ge k t with z | z
        · exact a k z hn
        · obtain rfl : k = t := by omega
          exact absurd e hn
      · rcases Nat.lt_or_ge k t with z | z
        · exact a k z hn
        · obtain rfl : k = t := by omega
          exact l
      · rcases Nat.lt_or_ge k t with z | z
        · exact Int32.le_trans (Int32.le_of_lt (Int32.not_le.mp l)) (a k z hn)
        · obtain rfl : k = t := by omega
          exact Int32.le_refl _
  have m0 : ∀ d t, t + d = 8 → (∀ k, k < t → ac k = 0) → wY_horizon_9 post sc vl cl ck lr ac sn st vc vr vk vv mk mm ek em ex kk (d + 1) ck 0 (nI t) := by
    intro d
    induction d with
    | zero =>
      intro t h a
      obtain rfl : t = 8 := by omega
      exact br_t hb_e8 (fin ck ⟨fun k hk hn => absurd (a k hk) hn, Or.inl rfl, Int32.le_refl _⟩)
    | succ d ih =>
      intro t h a
      have ht : t < 8 := by omega
      rw [wY_horizon_9]
      dsimp only
      unfold wY_horizon_38
      rw [hb_c8 ht, nI_1 t]
      refine br_f (hb_g8 ht) ⟨hb_i8 ht, br_c (fun e => nm_e (ih (t + 1) (by omega) (fun k hk => ?_))) fun ne => br_t rfl ⟨hb_i8 ht, nm_e (nm_e (m1 d (t + 1) (sn t) (by omega) (fun k hk hn => ?_) ⟨t, ht, ne, rfl⟩))⟩⟩
      · rcases Nat.lt_or_ge k t with z | z
        · exact a k z
        · obtain rfl : k = t := by omega
          exact e
      · rcases Nat.lt_or_ge k t with z | z
        · exact absurd (a k z) hn
        · obtain rfl : k = t := by omega
          exact Int32.le_refl _
  exact ⟨9, m0 8 0 rfl fun k hk => absurd hk (Nat.not_lt_zero k)⟩
theorem yl_ded {j : Nat} (hj : j < 32) (hc : ∀ t, t < 8 → sn t ≤ ck) {h : Int32} (hr : hh_hor ac sn ck h) (hst : ¬ st j = 0) {post : Int32 → Prop} (h1 : hh_ded h (mk j) (ek j) (em j) → post 1) (h0 : ¬ hh_ded h (mk j) (ek j) (em j) → post 0) : wpY_dead post (sc, vl, cl, ck, lr, ac, sn, st, vc, vr, vk, vv, mk, mm, ek, em, ex, kk) (nI j) := by
  unfold wpY_dead
  dsimp only
  rw [hb_c32 hj]
  refine br_f (nI_pos (by omega)) (br_f (hb_g32 hj) ⟨hb_i32 hj, br_f hst ⟨hb_i32 hj, br_c (fun e3 => h1 (Or.inl e3)) fun n3 => yl_hor (c := 0) hc hr ⟨hb_i32 hj, br_c (fun e2 => ⟨hb_i32 hj, br_c (fun d2 => ⟨hb_i32 hj, br_c (fun l => h0 ?_) fun l => h1 (Or.inr ⟨e2, d2, Int32.not_lt.mp l⟩)⟩) fun d2 => h0 ?_⟩) fun n2 => h0 ?_⟩⟩⟩)
  · rintro (z | ⟨_, _, z⟩)
    · exact n3 z
    · exact Int32.not_le.mpr l z
  · rintro (z | ⟨_, z, _⟩)
    · exact n3 z
    · exact d2 z
  · rintro (z | ⟨z, _, _⟩)
    · exact n3 z
    · exact n2 z
theorem yl_hold {row : Int32} {post : Int32 → Prop}
    (hs : ∀ i, i < 32 → ¬ st i = 0 → ¬ mk i = 3 → vr i = row → (mk i = 1 → post (mm i)) ∧ (¬ mk i = 1 → ek i = 1 → post (em i)))
    (hn : (∀ i, i < 32 → ¬ st i = 0 → ¬ mk i = 3 → vr i = row → ¬ mk i = 1 ∧ ¬ ek i = 1) → post (-1)) :
    ∀ d i, i + d = 32 → (∀ k, k < i → ¬ st k = 0 → ¬ mk k = 3 → vr k = row → ¬ mk k = 1 ∧ ¬ ek k = 1) → wY_holder_2 post row sc vl cl ck lr ac sn st vc vr vk vv mk mm ek em ex kk (d + 1) (nI i) := by
  intro d
  induction d with
  | zero =>
    intro i hi hk
    obtain rfl : i = 32 := by omega
    exact br_t hb_e32 (hn hk)
  | succ d ih =>
    intro i hi hk
    have hi' : i < 32 := by omega
    have next : (¬ st i = 0 → ¬ mk i = 3 → vr i = row → ¬ mk i = 1 ∧ ¬ ek i = 1) → wY_holder_2 post row sc vl cl ck lr ac sn st vc vr vk vv mk mm ek em ex kk (d + 1) (nI (i + 1)) := fun z =>
      ih (i + 1) (by omega) fun k hk' => by
        rcases Nat.lt_or_ge k i with h | h
        · exact hk k h
        · obtain rfl : k = i := by omega
          exact z
    rw [wY_holder_2]
    dsimp only
    rw [hb_c32 hi', nI_1 i]
    refine br_f (hb_g32 hi') ⟨hb_i32 hi', br_c (fun e => nm_e (next fun z => absurd e z)) fun n0 => ⟨hb_i32 hi', br_c (fun er => ⟨hb_i32 hi', br_c (fun e => nm_e (next fun _ z => absurd e z)) fun n3 =>
      ⟨hb_i32 hi', br_c (fun e1 => ⟨hb_i32 hi', (hs i hi' n0 n3 er).1 e1⟩) fun n1 => ⟨hb_i32 hi', br_c (fun d1 => ⟨hb_i32 hi', (hs i hi' n0 n3 er).2 n1 d1⟩) fun nd => nm_e (next fun _ _ _ => ⟨n1, nd⟩)⟩⟩⟩) fun nr => nm_e (next fun _ _ z => absurd z nr)⟩⟩
/-! the least row or key among the visible that satisfy a condition -/
theorem yl_find {s t : Nat} (hs : sc = nI s) (h8 : s ≤ 8) (ht : t < s) (ha : ¬ ac t = 0) {key aft : Int32} (hz : ∀ j, j < 32 → ¬ st j = 0 → ¬ vr j = 0) {post : Int32 → Prop}
    (hp : ∀ r, hh_min (fun x => ∃ i, i < 32 ∧ (¬ st i = 0 ∧ hh_vis (nI t) (sn t) (mk i) (mm i) (ek i) (em i)) ∧ vk i = key ∧ ¬ vr i ≤ aft ∧ x = vr i) r → post r) :
    ∀ d i r, i + d = 32 → hh_min (fun x => ∃ k, k < i ∧ (¬ st k = 0 ∧ hh_vis (nI t) (sn t) (mk k) (mm k) (ek k) (em k)) ∧ vk k = key ∧ ¬ vr k ≤ aft ∧ x = vr k) r → wY_find_16 post (nI t) key aft sc vl cl ck lr ac sn st vc vr vk vv mk mm ek em ex kk (d + 1) r (nI i) := by
  intro d
  induction d with
  | zero =>
    intro i r hi hr
    obtain rfl : i = 32 := by omega
    exact br_t hb_e32 (hp r hr)
  | succ d ih =>
    intro i r hi hr
    have hi' : i < 32 := by omega
    have same : ¬ ((¬ st i = 0 ∧ hh_vis (nI t) (sn t) (mk i) (mm i) (ek i) (em i)) ∧ vk i = key ∧ ¬ vr i ≤ aft) → wY_find_16 post (nI t) key aft sc vl cl ck lr ac sn st vc vr vk vv mk mm ek em ex kk (d + 1) r (nI (i + 1)) := fun z =>
      ih (i + 1) r (by omega) (hm_same hr fun x => ⟨fun ⟨k, hk, a, b, c, e⟩ => ⟨k, by
        rcases Nat.lt_or_ge k i with h | h
        · exact h
        · obtain rfl : k = i := by omega
          exact absurd ⟨a, b, c⟩ z, a, b, c, e⟩, fun ⟨k, hk, a, b, c, e⟩ => ⟨k, by omega, a, b, c, e⟩⟩)
    rw [wY_find_16]
    dsimp only
    rw [hb_c32 hi', nI_1 i]
    refine br_f (hb_g32 hi') (yl_vis hs h8 ht ha hi' (fun a b => br_f hb_d10 ⟨hb_i32 hi', br_c (fun ek1 => ⟨hb_i32 hi', br_c (fun l => nm_e (same fun z => z.2.2 l)) fun l => ?_⟩) fun nk => nm_e (same fun z => nk z.2.1)⟩) fun z => br_t rfl (nm_e (same fun y => z y.1)))
    have e : ∀ x, (∃ k, k < i + 1 ∧ (¬ st k = 0 ∧ hh_vis (nI t) (sn t) (mk k) (mm k) (ek k) (em k)) ∧ vk k = key ∧ ¬ vr k ≤ aft ∧ x = vr k) ↔ (∃ k, k < i ∧ (¬ st k = 0 ∧ hh_vis (nI t) (sn t) (mk k) (mm k) (ek k) (em k)) ∧ vk k = key ∧ ¬ vr k ≤ aft ∧ x = vr k) ∨ x = vr i := fun x => by
      constructor
      · rintro ⟨k, hk, f, g, p, q⟩
        rcases Nat.lt_or_ge k i with h | h
        · exact Or.inl ⟨k, h, f, g, p, q⟩
        · obtain rfl : k = i := by omega
          exact Or.inr q
      · rintro (⟨k, hk, f⟩ | q)
        · exact ⟨k, by omega, f⟩
        · exact ⟨i, by omega, ⟨a, b⟩, ek1, l, q⟩
    refine br_c (fun e0 => ⟨hb_i32 hi', nm_e (nm_e (ih (i + 1) _ (by omega) (hm_0 (e0 ▸ hr) ?_ e)))⟩) fun n0 => ⟨hb_i32 hi', br_c (fun hl => nm_e (ih (i + 1) _ (by omega) (hm_le hr n0 hl e))) fun hl => ⟨hb_i32 hi', nm_e (nm_e (ih (i + 1) _ (by omega) (hm_nl hr n0 hl e)))⟩⟩
    rintro ⟨k, hk, f, _, _, q⟩
    exact hz k (by omega) f.1 q.symm
theorem yl_scan {s t : Nat} (hs : sc = nI s) (h8 : s ≤ 8) (ht : t < s) (ha : ¬ ac t = 0) {aft : Int32} (hz : ∀ j, j < 32 → ¬ st j = 0 → ¬ vr j = 0) {post : Int32 → Prop}
    (hp : ∀ r, hh_min (fun x => ∃ i, i < 32 ∧ (¬ st i = 0 ∧ hh_vis (nI t) (sn t) (mk i) (mm i) (ek i) (em i)) ∧ ¬ vr i ≤ aft ∧ x = vr i) r → post r) :
    ∀ d i r, i + d = 32 → hh_min (fun x => ∃ k, k < i ∧ (¬ st k = 0 ∧ hh_vis (nI t) (sn t) (mk k) (mm k) (ek k) (em k)) ∧ ¬ vr k ≤ aft ∧ x = vr k) r → wY_scan_15 post (nI t) aft sc vl cl ck lr ac sn st vc vr vk vv mk mm ek em ex kk (d + 1) r (nI i) := by
  intro d
  induction d with
  | zero =>
    intro i r hi hr
    obtain rfl : i = 32 := by omega
    exact br_t hb_e32 (hp r hr)
  | succ d ih =>
    intro i r hi hr
    have hi' : i < 32 := by omega
    have same : ¬ ((¬ st i = 0 ∧ hh_vis (nI t) (sn t) (mk i) (mm i) (ek i) (em i)) ∧ ¬ vr i ≤ aft) → wY_scan_15 post (nI t) aft sc vl cl ck lr ac sn st vc vr vk vv mk mm ek em ex kk (d + 1) r (nI (i + 1)) := fun z =>
      ih (i + 1) r (by omega) (hm_same hr fun x => ⟨fun ⟨k, hk, a, b, c⟩ => ⟨k, by
        rcases Nat.lt_or_ge k i with h | h
        · exact h
        · obtain rfl : k = i := by omega
          exact absurd ⟨a, b⟩ z, a, b, c⟩, fun ⟨k, hk, a, b, c⟩ => ⟨k, by omega, a, b, c⟩⟩)
    rw [wY_scan_15]
    dsimp only
    rw [hb_c32 hi', nI_1 i]
    refine br_f (hb_g32 hi') (yl_vis hs h8 ht ha hi' (fun a b => br_f hb_d10 ⟨hb_i32 hi', br_c (fun l => nm_e (same fun z => z.2 l)) fun l => ?_⟩) fun z => br_t rfl (nm_e (same fun y => z y.1)))
    have e : ∀ x, (∃ k, k < i + 1 ∧ (¬ st k = 0 ∧ hh_vis (nI t) (sn t) (mk k) (mm k) (ek k) (em k)) ∧ ¬ vr k ≤ aft ∧ x = vr k) ↔ (∃ k, k < i ∧ (¬ st k = 0 ∧ hh_vis (nI t) (sn t) (mk k) (mm k) (ek k) (em k)) ∧ ¬ vr k ≤ aft ∧ x = vr k) ∨ x = vr i := fun x => by
      constructor
      · rintro ⟨k, hk, f, p, q⟩
        rcases Nat.lt_or_ge k i with h | h
        · exact Or.inl ⟨k, h, f, p, q⟩
        · obtain rfl : k = i := by omega
          exact Or.inr q
      · rintro (⟨k, hk, f⟩ | q)
        · exact ⟨k, by omega, f⟩
        · exact ⟨i, by omega, ⟨a, b⟩, l, q⟩
    refine br_c (fun e0 => ⟨hb_i32 hi', nm_e (nm_e (ih (i + 1) _ (by omega) (hm_0 (e0 ▸ hr) ?_ e)))⟩) fun n0 => ⟨hb_i32 hi', br_c (fun hl => nm_e (ih (i + 1) _ (by omega) (hm_le hr n0 hl e))) fun hl => ⟨hb_i32 hi', nm_e (nm_e (ih (i + 1) _ (by omega) (hm_nl hr n0 hl e)))⟩⟩
    rintro ⟨k, hk, f, _, q⟩
    exact hz k (by omega) f.1 q.symm
theorem yl_nk {s t : Nat} (hs : sc = nI s) (h8 : s ≤ 8) (ht : t < s) (ha : ¬ ac t = 0) {key : Int32} (hz : ∀ j, j < 32 → ¬ st j = 0 → ¬ vk j = 0) {post : Int32 → Prop}
    (hp : ∀ r, hh_min (fun x => ∃ i, i < 32 ∧ (¬ st i = 0 ∧ hh_vis (nI t) (sn t) (mk i) (mm i) (ek i) (em i)) ∧ ¬ vk i ≤ key ∧ x = vk i) r → post r) :
    ∀ d i r, i + d = 32 → hh_min (fun x => ∃ k, k < i ∧ (¬ st k = 0 ∧ hh_vis (nI t) (sn t) (mk k) (mm k) (ek k) (em k)) ∧ ¬ vk k ≤ key ∧ x = vk k) r → wY_nextKey_15 post (nI t) key sc vl cl ck lr ac sn st vc vr vk vv mk mm ek em ex kk (d + 1) r (nI i) := by
  intro d
  induction d with
  | zero =>
    intro i r hi hr
    obtain rfl : i = 32 := by omega
    exact br_t hb_e32 (hp r hr)
  | succ d ih =>
    intro i r hi hr
    have hi' : i < 32 := by omega
    have same : ¬ ((¬ st i = 0 ∧ hh_vis (nI t) (sn t) (mk i) (mm i) (ek i) (em i)) ∧ ¬ vk i ≤ key) → wY_nextKey_15 post (nI t) key sc vl cl ck lr ac sn st vc vr vk vv mk mm ek em ex kk (d + 1) r (nI (i + 1)) := fun z =>
      ih (i + 1) r (by omega) (hm_same hr fun x => ⟨fun ⟨k, hk, a, b, c⟩ => ⟨k, by
        rcases Nat.lt_or_ge k i with h | h
        · exact h
        · obtain rfl : k = i := by omega
          exact absurd ⟨a, b⟩ z, a, b, c⟩, fun ⟨k, hk, a, b, c⟩ => ⟨k, by omega, a, b, c⟩⟩)
    rw [wY_nextKey_15]
    dsimp only
    rw [hb_c32 hi', nI_1 i]
    refine br_f (hb_g32 hi') (yl_vis hs h8 ht ha hi' (fun a b => br_f hb_d10 ⟨hb_i32 hi', br_c (fun l => nm_e (same fun z => z.2 l)) fun l => ?_⟩) fun z => br_t rfl (nm_e (same fun y => z y.1)))
    have e : ∀ x, (∃ k, k < i + 1 ∧ (¬ st k = 0 ∧ hh_vis (nI t) (sn t) (mk k) (mm k) (ek k) (em k)) ∧ ¬ vk k ≤ key ∧ x = vk k) ↔ (∃ k, k < i ∧ (¬ st k = 0 ∧ hh_vis (nI t) (sn t) (mk k) (mm k) (ek k) (em k)) ∧ ¬ vk k ≤ key ∧ x = vk k) ∨ x = vk i := fun x => by
      constructor
      · rintro ⟨k, hk, f, p, q⟩
        rcases Nat.lt_or_ge k i with h | h
        · exact Or.inl ⟨k, h, f, p, q⟩
        · obtain rfl : k = i := by omega
          exact Or.inr q
      · rintro (⟨k, hk, f⟩ | q)
        · exact ⟨k, by omega, f⟩
        · exact ⟨i, by omega, ⟨a, b⟩, l, q⟩
    refine br_c (fun e0 => ⟨hb_i32 hi', nm_e (nm_e (ih (i + 1) _ (by omega) (hm_0 (e0 ▸ hr) ?_ e)))⟩) fun n0 => ⟨hb_i32 hi', br_c (fun hl => nm_e (ih (i + 1) _ (by omega) (hm_le hr n0 hl e))) fun hl => ⟨hb_i32 hi', nm_e (nm_e (ih (i + 1) _ (by omega) (hm_nl hr n0 hl e)))⟩⟩
    rintro ⟨k, hk, f, _, q⟩
    exact hz k (by omega) f.1 q.symm
end
end
section
/-! stamps: (m, a) with the number t becomes (2, c) -/
def hh_cm (t c m a m' a' : Int32) : Prop := (m = 1 ∧ a = t ∧ m' = 2 ∧ a' = c) ∨ (¬ (m = 1 ∧ a = t) ∧ m' = m ∧ a' = a)
def hh_cg (t w m a m' : Int32) : Prop := (m = 1 ∧ a = t ∧ m' = w) ∨ (¬ (m = 1 ∧ a = t) ∧ m' = m)
def hh_cp (t c : Int32) (i : Nat) (m1 a1 m2 a2 : Nat → Int32) : Prop := hh_cm t c (m1 i) (a1 i) (m2 i) (a2 i) ∧ ∀ k, k ≠ i → m2 k = m1 k ∧ a2 k = a1 k
def hh_cq (t w : Int32) (i : Nat) (a m1 m2 : Nat → Int32) : Prop := hh_cg t w (m1 i) (a i) (m2 i) ∧ ∀ k, k ≠ i → m2 k = m1 k
theorem hh_cp1 {t c : Int32} {i : Nat} {m a : Nat → Int32} (h : m i = 1) (g : a i = t) : hh_cp t c i m a (upd m i 2) (upd a i c) :=
  ⟨Or.inl ⟨h, g, pk_us, pk_us⟩, fun k hk => ⟨pk_un hk, pk_un hk⟩⟩
theorem hh_cp0 {t c : Int32} {i : Nat} {m a : Nat → Int32} (h : ¬ (m i = 1 ∧ a i = t)) : hh_cp t c i m a m a :=
  ⟨Or.inr ⟨h, rfl, rfl⟩, fun k _ => ⟨rfl, rfl⟩⟩
theorem hh_cq1 {t w : Int32} {i : Nat} {a m : Nat → Int32} (h : m i = 1) (g : a i = t) : hh_cq t w i a m (upd m i w) :=
  ⟨Or.inl ⟨h, g, pk_us⟩, fun k hk => pk_un hk⟩
theorem hh_cq0 {t w : Int32} {i : Nat} {a m : Nat → Int32} (h : ¬ (m i = 1 ∧ a i = t)) : hh_cq t w i a m m :=
  ⟨Or.inr ⟨h, rfl⟩, fun k _ => rfl⟩
/-- stamped below i, as it was from i on -/
def hh_ci (t c : Int32) (i : Nat) (m a m1 a1 : Nat → Int32) : Prop := (∀ k, k < i → hh_cm t c (m k) (a k) (m1 k) (a1 k)) ∧ ∀ k, i ≤ k → m1 k = m k ∧ a1 k = a k
def hh_cj (t w : Int32) (i : Nat) (a m m1 : Nat → Int32) : Prop := (∀ k, k < i → hh_cg t w (m k) (a k) (m1 k)) ∧ ∀ k, i ≤ k → m1 k = m k
theorem hh_ci0 {t c : Int32} {m a : Nat → Int32} : hh_ci t c 0 m a m a := ⟨fun k h => absurd h (Nat.not_lt_zero k), fun k _ => ⟨rfl, rfl⟩⟩
theorem hh_cj0 {t w : Int32} {a m : Nat → Int32} : hh_cj t w 0 a m m := ⟨fun k h => absurd h (Nat.not_lt_zero k), fun k _ => rfl⟩
theorem hh_cis {t c : Int32} {i : Nat} {m a m1 a1 m2 a2 : Nat → Int32} (h : hh_ci t c i m a m1 a1) (p : hh_cp t c i m1 a1 m2 a2) : hh_ci t c (i + 1) m a m2 a2 := by
  constructor
  · intro k hk
    rcases Nat.lt_or_ge k i with z | z
    · obtain ⟨e1, e2⟩ := p.2 k (by omega)
      rw [e1, e2]
      exact h.1 k z
    · obtain rfl : k = i := by omega
      obtain ⟨e1, e2⟩ := h.2 k (by omega)
      have := p.1
      rw [e1, e2] at this
      exact this
  · intro k hk
    obtain ⟨e1, e2⟩ := p.2 k (by omega)
    rw [e1, e2]
    exact h.2 k (by omega)
theorem hh_cjs {t w : Int32} {i : Nat} {a m m1 m2 : Nat → Int32} (h : hh_cj t w i a m m1) (p : hh_cq t w i a m1 m2) : hh_cj t w (i + 1) a m m2 := by
  constructor
  · intro k hk
    rcases Nat.lt_or_ge k i with z | z
    · rw [p.2 k (by omega)]
      exact h.1 k z
    · obtain rfl : k = i := by omega
      have := p.1
      rw [h.2 k (by omega)] at this
      exact this
  · intro k hk
    rw [p.2 k (by omega)]
    exact h.2 k (by omega)
/-- the same where a place must be stored -/
def hh_di (st : Nat → Int32) (t c : Int32) (i : Nat) (m a m1 a1 : Nat → Int32) : Prop := (∀ k, k < i → ¬ st k = 0 → hh_cm t c (m k) (a k) (m1 k) (a1 k)) ∧ ∀ k, i ≤ k → m1 k = m k ∧ a1 k = a k
theorem hh_dis {st : Nat → Int32} {t c : Int32} {i : Nat} {m a m1 a1 m2 a2 : Nat → Int32} (h : hh_di st t c i m a m1 a1) (p : (¬ st i = 0 → hh_cm t c (m1 i) (a1 i) (m2 i) (a2 i)) ∧ ∀ k, k ≠ i → m2 k = m1 k ∧ a2 k = a1 k) : hh_di st t c (i + 1) m a m2 a2 := by
  constructor
  · intro k hk hs
    rcases Nat.lt_or_ge k i with z | z
    · obtain ⟨e1, e2⟩ := p.2 k (by omega)
      rw [e1, e2]
      exact h.1 k z hs
    · obtain rfl : k = i := by omega
      obtain ⟨e1, e2⟩ := h.2 k (by omega)
      have := p.1 hs
      rw [e1, e2] at this
      exact this
  · intro k hk
    obtain ⟨e1, e2⟩ := p.2 k (by omega)
    rw [e1, e2]
    exact h.2 k (by omega)
/-- the reference's abort at one place -/
def hh_ya (t m a e b m' e' : Int32) : Prop := (m = 1 ∧ a = t ∧ m' = 3 ∧ e' = e) ∨ (¬ (m = 1 ∧ a = t) ∧ m' = m ∧ hh_cg t 0 e b e')
def hh_yi (st mm em : Nat → Int32) (t : Int32) (i : Nat) (m e m1 e1 : Nat → Int32) : Prop := (∀ k, k < i → ¬ st k = 0 → hh_ya t (m k) (mm k) (e k) (em k) (m1 k) (e1 k)) ∧ ∀ k, i ≤ k → m1 k = m k ∧ e1 k = e k
theorem hh_yis {st mm em : Nat → Int32} {t : Int32} {i : Nat} {m e m1 e1 m2 e2 : Nat → Int32} (h : hh_yi st mm em t i m e m1 e1)
    (p : (¬ st i = 0 → hh_ya t (m1 i) (mm i) (e1 i) (em i) (m2 i) (e2 i)) ∧ ∀ k, k ≠ i → m2 k = m1 k ∧ e2 k = e1 k) : hh_yi st mm em t (i + 1) m e m2 e2 := by
  constructor
  · intro k hk hs
    rcases Nat.lt_or_ge k i with z | z
    · obtain ⟨e1, e2⟩ := p.2 k (by omega)
      rw [e1, e2]
      exact h.1 k z hs
    · obtain rfl : k = i := by omega
      obtain ⟨e1, e2⟩ := h.2 k (by omega)
      have := p.1 hs
      rw [e1, e2] at this
      exact this
  · intro k hk
    obtain ⟨e1, e2⟩ := p.2 k (by omega)
    rw [e1, e2]
    exact h.2 k (by omega)
section
variable {sc vl cl ck lr : Int32} {ac sn st vc vr vk vv mk mm ek em ex kk : Nat → Int32}
theorem yl_ver5 {key od h : Int32} (hc : ∀ t, t < 8 → sn t ≤ ck) (hr : ¬ od = 0 → hh_hor ac sn ck h) {post : Int32 → Prop} :
    ∀ d i acc, i + d = 32 → post (nI (acc + (List.range' i d).countP (fun j => hh_b (¬ st j = 0 ∧ (key = 0 ∨ vk j = key) ∧ (od = 0 ∨ hh_ded h (mk j) (ek j) (em j)))))) → wY_versions_5 post key od sc vl cl ck lr ac sn st vc vr vk vv mk mm ek em ex kk (d + 1) (nI acc) (nI i) := by
  intro d
  induction d with
  | zero =>
    intro i acc hi hp
    obtain rfl : i = 32 := by omega
    exact br_t hb_e32 hp
  | succ d ih =>
    intro i acc hi hp
    have hi' : i < 32 := by omega
    rw [List.range'_succ] at hp
    have k0 : ¬ (¬ st i = 0 ∧ (key = 0 ∨ vk i = key) ∧ (od = 0 ∨ hh_ded h (mk i) (ek i) (em i))) → wY_versions_5 post key od sc vl cl ck lr ac sn st vc vr vk vv mk mm ek em ex kk (d + 1) (nI acc) (nI (i + 1)) := fun z => by
      rw [List.countP_cons, if_neg (hh_bf' z), Nat.add_zero] at hp
      exact ih (i + 1) acc (by omega) hp
    have k1 : (¬ st i = 0 ∧ (key = 0 ∨ vk i = key) ∧ (od = 0 ∨ hh_ded h (mk i) (ek i) (em i))) → wY_versions_5 post key od sc vl cl ck lr ac sn st vc vr vk vv mk mm ek em ex kk (d + 1) (nI (acc + 1)) (nI (i + 1)) := fun z => by
      rw [List.countP_cons, if_pos (hh_bt.mpr z)] at hp
      refine ih (i + 1) (acc + 1) (by omega) ?_
      rw [hb_acc]
      exact hp
    have k37 : ¬ st i = 0 → (key = 0 ∨ vk i = key) → wY_versions_37 post (wY_versions_5 post key od sc vl cl ck lr ac sn st vc vr vk vv mk mm ek em ex kk (d + 1)) key od (nI acc) (nI i) sc vl cl ck lr ac sn st vc vr vk vv mk mm ek em ex kk := fun a b =>
      br_c (fun e => nm_r (nI_1 acc) (nm_r (nI_1 i) (k1 ⟨a, b, Or.inl e⟩))) fun ne =>
        yl_ded hi' hc (hr ne) a (fun z => br_f hb_d10 (nm_r (nI_1 acc) (nm_r (nI_1 i) (k1 ⟨a, b, Or.inr z⟩)))) fun z => br_t rfl (nm_r (nI_1 i) (k0 fun y => y.2.2.elim ne z))
    rw [wY_versions_5]
    dsimp only
    rw [hb_c32 hi', nI_1 i]
    exact br_f (hb_g32 hi') ⟨hb_i32 hi', br_c (fun e => nm_e (k0 fun y => y.1 e)) fun a => br_c (fun e => k37 a (Or.inl e)) fun ne => ⟨hb_i32 hi', br_c (fun e => k37 a (Or.inr e)) fun n2 => nm_e (k0 fun y => y.2.1.elim ne n2)⟩⟩
def hh_emp (st vc : Nat → Int32) (c : Int32) : Prop := ∀ j, j < 32 → ¬ st j = 0 → ¬ vc j = c
theorem yl_emp {c : Int32} {post : Int32 → Prop} (h1 : hh_emp st vc c → post 1) (h0 : ¬ hh_emp st vc c → post 0) : wpY_empty post (sc, vl, cl, ck, lr, ac, sn, st, vc, vr, vk, vv, mk, mm, ek, em, ex, kk) c := by
  have main : ∀ d i, i + d = 32 → (∀ j, j < i → ¬ st j = 0 → ¬ vc j = c) → wY_empty_2 post c sc vl cl ck lr ac sn st vc vr vk vv mk mm ek em ex kk (d + 1) (nI i) := by
    intro d
    induction d with
    | zero =>
      intro i hi hk
      obtain rfl : i = 32 := by omega
      exact br_t hb_e32 (h1 hk)
    | succ d ih =>
      intro i hi hk
      have hi' : i < 32 := by omega
      have next : (¬ st i = 0 → ¬ vc i = c) → wY_empty_2 post c sc vl cl ck lr ac sn st vc vr vk vv mk mm ek em ex kk (d + 1) (nI (i + 1)) := fun z =>
        ih (i + 1) (by omega) fun k hk' => by
          rcases Nat.lt_or_ge k i with h | h
          · exact hk k h
          · obtain rfl : k = i := by omega
            exact z
      rw [wY_empty_2]
      dsimp only
      rw [hb_c32 hi', nI_1 i]
      exact br_f (hb_g32 hi') ⟨hb_i32 hi', br_c (fun e => nm_e (next fun z => absurd e z)) fun a => ⟨hb_i32 hi', br_c (fun e => h0 fun z => z i hi' a e) fun ne => nm_e (next fun _ => ne)⟩⟩
  exact ⟨33, main 32 0 rfl fun k hk => absurd hk (Nat.not_lt_zero k)⟩
theorem yl_chn5 {key oe : Int32} {post : Int32 → Prop} :
    ∀ d i acc, i + d = 32 → post (nI (acc + (List.range' i d).countP (fun j => hh_b (¬ ex j = 0 ∧ (key = 0 ∨ kk j = key) ∧ (oe = 0 ∨ hh_emp st vc (nI j)))))) → wY_chains_5 post key oe sc vl cl ck lr ac sn st vc vr vk vv mk mm ek em ex kk (d + 1) (nI acc) (nI i) := by
  intro d
  induction d with
  | zero =>
    intro i acc hi hp
    obtain rfl : i = 32 := by omega
    exact br_t hb_e32 hp
  | succ d ih =>
    intro i acc hi hp
    have hi' : i < 32 := by omega
    rw [List.range'_succ] at hp
    have k0 : ¬ (¬ ex i = 0 ∧ (key = 0 ∨ kk i = key) ∧ (oe = 0 ∨ hh_emp st vc (nI i))) → wY_chains_5 post key oe sc vl cl ck lr ac sn st vc vr vk vv mk mm ek em ex kk (d + 1) (nI acc) (nI (i + 1)) := fun z => by
      rw [List.countP_cons, if_neg (hh_bf' z), Nat.add_zero] at hp
      exact ih (i + 1) acc (by omega) hp
    have k1 : (¬ ex i = 0 ∧ (key = 0 ∨ kk i = key) ∧ (oe = 0 ∨ hh_emp st vc (nI i))) → wY_chains_5 post key oe sc vl cl ck lr ac sn st vc vr vk vv mk mm ek em ex kk (d + 1) (nI (acc + 1)) (nI (i + 1)) := fun z => by
      rw [List.countP_cons, if_pos (hh_bt.mpr z)] at hp
      refine ih (i + 1) (acc + 1) (by omega) ?_
      rw [hb_acc]
      exact hp
    have k37 : ¬ ex i = 0 → (key = 0 ∨ kk i = key) → wY_chains_37 post (wY_chains_5 post key oe sc vl cl ck lr ac sn st vc vr vk vv mk mm ek em ex kk (d + 1)) key oe (nI acc) (nI i) sc vl cl ck lr ac sn st vc vr vk vv mk mm ek em ex kk := fun a b =>
      br_c (fun e => nm_r (nI_1 acc) (nm_r (nI_1 i) (k1 ⟨a, b, Or.inl e⟩))) fun ne =>
        yl_emp (fun z => br_f hb_d10 (nm_r (nI_1 acc) (nm_r (nI_1 i) (k1 ⟨a, b, Or.inr z⟩)))) fun z => br_t rfl (nm_r (nI_1 i) (k0 fun y => y.2.2.elim ne z))
    rw [wY_chains_5]
    dsimp only
    rw [hb_c32 hi', nI_1 i]
    exact br_f (hb_g32 hi') ⟨hb_i32 hi', br_c (fun e => nm_e (k0 fun y => y.1 e)) fun a => br_c (fun e => k37 a (Or.inl e)) fun ne => ⟨hb_i32 hi', br_c (fun e => k37 a (Or.inr e)) fun n2 => nm_e (k0 fun y => y.2.1.elim ne n2)⟩⟩
theorem yl_new {key : Int32} {post : Int32 → SY → Prop} (hx : ∃ q, q < 32 ∧ ex q = 0) (hp : ∀ q, q < 32 → ex q = 0 → post (nI q) (sc, vl, cl, ck, lr, ac, sn, st, vc, vr, vk, vv, mk, mm, ek, em, upd ex q 1, upd kk q key)) : wpY_newChain post (sc, vl, cl, ck, lr, ac, sn, st, vc, vr, vk, vv, mk, mm, ek, em, ex, kk) key := by
  have main : ∀ d i, i + d = 32 → (∀ j, j < i → ¬ ex j = 0) → wY_newChain_2 post key sc vl cl ck lr ac sn st vc vr vk vv mk mm ek em ex kk (d + 1) (nI i) := by
    intro d
    induction d with
    | zero =>
      intro i hi hk
      obtain rfl : i = 32 := by omega
      obtain ⟨q, hq, e⟩ := hx
      exact absurd e (hk q hq)
    | succ d ih =>
      intro i hi hk
      have hi' : i < 32 := by omega
      rw [wY_newChain_2]
      dsimp only
      rw [hb_c32 hi', nI_1 i, hb_vb1]
      refine br_f (hb_g32 hi') ⟨hb_i32 hi', br_c (fun e => ⟨hb_i32 hi', nm_e ⟨hb_i32 hi', nm_e (hp i hi' e)⟩⟩) fun ne => nm_e (ih (i + 1) (by omega) fun k hk' => ?_)⟩
      rcases Nat.lt_or_ge k i with h | h
      · exact hk k h
      · obtain rfl : k = i := by omega
        exact ne
  exact ⟨33, main 32 0 rfl fun k hk => absurd hk (Nat.not_lt_zero k)⟩
theorem yl_sto {t c row key val : Int32} {post : SY → Prop} (hx : ∃ j, j < 32 ∧ st j = 0)
    (hp : ∀ j, j < 32 → st j = 0 → post (sc, vl, cl, ck, lr, ac, sn, upd st j 1, upd vc j c, upd vr j row, upd vk j key, upd vv j val, upd mk j 1, upd mm j t, upd ek j 0, upd em j 0, ex, kk)) : wpY_store post (sc, vl, cl, ck, lr, ac, sn, st, vc, vr, vk, vv, mk, mm, ek, em, ex, kk) t c row key val := by
  have main : ∀ d i, i + d = 32 → (∀ j, j < i → ¬ st j = 0) → wY_store_3 post t c row key val sc vl cl ck lr ac sn st vc vr vk vv mk mm ek em ex kk (d + 1) (nI i) := by
    intro d
    induction d with
    | zero =>
      intro i hi hk
      obtain rfl : i = 32 := by omega
      obtain ⟨q, hq, e⟩ := hx
      exact absurd e (hk q hq)
    | succ d ih =>
      intro i hi hk
      have hi' : i < 32 := by omega
      have ii := hb_i32 hi'
      rw [wY_store_3]
      dsimp only
      rw [hb_c32 hi', nI_1 i, hb_vb1]
      refine br_f (hb_g32 hi') ⟨ii, br_c (fun e => ⟨ii, nm_e ⟨ii, nm_e ⟨ii, nm_e ⟨ii, nm_e ⟨ii, nm_e ⟨ii, nm_e ⟨ii, nm_e ⟨ii, nm_e ⟨ii, nm_e (hp i hi' e)⟩⟩⟩⟩⟩⟩⟩⟩⟩) fun ne => nm_e (ih (i + 1) (by omega) fun k hk' => ?_)⟩
      rcases Nat.lt_or_ge k i with h | h
      · exact hk k h
      · obtain rfl : k = i := by omega
        exact ne
  exact ⟨33, main 32 0 rfl fun k hk => absurd hk (Nat.not_lt_zero k)⟩
theorem yl_com {t : Nat} (ht : t < 8) {post : Int32 → SY → Prop}
    (hp : ∀ mk' mm' ek' em', hh_di st (nI t) ck 32 mk mm mk' mm' → hh_di st (nI t) ck 32 ek em ek' em' → post 0 (sc, vl, cl, ck, lr, upd ac t 0, sn, st, vc, vr, vk, vv, mk', mm', ek', em', ex, kk)) :
    ∀ d i mk1 mm1 ek1 em1, i + d = 32 → hh_di st (nI t) ck i mk mm mk1 mm1 → hh_di st (nI t) ck i ek em ek1 em1 → wY_commit_22 post (nI t) sc vl cl ck lr (d + 1) (nI i) ac sn st vc vr vk vv mk1 mm1 ek1 em1 ex kk := by
  intro d
  induction d with
  | zero =>
    intro i mk1 mm1 ek1 em1 hi h1 h2
    obtain rfl : i = 32 := by omega
    rw [wY_commit_22]
    dsimp only
    rw [hb_c8 ht, hb_vb0]
    exact br_t hb_e32 ⟨hb_i8 ht, nm_e (hp _ _ _ _ h1 h2)⟩
  | succ d ih =>
    intro i mk1 mm1 ek1 em1 hi h1 h2
    have hi' : i < 32 := by omega
    have ii := hb_i32 hi'
    have k74 : ∀ mk2 mm2, ((¬ st i = 0 → hh_cm (nI t) ck (mk1 i) (mm1 i) (mk2 i) (mm2 i)) ∧ ∀ k, k ≠ i → mk2 k = mk1 k ∧ mm2 k = mm1 k) →
        wY_commit_74 post (wY_commit_22 post (nI t) sc vl cl ck lr (d + 1)) (nI t) (nI i) sc vl cl ck lr ac sn st vc vr vk vv mk2 mm2 ek1 em1 ex kk := by
      intro mk2 mm2 p
      have kJ : ∀ ek2 em2, ((¬ st i = 0 → hh_cm (nI t) ck (ek1 i) (em1 i) (ek2 i) (em2 i)) ∧ ∀ k, k ≠ i → ek2 k = ek1 k ∧ em2 k = em1 k) →
          wY_commit_22 post (nI t) sc vl cl ck lr (d + 1) (nI (i + 1)) ac sn st vc vr vk vv mk2 mm2 ek2 em2 ex kk := fun ek2 em2 p2 =>
        ih (i + 1) mk2 mm2 ek2 em2 (by omega) (hh_dis h1 p) (hh_dis h2 p2)
      unfold wY_commit_74
      rw [hb_c32 hi', nI_1 i]
      refine ⟨ii, br_c (fun e => nm_e (kJ ek1 em1 ⟨fun z => absurd e z, fun k _ => ⟨rfl, rfl⟩⟩)) fun a => ⟨ii, br_c (fun e1 => ⟨ii, br_c (fun e => ⟨ii, nm_e ⟨ii, nm_e (nm_e (kJ _ _ ⟨fun _ => (hh_cp1 e1 e).1, (hh_cp1 (t := nI t) (c := ck) e1 e).2⟩))⟩⟩) fun ne => nm_e (kJ ek1 em1 ⟨fun _ => (hh_cp0 fun z => ne z.2).1, fun k _ => ⟨rfl, rfl⟩⟩)⟩) fun n1 => nm_e (kJ ek1 em1 ⟨fun _ => (hh_cp0 fun z => n1 z.1).1, fun k _ => ⟨rfl, rfl⟩⟩)⟩⟩
    rw [wY_commit_22]
    dsimp only
    rw [hb_c32 hi']
    exact br_f (hb_g32 hi') ⟨ii, br_c (fun e => k74 mk1 mm1 ⟨fun z => absurd e z, fun k _ => ⟨rfl, rfl⟩⟩) fun a => ⟨ii, br_c (fun e1 => ⟨ii, br_c (fun e => ⟨ii, nm_e ⟨ii, nm_e (k74 _ _ ⟨fun _ => (hh_cp1 e1 e).1, (hh_cp1 (t := nI t) (c := ck) e1 e).2⟩)⟩⟩) fun ne => k74 mk1 mm1 ⟨fun _ => (hh_cp0 fun z => ne z.2).1, fun k _ => ⟨rfl, rfl⟩⟩⟩) fun n1 => k74 mk1 mm1 ⟨fun _ => (hh_cp0 fun z => n1 z.1).1, fun k _ => ⟨rfl, rfl⟩⟩⟩⟩
theorem yl_abo {t : Nat} (ht : t < 8) {post : Int32 → SY → Prop}
    (hp : ∀ mk' ek', hh_yi st mm em (nI t) 32 mk ek mk' ek' → post 0 (sc, vl, cl, ck, lr, upd ac t 0, sn, st, vc, vr, vk, vv, mk', mm, ek', em, ex, kk)) :
    ∀ d i mk1 ek1, i + d = 32 → hh_yi st mm em (nI t) i mk ek mk1 ek1 → wY_abort_12 post (nI t) sc vl cl ck lr (d + 1) (nI i) ac sn st vc vr vk vv mk1 mm ek1 em ex kk := by
  intro d
  induction d with
  | zero =>
    intro i mk1 ek1 hi h1
    obtain rfl : i = 32 := by omega
    rw [wY_abort_12]
    dsimp only
    rw [hb_c8 ht, hb_vb0]
    exact br_t hb_e32 ⟨hb_i8 ht, nm_e (hp _ _ h1)⟩
  | succ d ih =>
    intro i mk1 ek1 hi h1
    have hi' : i < 32 := by omega
    have ii := hb_i32 hi'
    have kJ : ∀ mk2 ek2, ((¬ st i = 0 → hh_ya (nI t) (mk1 i) (mm i) (ek1 i) (em i) (mk2 i) (ek2 i)) ∧ ∀ k, k ≠ i → mk2 k = mk1 k ∧ ek2 k = ek1 k) →
        wY_abort_12 post (nI t) sc vl cl ck lr (d + 1) (nI (i + 1)) ac sn st vc vr vk vv mk2 mm ek2 em ex kk := fun mk2 ek2 p => ih (i + 1) mk2 ek2 (by omega) (hh_yis h1 p)
    have k57 : (¬ st i = 0 → ¬ (mk1 i = 1 ∧ mm i = nI t)) → wY_abort_57 post (wY_abort_12 post (nI t) sc vl cl ck lr (d + 1)) (nI t) (nI i) sc vl cl ck lr ac sn st vc vr vk vv mk1 mm ek1 em ex kk := by
      intro hm
      unfold wY_abort_57
      rw [hb_c32 hi', nI_1 i]
      exact ⟨ii, br_c (fun e => nm_e (kJ mk1 ek1 ⟨fun z => absurd e z, fun k _ => ⟨rfl, rfl⟩⟩)) fun a => ⟨ii, br_c (fun e1 => ⟨ii, br_c (fun e => ⟨ii, nm_e (nm_e (kJ mk1 _ ⟨fun _ => Or.inr ⟨hm a, rfl, (hh_cq1 e1 e).1⟩, fun k hk => ⟨rfl, pk_un hk⟩⟩))⟩) fun ne => nm_e (kJ mk1 ek1 ⟨fun _ => Or.inr ⟨hm a, rfl, (hh_cq0 fun z => ne z.2).1⟩, fun k _ => ⟨rfl, rfl⟩⟩)⟩) fun n1 => nm_e (kJ mk1 ek1 ⟨fun _ => Or.inr ⟨hm a, rfl, (hh_cq0 fun z => n1 z.1).1⟩, fun k _ => ⟨rfl, rfl⟩⟩)⟩⟩
    rw [wY_abort_12]
    dsimp only
    rw [hb_c32 hi', nI_1 i]
    exact br_f (hb_g32 hi') ⟨ii, br_c (fun e => k57 fun z => absurd e z) fun a => ⟨ii, br_c (fun e1 => ⟨ii, br_c (fun e => ⟨ii, nm_e (nm_e (kJ _ ek1 ⟨fun _ => Or.inl ⟨e1, e, pk_us, rfl⟩, fun k hk => ⟨pk_un hk, rfl⟩⟩))⟩) fun ne => k57 fun _ z => ne z.2⟩) fun n1 => k57 fun _ z => n1 z.1⟩⟩
theorem yl_pru {key h : Int32} (hc : ∀ t, t < 8 → sn t ≤ ck) (hr : hh_hor ac sn ck h) {post : Int32 → SY → Prop}
    (hp : ∀ st', (∀ j, j < 32 → (¬ st' j = 0 ↔ ¬ st j = 0 ∧ ¬ ((key = 0 ∨ vk j = key) ∧ hh_ded h (mk j) (ek j) (em j)))) →
      post (nI ((List.range' 0 32).countP (fun j => hh_b (¬ st j = 0 ∧ (key = 0 ∨ vk j = key) ∧ hh_ded h (mk j) (ek j) (em j))))) (sc, vl, cl, ck, lr, ac, sn, st', vc, vr, vk, vv, mk, mm, ek, em, ex, kk)) :
    ∀ d i acc st1, i + d = 32 → acc + (List.range' i d).countP (fun j => hh_b (¬ st j = 0 ∧ (key = 0 ∨ vk j = key) ∧ hh_ded h (mk j) (ek j) (em j))) = (List.range' 0 32).countP (fun j => hh_b (¬ st j = 0 ∧ (key = 0 ∨ vk j = key) ∧ hh_ded h (mk j) (ek j) (em j))) →
      (∀ j, j < i → (¬ st1 j = 0 ↔ ¬ st j = 0 ∧ ¬ ((key = 0 ∨ vk j = key) ∧ hh_ded h (mk j) (ek j) (em j)))) → (∀ j, i ≤ j → st1 j = st j) →
      wY_prune_4 post key sc vl cl ck lr (d + 1) (nI acc) (nI i) ac sn st1 vc vr vk vv mk mm ek em ex kk := by
  intro d
  induction d with
  | zero =>
    intro i acc st1 hi ha h1 h2
    obtain rfl : i = 32 := by omega
    refine br_t hb_e32 ?_
    have ha' : acc = _ := ha
    rw [ha']
    exact hp st1 h1
  | succ d ih =>
    intro i acc st1 hi ha h1 h2
    have hi' : i < 32 := by omega
    have ii := hb_i32 hi'
    have es1 : st1 i = st i := h2 i (by omega)
    rw [List.range'_succ] at ha
    have k0 : ¬ (¬ st i = 0 ∧ (key = 0 ∨ vk i = key) ∧ hh_ded h (mk i) (ek i) (em i)) → wY_prune_4 post key sc vl cl ck lr (d + 1) (nI acc) (nI (i + 1)) ac sn st1 vc vr vk vv mk mm ek em ex kk := fun z => by
      rw [List.countP_cons, if_neg (hh_bf' z), Nat.add_zero] at ha
      refine ih (i + 1) acc st1 (by omega) ha (fun j hj => ?_) fun j hj => h2 j (by omega)
      rcases Nat.lt_or_ge j i with y | y
      · exact h1 j y
      · obtain rfl : j = i := by omega
        rw [es1]
        exact ⟨fun a => ⟨a, fun b => z ⟨a, b⟩⟩, fun a => a.1⟩
    have k1 : ¬ st i = 0 → (key = 0 ∨ vk i = key) → hh_ded h (mk i) (ek i) (em i) → wY_prune_4 post key sc vl cl ck lr (d + 1) (nI (acc + 1)) (nI (i + 1)) ac sn (upd st1 i 0) vc vr vk vv mk mm ek em ex kk := fun a b c => by
      rw [List.countP_cons, if_pos (hh_bt.mpr ⟨a, b, c⟩)] at ha
      refine ih (i + 1) (acc + 1) _ (by omega) (by rw [← ha]; omega) (fun j hj => ?_) fun j hj => ?_
      · rcases Nat.lt_or_ge j i with y | y
        · rw [pk_un (by omega)]
          exact h1 j y
        · obtain rfl : j = i := by omega
          rw [pk_us]
          exact ⟨fun z => absurd rfl z, fun z => absurd ⟨b, c⟩ z.2⟩
      · rw [pk_un (by omega)]
        exact h2 j (by omega)
    have k33 : ¬ st i = 0 → (key = 0 ∨ vk i = key) → wY_prune_33 post (wY_prune_4 post key sc vl cl ck lr (d + 1)) key (nI acc) (nI i) sc vl cl ck lr ac sn st1 vc vr vk vv mk mm ek em ex kk := fun a b => by
      unfold wY_prune_33
      rw [hb_c32 hi', nI_1 i, hb_vb0, nI_1 acc]
      exact yl_ded hi' hc hr (by rw [es1]; exact a) (fun z => br_f hb_d10 ⟨ii, nm_e (nm_e (nm_e (k1 a b z)))⟩) fun z => br_t rfl (nm_e (k0 fun y => z y.2.2))
    rw [wY_prune_4]
    dsimp only
    rw [hb_c32 hi', nI_1 i, es1]
    exact br_f (hb_g32 hi') ⟨ii, br_c (fun e => nm_e (k0 fun y => y.1 e)) fun a => br_c (fun e => k33 a (Or.inl e)) fun ne => ⟨ii, br_c (fun e => k33 a (Or.inr e)) fun n2 => nm_e (k0 fun y => y.2.1.elim ne n2)⟩⟩
theorem yl_vac {post : Int32 → SY → Prop}
    (hp : ∀ ex', (∀ q, q < 32 → (¬ ex' q = 0 ↔ ¬ ex q = 0 ∧ ¬ hh_emp st vc (nI q))) →
      post (nI ((List.range' 0 32).countP (fun q => hh_b (¬ ex q = 0 ∧ hh_emp st vc (nI q))))) (sc, vl, cl, ck, lr, ac, sn, st, vc, vr, vk, vv, mk, mm, ek, em, ex', kk)) :
    ∀ d i acc ex1, i + d = 32 → acc + (List.range' i d).countP (fun q => hh_b (¬ ex q = 0 ∧ hh_emp st vc (nI q))) = (List.range' 0 32).countP (fun q => hh_b (¬ ex q = 0 ∧ hh_emp st vc (nI q))) →
      (∀ q, q < i → (¬ ex1 q = 0 ↔ ¬ ex q = 0 ∧ ¬ hh_emp st vc (nI q))) → (∀ q, i ≤ q → ex1 q = ex q) →
      wY_vacuum_10 post sc vl cl ck lr (d + 1) (nI acc) (nI i) ac sn st vc vr vk vv mk mm ek em ex1 kk := by
  intro d
  induction d with
  | zero =>
    intro i acc ex1 hi ha h1 h2
    obtain rfl : i = 32 := by omega
    refine br_t hb_e32 ?_
    have ha' : acc = _ := ha
    rw [ha']
    exact hp ex1 h1
  | succ d ih =>
    intro i acc ex1 hi ha h1 h2
    have hi' : i < 32 := by omega
    have ii := hb_i32 hi'
    have es1 : ex1 i = ex i := h2 i (by omega)
    rw [List.range'_succ] at ha
    have k0 : ¬ (¬ ex i = 0 ∧ hh_emp st vc (nI i)) → wY_vacuum_10 post sc vl cl ck lr (d + 1) (nI acc) (nI (i + 1)) ac sn st vc vr vk vv mk mm ek em ex1 kk := fun z => by
      rw [List.countP_cons, if_neg (hh_bf' z), Nat.add_zero] at ha
      refine ih (i + 1) acc ex1 (by omega) ha (fun j hj => ?_) fun j hj => h2 j (by omega)
      rcases Nat.lt_or_ge j i with y | y
      · exact h1 j y
      · obtain rfl : j = i := by omega
        rw [es1]
        exact ⟨fun a => ⟨a, fun b => z ⟨a, b⟩⟩, fun a => a.1⟩
    have k1 : ¬ ex i = 0 → hh_emp st vc (nI i) → wY_vacuum_10 post sc vl cl ck lr (d + 1) (nI (acc + 1)) (nI (i + 1)) ac sn st vc vr vk vv mk mm ek em (upd ex1 i 0) kk := fun a c => by
      rw [List.countP_cons, if_pos (hh_bt.mpr ⟨a, c⟩)] at ha
      refine ih (i + 1) (acc + 1) _ (by omega) (by rw [← ha]; omega) (fun j hj => ?_) fun j hj => ?_
      · rcases Nat.lt_or_ge j i with y | y
        · rw [pk_un (by omega)]
          exact h1 j y
        · obtain rfl : j = i := by omega
          rw [pk_us]
          exact ⟨fun z => absurd rfl z, fun z => absurd c z.2⟩
      · rw [pk_un (by omega)]
        exact h2 j (by omega)
    rw [wY_vacuum_10]
    dsimp only
    rw [hb_c32 hi', nI_1 i, es1, hb_vb0, nI_1 acc]
    exact br_f (hb_g32 hi') ⟨ii, br_c (fun e => nm_e (k0 fun y => y.1 e)) fun a => yl_emp (fun z => br_f hb_d10 ⟨ii, nm_e (nm_e (nm_e (k1 a z)))⟩) fun z => br_t rfl (nm_e (k0 fun y => z y.2))⟩
end
end
section
section
variable {u0 u1 u2 u3 u4 u5 u6 u7 sc vl cl ck lr sd lu iz : Int32} {ac sn tr tk tv ms mn es en tn tf ls lt lf ik ir : Nat → Int32}
theorem xl_com {t : Nat} (ht : t < 8) {post : Int32 → SX → Prop}
    (hp : ∀ ms' mn' es' en', hh_ci (nI t) ck 32 ms mn ms' mn' → hh_ci (nI t) ck 32 es en es' en' → post 0 (u0, u1, u2, u3, u4, u5, u6, u7, sc, vl, cl, ck, lr, sd, lu, iz, upd ac t 0, sn, tr, tk, tv, ms', mn', es', en', tn, tf, ls, lt, lf, ik, ir)) :
    ∀ d i ms1 mn1 es1 en1, i + d = 32 → hh_ci (nI t) ck i ms mn ms1 mn1 → hh_ci (nI t) ck i es en es1 en1 → wX_commit_22 post (nI t) u0 u1 u2 u3 u4 u5 u6 u7 sc vl cl ck lr sd lu iz (d + 1) (nI i) ac sn tr tk tv ms1 mn1 es1 en1 tn tf ls lt lf ik ir := by
  intro d
  induction d with
  | zero =>
    intro i ms1 mn1 es1 en1 hi h1 h2
    obtain rfl : i = 32 := by omega
    rw [wX_commit_22]
    dsimp only
    rw [hb_c8 ht, hb_vb0]
    exact br_t hb_e32 ⟨hb_i8 ht, nm_e (hp _ _ _ _ h1 h2)⟩
  | succ d ih =>
    intro i ms1 mn1 es1 en1 hi h1 h2
    have hi' : i < 32 := by omega
    have ii := hb_i32 hi'
    have k65 : ∀ ms2 mn2, hh_cp (nI t) ck i ms1 mn1 ms2 mn2 → wX_commit_65 post (wX_commit_22 post (nI t) u0 u1 u2 u3 u4 u5 u6 u7 sc vl cl ck lr sd lu iz (d + 1)) (nI t) (nI i) u0 u1 u2 u3 u4 u5 u6 u7 sc vl cl ck lr sd lu iz ac sn tr tk tv ms2 mn2 es1 en1 tn tf ls lt lf ik ir := by
      intro ms2 mn2 p
      have kJ : ∀ es2 en2, hh_cp (nI t) ck i es1 en1 es2 en2 → wX_commit_22 post (nI t) u0 u1 u2 u3 u4 u5 u6 u7 sc vl cl ck lr sd lu iz (d + 1) (nI (i + 1)) ac sn tr tk tv ms2 mn2 es2 en2 tn tf ls lt lf ik ir := fun es2 en2 p2 =>
        ih (i + 1) ms2 mn2 es2 en2 (by omega) (hh_cis h1 p) (hh_cis h2 p2)
      unfold wX_commit_65
      rw [hb_c32 hi', nI_1 i]
      exact ⟨ii, br_c (fun e1 => ⟨ii, br_c (fun e => ⟨ii, nm_e ⟨ii, nm_e (nm_e (kJ _ _ (hh_cp1 e1 e)))⟩⟩) fun ne => nm_e (kJ es1 en1 (hh_cp0 fun z => ne z.2))⟩) fun n1 => nm_e (kJ es1 en1 (hh_cp0 fun z => n1 z.1))⟩
    rw [wX_commit_22]
    dsimp only
    rw [hb_c32 hi']
    exact br_f (hb_g32 hi') ⟨ii, br_c (fun e1 => ⟨ii, br_c (fun e => ⟨ii, nm_e ⟨ii, nm_e (k65 _ _ (hh_cp1 e1 e))⟩⟩) fun ne => k65 ms1 mn1 (hh_cp0 fun z => ne z.2)⟩) fun n1 => k65 ms1 mn1 (hh_cp0 fun z => n1 z.1)⟩
theorem xl_abo {t : Nat} (ht : t < 8) {post : Int32 → SX → Prop}
    (hp : ∀ ms' es', hh_cj (nI t) 3 32 mn ms ms' → hh_cj (nI t) 0 32 en es es' → post 0 (u0, u1, u2, u3, u4, u5, u6, u7, sc, vl, cl, ck, lr, sd, lu, iz, upd ac t 0, sn, tr, tk, tv, ms', mn, es', en, tn, tf, ls, lt, lf, ik, ir)) :
    ∀ d i ms1 es1, i + d = 32 → hh_cj (nI t) 3 i mn ms ms1 → hh_cj (nI t) 0 i en es es1 → wX_abort_12 post (nI t) u0 u1 u2 u3 u4 u5 u6 u7 sc vl cl ck lr sd lu iz (d + 1) (nI i) ac sn tr tk tv ms1 mn es1 en tn tf ls lt lf ik ir := by
  intro d
  induction d with
  | zero =>
    intro i ms1 es1 hi h1 h2
    obtain rfl : i = 32 := by omega
    rw [wX_abort_12]
    dsimp only
    rw [hb_c8 ht, hb_vb0]
    exact br_t hb_e32 ⟨hb_i8 ht, nm_e (hp _ _ h1 h2)⟩
  | succ d ih =>
    intro i ms1 es1 hi h1 h2
    have hi' : i < 32 := by omega
    have ii := hb_i32 hi'
    have k45 : ∀ ms2, hh_cq (nI t) 3 i mn ms1 ms2 → wX_abort_45 post (wX_abort_12 post (nI t) u0 u1 u2 u3 u4 u5 u6 u7 sc vl cl ck lr sd lu iz (d + 1)) (nI t) (nI i) u0 u1 u2 u3 u4 u5 u6 u7 sc vl cl ck lr sd lu iz ac sn tr tk tv ms2 mn es1 en tn tf ls lt lf ik ir := by
      intro ms2 p
      have kJ : ∀ es2, hh_cq (nI t) 0 i en es1 es2 → wX_abort_12 post (nI t) u0 u1 u2 u3 u4 u5 u6 u7 sc vl cl ck lr sd lu iz (d + 1) (nI (i + 1)) ac sn tr tk tv ms2 mn es2 en tn tf ls lt lf ik ir := fun es2 p2 =>
        ih (i + 1) ms2 es2 (by omega) (hh_cjs h1 p) (hh_cjs h2 p2)
      unfold wX_abort_45
      rw [hb_c32 hi', nI_1 i]
      exact ⟨ii, br_c (fun e1 => ⟨ii, br_c (fun e => ⟨ii, nm_e (nm_e (kJ _ (hh_cq1 e1 e)))⟩) fun ne => nm_e (kJ es1 (hh_cq0 fun z => ne z.2))⟩) fun n1 => nm_e (kJ es1 (hh_cq0 fun z => n1 z.1))⟩
    rw [wX_abort_12]
    dsimp only
    rw [hb_c32 hi']
    exact br_f (hb_g32 hi') ⟨ii, br_c (fun e1 => ⟨ii, br_c (fun e => ⟨ii, nm_e (k45 _ (hh_cq1 e1 e))⟩) fun ne => k45 ms1 (hh_cq0 fun z => ne z.2)⟩) fun n1 => k45 ms1 (hh_cq0 fun z => n1 z.1)⟩
theorem xl_sto {S U i p : Nat} {t row key val : Int32} (hS : S < 32) (hU : U < 64) (hi : i < 32) (hp : p < 64) (e1 : sd = nI S) (e2 : lu = nI U) (e3 : tf S = nI i) (e4 : lf U = nI p) {post : Int32 → SX → Prop}
    (h : post (nI p) (u0, u1, u2, u3, u4, u5, u6, u7, sc, vl, cl, ck, lr, nI (S + 1), nI (U + 1), iz, ac, sn, upd tr i row, upd tk i key, upd tv i val, upd ms i 1, upd mn i t, upd es i 0, en, upd tn i (-1), tf, upd ls p 1, upd lt p (nI i), lf, ik, ir)) :
    wpX_storeVersion post (u0, u1, u2, u3, u4, u5, u6, u7, sc, vl, cl, ck, lr, sd, lu, iz, ac, sn, tr, tk, tv, ms, mn, es, en, tn, tf, ls, lt, lf, ik, ir) t row key val := by
  subst e1 e2
  have ii := hb_i32 hi
  have pp := hb_i64 hp
  unfold wpX_storeVersion
  dsimp only
  rw [hb_c32 hS, hb_c64 hU, e3, e4, nI_1 S, nI_1 U]
  refine ⟨hb_i32 hS, nm_e (nm_e ?_)⟩
  rw [hb_c32 hi]
  refine ⟨ii, nm_e ⟨ii, nm_e ⟨ii, nm_e ⟨ii, nm_e ⟨ii, nm_e ⟨ii, nm_e ⟨ii, nm_e ⟨hb_i64 hU, nm_e (nm_e ?_)⟩⟩⟩⟩⟩⟩⟩⟩
  rw [hb_c64 hp]
  exact ⟨pp, nm_e ⟨pp, nm_e h⟩⟩
theorem xl_end {i : Nat} {t : Int32} (hi : i < 32) {post : SX → Prop} (h : post (u0, u1, u2, u3, u4, u5, u6, u7, sc, vl, cl, ck, lr, sd, lu, iz, ac, sn, tr, tk, tv, ms, mn, upd es i 1, upd en i t, tn, tf, ls, lt, lf, ik, ir)) : wpX_endBy post (u0, u1, u2, u3, u4, u5, u6, u7, sc, vl, cl, ck, lr, sd, lu, iz, ac, sn, tr, tk, tv, ms, mn, es, en, tn, tf, ls, lt, lf, ik, ir) (nI i) t := by
  unfold wpX_endBy
  dsimp only
  rw [hb_c32 hi]
  exact ⟨hb_i32 hi, nm_e ⟨hb_i32 hi, nm_e h⟩⟩
theorem xl_lnk {o p i : Nat} (ho : o < 32) (hp : p < 64) (hi : i < 32) (e : lt p = nI i) {post : SX → Prop} (h : post (u0, u1, u2, u3, u4, u5, u6, u7, sc, vl, cl, ck, lr, sd, lu, iz, ac, sn, tr, tk, tv, ms, mn, es, en, upd (upd tn i (tn o)) o (nI p), tf, ls, lt, lf, ik, ir)) : wpX_linkAfter post (u0, u1, u2, u3, u4, u5, u6, u7, sc, vl, cl, ck, lr, sd, lu, iz, ac, sn, tr, tk, tv, ms, mn, es, en, tn, tf, ls, lt, lf, ik, ir) (nI o) (nI p) := by
  unfold wpX_linkAfter
  dsimp only
  rw [hb_c64 hp, e]
  refine ⟨hb_i64 hp, nm_e ?_⟩
  rw [hb_c32 hi, hb_c32 ho]
  exact ⟨hb_i32 ho, hb_i32 hi, nm_e ⟨hb_i32 ho, nm_e h⟩⟩
/-- an entry put in at r -/
def hh_ins (n r : Nat) (key root : Int32) (ik ir ik' ir' : Nat → Int32) : Prop :=
  (∀ p, p < r → ik' p = ik p ∧ ir' p = ir p) ∧ (ik' r = key ∧ ir' r = root) ∧ ∀ p, r ≤ p → p < n → ik' (p + 1) = ik p ∧ ir' (p + 1) = ir p
theorem xl_add13 {n r : Nat} {key root : Int32} (hn : n < 32) (hr : r ≤ n) (ez : iz = nI n) {post : SX → Prop}
    (h : ∀ ik' ir', hh_ins n r key root ik ir ik' ir' → post (u0, u1, u2, u3, u4, u5, u6, u7, sc, vl, cl, ck, lr, sd, lu, nI (n + 1), ac, sn, tr, tk, tv, ms, mn, es, en, tn, tf, ls, lt, lf, ik', ir')) :
    ∀ d ik1 ir1, r + d ≤ n → (∀ p, p ≤ r + d → p < n → ik1 p = ik p ∧ ir1 p = ir p) → (∀ p, r + d ≤ p → p < n → ik1 (p + 1) = ik p ∧ ir1 (p + 1) = ir p) →
      wX_addEntry_13 post key root (nI r) u0 u1 u2 u3 u4 u5 u6 u7 sc vl cl ck lr sd lu iz (d + 1) (nI (r + d)) ac sn tr tk tv ms mn es en tn tf ls lt lf ik1 ir1 := by
  subst ez
  intro d
  induction d with
  | zero =>
    intro ik1 ir1 hd h1 h2
    rw [wX_addEntry_13]
    dsimp only
    rw [hb_c32 (show r < 32 by omega), nI_1 n]
    have ii : vp_in (nI r) 32 := hb_i32 (by omega)
    refine br_t (nI_le (by omega) (by omega)) ⟨ii, nm_e ⟨ii, nm_e (nm_e (h _ _ ⟨fun p hp => ?_, ⟨pk_us, pk_us⟩, fun p hp hp2 => ?_⟩))⟩⟩
    · rw [pk_un (by omega), pk_un (by omega)]
      exact h1 p (by omega) (by omega)
    · rw [pk_un (by omega), pk_un (by omega)]
      exact h2 p (by omega) hp2
  | succ d ih =>
    intro ik1 ir1 hd h1 h2
    have e1 : nI (r + (d + 1)) - 1 = nI (r + d) := nI_pred (r + d)
    have e2 : nI (r + (d + 1)) + (-1) = nI (r + d) := pk_m1 (r + d)
    rw [wX_addEntry_13]
    dsimp only
    rw [e1, e2, hb_c32 (show r + d < 32 by omega), hb_c32 (show r + (d + 1) < 32 by omega)]
    have i1 : vp_in (nI (r + d)) 32 := hb_i32 (by omega)
    have i2 : vp_in (nI (r + (d + 1))) 32 := hb_i32 (by omega)
    refine br_f (nI_ge (by omega) (by omega)) ⟨i1, i2, nm_e ⟨i1, i2, nm_e (nm_e (ih _ _ (by omega) (fun p hp hp2 => ?_) fun p hp hp2 => ?_))⟩⟩
    · rw [pk_un (by omega), pk_un (by omega)]
      exact h1 p (by omega) hp2
    · rcases Nat.lt_or_ge (r + d) p with z | z
      · rw [pk_un (by omega), pk_un (by omega)]
        exact h2 p (by omega) hp2
      · obtain rfl : p = r + d := by omega
        rw [show r + (d + 1) = r + d + 1 from rfl, pk_us, pk_us]
        exact h1 (r + d) (by omega) hp2
theorem xl_add {Cs : List hh_C} {key root : Int32} (hz : iz = nI Cs.length) (hN : Cs.length < 32) (hix : hh_ix Cs ik ir) (hso : Cs.Pairwise fun c d => c.1 ≤ d.1) {post : SX → Prop}
    (h : ∀ r ik' ir', r ≤ Cs.length → (∀ p c, Cs[p]? = some c → (p < r ↔ c.1 ≤ key)) → hh_ins Cs.length r key root ik ir ik' ir' → post (u0, u1, u2, u3, u4, u5, u6, u7, sc, vl, cl, ck, lr, sd, lu, nI (Cs.length + 1), ac, sn, tr, tk, tv, ms, mn, es, en, tn, tf, ls, lt, lf, ik', ir')) : wpX_addEntry post (u0, u1, u2, u3, u4, u5, u6, u7, sc, vl, cl, ck, lr, sd, lu, iz, ac, sn, tr, tk, tv, ms, mn, es, en, tn, tf, ls, lt, lf, ik, ir) key root := by
  unfold wpX_addEntry
  refine xl_pos hz (by omega) hix hso fun r hr hb => ?_
  obtain ⟨d, hd⟩ : ∃ d, r + d = Cs.length := ⟨Cs.length - r, by omega⟩
  refine ⟨d + 1, ?_⟩
  have main : wX_addEntry_13 post key root (nI r) u0 u1 u2 u3 u4 u5 u6 u7 sc vl cl ck lr sd lu iz (d + 1) (nI (r + d)) ac sn tr tk tv ms mn es en tn tf ls lt lf ik ir := xl_add13 hN hr hz (fun ik' ir' hi => h r ik' ir' hr (fun p c hc => (hb p c hc).trans hh_be1) hi) d ik ir (by omega) (fun p _ _ => ⟨rfl, rfl⟩) fun p hp hp2 => absurd hp2 (by omega)
  rw [hd, ← hz] at main
  exact main
end
end
section
/-! the stacks -/
theorem st_upd {f : Nat → Int32} {k : Nat} {x : Int32} : ∀ {F : List Nat} {s : Nat}, k < s → hh_st f s F → hh_st (upd f k x) s F := by
  intro F
  induction F with
  | nil => intro s _ _; exact trivial
  | cons i F ih =>
    intro s hk h
    exact ⟨by rw [pk_un (by omega)]; exact h.1, ih (by omega) h.2⟩
theorem sk_lt {X Y F G : List Nat} {sd lu : Int32} {tf lf : Nat → Int32} (h : hh_sk X Y F G sd lu tf lf) : (∀ i ∈ X, i < 32) ∧ ∀ p ∈ Y, p < 64 :=
  ⟨fun i hi => List.mem_range.mp (h.2.2.1.mem_iff.mp (List.mem_append_left _ hi)), fun p hp => List.mem_range.mp (h.2.2.2.mem_iff.mp (List.mem_append_left _ hp))⟩
theorem sk_nd {X Y F G : List Nat} {sd lu : Int32} {tf lf : Nat → Int32} (h : hh_sk X Y F G sd lu tf lf) : (X ++ F).Nodup ∧ (Y ++ G).Nodup :=
  ⟨h.2.2.1.nodup_iff.mpr List.nodup_range, h.2.2.2.nodup_iff.mpr List.nodup_range⟩
theorem sk_len {X Y F G : List Nat} {sd lu : Int32} {tf lf : Nat → Int32} (h : hh_sk X Y F G sd lu tf lf) : X.length + F.length = 32 ∧ Y.length + G.length = 64 := by
  have h1 := h.2.2.1.length_eq
  have h2 := h.2.2.2.length_eq
  rw [List.length_append, List.length_range] at h1 h2
  exact ⟨h1, h2⟩
theorem sk_all {X Y F G : List Nat} {sd lu : Int32} {tf lf : Nat → Int32} (h : hh_sk X Y F G sd lu tf lf) {i : Nat} (hi : i < 32) : i ∈ X ∨ i ∈ F :=
  List.mem_append.mp (h.2.2.1.mem_iff.mpr (List.mem_range.mpr hi))
theorem sk_perm {X Y X' Y' F G : List Nat} {sd lu : Int32} {tf lf : Nat → Int32} (h : hh_sk X Y F G sd lu tf lf) (hX : X'.Perm X) (hY : Y'.Perm Y) : hh_sk X' Y' F G sd lu tf lf :=
  ⟨h.1, h.2.1, (hX.append_right F).trans h.2.2.1, (hY.append_right G).trans h.2.2.2⟩
theorem sk_pop {X Y F G : List Nat} {sd lu : Int32} {tf lf : Nat → Int32} (h : hh_sk X Y F G sd lu tf lf) (h1 : X.length < 32) (h2 : Y.length < 64) :
    ∃ S U i p F' G', S = X.length ∧ S < 32 ∧ U < 64 ∧ i < 32 ∧ p < 64 ∧ sd = nI S ∧ lu = nI U ∧ tf S = nI i ∧ lf U = nI p ∧ F = i :: F' ∧ G = p :: G' ∧ i ∉ X ∧ p ∉ Y ∧ hh_sk (i :: X) (p :: Y) F' G' (nI (S + 1)) (nI (U + 1)) tf lf := by
  obtain ⟨l1, l2⟩ := sk_len h
  obtain ⟨n1, n2⟩ := sk_nd h
  obtain ⟨⟨S, e1, e2, e3⟩, ⟨U, e4, e5, e6⟩, e7, e8⟩ := h
  cases F with
  | nil => rw [List.length_nil] at l1; omega
  | cons i F =>
  cases G with
  | nil => rw [List.length_nil] at l2; omega
  | cons p G =>
  rw [List.length_cons] at l1 l2 e2 e5
  have hi : i < 32 := List.mem_range.mp (e7.mem_iff.mp (List.mem_append_right _ List.mem_cons_self))
  have hp : p < 64 := List.mem_range.mp (e8.mem_iff.mp (List.mem_append_right _ List.mem_cons_self))
  refine ⟨S, U, i, p, F, G, by omega, by omega, by omega, hi, hp, e1, e4, e3.1, e6.1, rfl, rfl, ?_, ?_, ⟨S + 1, rfl, by omega, e3.2⟩, ⟨U + 1, rfl, by omega, e6.2⟩, ?_, ?_⟩
  · intro z
    exact (List.nodup_append.mp n1).2.2 i z i List.mem_cons_self rfl
  · intro z
    exact (List.nodup_append.mp n2).2.2 p z p List.mem_cons_self rfl
  · exact List.perm_middle.symm.trans e7
  · exact List.perm_middle.symm.trans e8
theorem sk_relT {X Y F G : List Nat} {sd lu : Int32} {tf lf : Nat → Int32} {i : Nat} (h : hh_sk (i :: X) Y F G sd lu tf lf) :
    ∃ S, S < 32 ∧ sd = nI (S + 1) ∧ hh_sk X Y (i :: F) G (nI S) lu (upd tf S (nI i)) lf := by
  obtain ⟨l1, l2⟩ := sk_len h
  obtain ⟨⟨S, e1, e2, e3⟩, e4, e7, e8⟩ := h
  rw [List.length_cons] at l1
  obtain ⟨S, rfl⟩ : ∃ m, S = m + 1 := ⟨S - 1, by omega⟩
  refine ⟨S, by omega, e1, ⟨S, rfl, ?_, pk_us, st_upd (by omega) e3⟩, e4, List.perm_middle.trans e7, e8⟩
  rw [List.length_cons]; omega
theorem sk_relP {X Y F G : List Nat} {sd lu : Int32} {tf lf : Nat → Int32} {p : Nat} (h : hh_sk X (p :: Y) F G sd lu tf lf) :
    ∃ U, U < 64 ∧ lu = nI (U + 1) ∧ hh_sk X Y F (p :: G) sd (nI U) tf (upd lf U (nI p)) := by
  obtain ⟨l1, l2⟩ := sk_len h
  obtain ⟨e4, ⟨U, e1, e2, e3⟩, e7, e8⟩ := h
  rw [List.length_cons] at l2
  obtain ⟨U, rfl⟩ : ∃ m, U = m + 1 := ⟨U - 1, by omega⟩
  refine ⟨U, by omega, e1, e4, ⟨U, rfl, ?_, pk_us, st_upd (by omega) e3⟩, e7, List.perm_middle.trans e8⟩
  rw [List.length_cons]; omega
/-! chains -/
theorem sg_fr {lt tn lt' tn' : Nat → Int32} {z : Int32} : ∀ {L : List hh_V}, hh_sg lt tn z L → (∀ v ∈ L, lt' v.1 = lt v.1 ∧ tn' v.2.1 = tn v.2.1) → hh_sg lt' tn' z L := by
  intro L
  induction L with
  | nil => intro _ _; exact trivial
  | cons v M ih =>
    intro h e
    obtain ⟨e1, e2⟩ := e v List.mem_cons_self
    exact ⟨e1.trans h.1, e2.trans h.2.1, ih h.2.2 fun w hw => e w (List.mem_cons_of_mem _ hw)⟩
theorem hz_ap {z : Int32} {A B : List hh_V} : hh_hz z (A ++ B) = hh_hz (hh_hz z B) A := by
  cases A with
  | nil => rfl
  | cons v M => rfl
theorem sg_ap {lt tn : Nat → Int32} {z : Int32} {A B : List hh_V} : hh_sg lt tn z (A ++ B) ↔ hh_sg lt tn (hh_hz z B) A ∧ hh_sg lt tn z B := by
  induction A with
  | nil => exact ⟨fun h => ⟨trivial, h⟩, fun h => h.2⟩
  | cons v M ih =>
    show (lt v.1 = nI v.2.1 ∧ tn v.2.1 = hh_hz z (M ++ B) ∧ hh_sg lt tn z (M ++ B)) ↔ (lt v.1 = nI v.2.1 ∧ tn v.2.1 = hh_hz (hh_hz z B) M ∧ hh_sg lt tn (hh_hz z B) M) ∧ hh_sg lt tn z B
    rw [ih, hz_ap]
    exact ⟨fun ⟨a, b, c, d⟩ => ⟨⟨a, b, c⟩, d⟩, fun ⟨⟨a, b, c⟩, d⟩ => ⟨a, b, c, d⟩⟩
theorem rt_fr {ls lt ls' lt' : Nat → Int32} {r : Nat} {L : List hh_V} (h : hh_rt ls lt r L) (e : ls' r = ls r) (e' : lt' r = lt r) : hh_rt ls' lt' r L := by
  cases L with
  | nil => exact e.trans h
  | cons v M => exact ⟨fun z => e.trans (h.1 z), fun z => ⟨e.trans (h.2.1 z).1, e'.trans (h.2.1 z).2⟩, h.2.2⟩
theorem ps_root {r : Nat} {L : List hh_V} : r ∈ hh_ps r L := List.mem_cons_self
theorem ps_mem {r : Nat} {L : List hh_V} {v : hh_V} (h : v ∈ L) : v.1 ∈ hh_ps r L := by
  by_cases e : v.1 = r
  · rw [e]; exact ps_root
  · exact List.mem_cons_of_mem _ (List.mem_filter.mpr ⟨List.mem_map.mpr ⟨v, h, rfl⟩, decide_eq_true e⟩)
theorem ch_fr {ls lt tn ls' lt' tn' : Nat → Int32} {c : hh_C} (h : hh_ch ls lt tn c) (hp : ∀ q ∈ hh_ps c.2.1 c.2.2.2, ls' q = ls q ∧ lt' q = lt q) (ht : ∀ v ∈ c.2.2.2, tn' v.2.1 = tn v.2.1) : hh_ch ls' lt' tn' c :=
  ⟨rt_fr h.1 (hp _ ps_root).1 (hp _ ps_root).2, sg_fr h.2 fun v hv => ⟨(hp _ (ps_mem hv)).2, ht v hv⟩⟩
theorem T_ap (A B : List hh_C) : hh_T (A ++ B) = hh_T A ++ hh_T B := List.flatMap_append
theorem P_ap (A B : List hh_C) : hh_P (A ++ B) = hh_P A ++ hh_P B := List.flatMap_append
theorem J_ap (A B : List hh_C) : hh_J (A ++ B) = hh_J A ++ hh_J B := List.flatMap_append
theorem T_cons (c : hh_C) (B : List hh_C) : hh_T (c :: B) = (c.2.2.2.map fun v => v.2.1) ++ hh_T B := List.flatMap_cons
theorem P_cons (c : hh_C) (B : List hh_C) : hh_P (c :: B) = hh_ps c.2.1 c.2.2.2 ++ hh_P B := List.flatMap_cons
theorem J_cons (c : hh_C) (B : List hh_C) : hh_J (c :: B) = (c.2.2.2.map fun v => v.2.2) ++ hh_J B := List.flatMap_cons
theorem T_mem {Cs : List hh_C} {i : Nat} : i ∈ hh_T Cs ↔ ∃ c ∈ Cs, ∃ v ∈ c.2.2.2, v.2.1 = i := by
  unfold hh_T
  rw [List.mem_flatMap]
  exact ⟨fun ⟨c, hc, h⟩ => ⟨c, hc, List.mem_map.mp h⟩, fun ⟨c, hc, h⟩ => ⟨c, hc, List.mem_map.mpr h⟩⟩
theorem J_mem {Cs : List hh_C} {i : Nat} : i ∈ hh_J Cs ↔ ∃ c ∈ Cs, ∃ v ∈ c.2.2.2, v.2.2 = i := by
  unfold hh_J
  rw [List.mem_flatMap]
  exact ⟨fun ⟨c, hc, h⟩ => ⟨c, hc, List.mem_map.mp h⟩, fun ⟨c, hc, h⟩ => ⟨c, hc, List.mem_map.mpr h⟩⟩
theorem P_mem {Cs : List hh_C} {q : Nat} : q ∈ hh_P Cs ↔ ∃ c ∈ Cs, q ∈ hh_ps c.2.1 c.2.2.2 := List.mem_flatMap
theorem Q_mem {Cs : List hh_C} {q : Nat} : q ∈ hh_Q Cs ↔ ∃ c ∈ Cs, c.2.2.1 = q := List.mem_map
theorem JT_len (Cs : List hh_C) : (hh_J Cs).length = (hh_T Cs).length := by
  induction Cs with
  | nil => rfl
  | cons c B ih => rw [J_cons, T_cons, List.length_append, List.length_append, ih, List.length_map, List.length_map]
theorem P_len (Cs : List hh_C) : (hh_P Cs).length ≤ (hh_T Cs).length + Cs.length := by
  induction Cs with
  | nil => exact Nat.le_refl _
  | cons c B ih =>
    rw [P_cons, T_cons, List.length_append, List.length_append, List.length_map, List.length_cons]
    have : (hh_ps c.2.1 c.2.2.2).length ≤ c.2.2.2.length + 1 := by
      unfold hh_ps
      rw [List.length_cons]
      have := List.length_filter_le (fun q => decide (¬ q = c.2.1)) (c.2.2.2.map fun v => v.1)
      rw [List.length_map] at this
      omega
    omega
theorem hp_rd {Cs : List hh_C} {F G : List Nat} {sd lu iz : Int32} {tn tf ls lt lf ik ir : Nat → Int32} (h : hh_hp Cs F G sd lu iz tn tf ls lt lf ik ir) : ∀ c ∈ Cs, hh_rd ls lt tn c := by
  intro c hc
  obtain ⟨_, _, _, _, h5, h6⟩ := h
  obtain ⟨l1, l2⟩ := sk_lt h6
  refine ⟨l2 _ (P_mem.mpr ⟨c, hc, ps_root⟩), h5 c hc, ?_, fun v hv => ⟨l2 _ (P_mem.mpr ⟨c, hc, ps_mem hv⟩), l1 _ (T_mem.mpr ⟨c, hc, v, hv, rfl⟩)⟩⟩
  obtain ⟨A, B, rfl⟩ := List.append_of_mem hc
  have := (sk_len h6).1
  rw [T_ap, T_cons, List.length_append, List.length_append, List.length_map] at this
  omega
/-! a new chain -/
theorem ix_ins {Cs : List hh_C} {ik ir ik' ir' : Nat → Int32} {r : Nat} {c : hh_C} (h : hh_ix Cs ik ir) (hr : r ≤ Cs.length) (hi : hh_ins Cs.length r c.1 (nI c.2.1) ik ir ik' ir') : hh_ix (Cs.take r ++ c :: Cs.drop r) ik' ir' := by
  obtain ⟨h1, h2, h3⟩ := hi
  have hl : (Cs.take r).length = r := by rw [List.length_take]; omega
  intro p d hd
  rcases Nat.lt_or_ge p r with z | z
  · rw [List.getElem?_append_left (by omega), List.getElem?_take_of_lt z] at hd
    rw [(h1 p z).1, (h1 p z).2]
    exact h p d hd
  · rw [List.getElem?_append_right (by omega), hl] at hd
    rcases Nat.lt_or_ge r p with y | y
    · obtain ⟨q, rfl⟩ : ∃ q, p = r + q + 1 := ⟨p - r - 1, by omega⟩
      rw [show r + q + 1 - r = q + 1 from by omega, List.getElem?_cons_succ, List.getElem?_drop] at hd
      have hq : r + q < Cs.length := (List.getElem?_eq_some_iff.mp hd).1
      rw [(h3 (r + q) (by omega) hq).1, (h3 (r + q) (by omega) hq).2]
      exact h _ d hd
    · obtain rfl : p = r := by omega
      rw [Nat.sub_self, List.getElem?_cons_zero] at hd
      cases hd
      exact h2
theorem hp_new {Cs : List hh_C} {F G F' G' : List Nat} {sd lu iz sd' lu' : Int32} {tn tf ls lt lf ik ir ik' ir' : Nat → Int32} {i p j q r : Nat} {key : Int32}
    (h : hh_hp Cs F G sd lu iz tn tf ls lt lf ik ir) (hN : Cs.length < 32) (hi : i ∉ hh_T Cs) (hp : p ∉ hh_P Cs) (hsk : hh_sk (i :: hh_T Cs) (p :: hh_P Cs) F' G' sd' lu' tf lf)
    (hr : r ≤ Cs.length) (hb : ∀ p c, Cs[p]? = some c → (p < r ↔ c.1 ≤ key)) (hin : hh_ins Cs.length r key (nI p) ik ir ik' ir') :
    hh_hp (Cs.take r ++ (key, p, q, [(p, i, j)]) :: Cs.drop r) F' G' sd' lu' (nI (Cs.length + 1)) (upd tn i (-1)) tf (upd ls p 1) (upd lt p (nI i)) lf ik' ir' := by
  obtain ⟨h1, h2, h3, h4, h5, h6⟩ := h
  have hl : (Cs.take r ++ (key, p, q, [(p, i, j)]) :: Cs.drop r).length = Cs.length + 1 := by
    rw [List.length_append, List.length_cons, List.length_take, List.length_drop]; omega
  have e : Cs.take r ++ Cs.drop r = Cs := List.take_append_drop r Cs
  refine ⟨by rw [hl], by omega, ix_ins h3 hr hin, ?_, ?_, sk_perm hsk ?_ ?_⟩
  · rw [← e, List.pairwise_append] at h4
    refine List.pairwise_append.mpr ⟨h4.1, List.pairwise_cons.mpr ⟨fun d hd => ?_, h4.2.1⟩, fun a ha d hd => ?_⟩
    · obtain ⟨k, hk1, hk2⟩ := hh_inB (A := Cs.take r) hd
      rw [e] at hk2
      have hl2 : (Cs.take r).length = r := by rw [List.length_take]; omega
      have hn : ¬ d.1 ≤ key := fun z => by have := (hb k d hk2).mpr z; omega
      exact Int32.le_of_lt (Int32.not_le.mp hn)
    · rcases List.mem_cons.mp hd with z | z
      · rw [z]
        obtain ⟨k, hk1, hk2⟩ := hh_inA (B := Cs.drop r) ha
        rw [e] at hk2
        have hl2 : (Cs.take r).length = r := by rw [List.length_take]; omega
        exact (hb k a hk2).mp (by omega)
      · exact h4.2.2 a ha d z
  · intro c hc
    have hcs : c ∈ Cs ∨ c = (key, p, q, [(p, i, j)]) := by
      rcases List.mem_append.mp hc with z | z
      · exact Or.inl (List.mem_of_mem_take z)
      · rcases List.mem_cons.mp z with z | z
        · exact Or.inr z
        · exact Or.inl (List.mem_of_mem_drop z)
    rcases hcs with z | rfl
    · refine ch_fr (h5 c z) (fun k hk => ?_) fun v hv => ?_
      · have : k ≠ p := fun y => hp (P_mem.mpr ⟨c, z, y ▸ hk⟩)
        exact ⟨pk_un this, pk_un this⟩
      · exact pk_un fun y => hi (T_mem.mpr ⟨c, z, v, hv, y⟩)
    · exact ⟨⟨fun _ => pk_us, fun z => absurd rfl z, fun w hw => absurd hw List.not_mem_nil⟩, ⟨pk_us, pk_us, trivial⟩⟩
  · rw [T_ap, T_cons]
    have : hh_T Cs = hh_T (Cs.take r) ++ hh_T (Cs.drop r) := by rw [← T_ap, e]
    rw [this]
    exact List.perm_middle
  · rw [P_ap, P_cons]
    have : hh_P Cs = hh_P (Cs.take r) ++ hh_P (Cs.drop r) := by rw [← P_ap, e]
    rw [this]
    have e2 : hh_ps p [(p, i, j)] = [p] := by simp [hh_ps]
    show (hh_P (Cs.take r) ++ (hh_ps p [(p, i, j)] ++ hh_P (Cs.drop r))).Perm _
    rw [e2]
    exact List.perm_middle
/-! a version linked behind another -/
theorem hp_lnk {A B : List hh_C} {L1 L2 : List hh_V} {o : hh_V} {F G F' G' : List Nat} {sd lu iz sd' lu' : Int32} {tn tf ls lt lf ik ir : Nat → Int32} {i p j q r : Nat} {key : Int32}
    (h : hh_hp (A ++ (key, r, q, L1 ++ o :: L2) :: B) F G sd lu iz tn tf ls lt lf ik ir) (hi : i ∉ hh_T (A ++ (key, r, q, L1 ++ o :: L2) :: B)) (hp : p ∉ hh_P (A ++ (key, r, q, L1 ++ o :: L2) :: B))
    (hsk : hh_sk (i :: hh_T (A ++ (key, r, q, L1 ++ o :: L2) :: B)) (p :: hh_P (A ++ (key, r, q, L1 ++ o :: L2) :: B)) F' G' sd' lu' tf lf) :
    hh_hp (A ++ (key, r, q, L1 ++ o :: (p, i, j) :: L2) :: B) F' G' sd' lu' iz (upd (upd (upd tn i (-1)) i (upd tn i (-1) o.2.1)) o.2.1 (nI p)) tf (upd ls p 1) (upd lt p (nI i)) lf ik ir := by
  obtain ⟨h1, h2, h3, h4, h5, h6⟩ := h
  have hcm : (key, r, q, L1 ++ o :: L2) ∈ A ++ (key, r, q, L1 ++ o :: L2) :: B := by simp
  have hoL : o ∈ L1 ++ o :: L2 := by simp
  have hio : ¬ o.2.1 = i := fun y => hi (T_mem.mpr ⟨_, hcm, o, hoL, y⟩)
  have hrp : ¬ r = p := fun y => hp (P_mem.mpr ⟨_, hcm, y ▸ ps_root⟩)
  -- every tuple of the chain but o's keeps its link
  have nd := (sk_nd h6).1
  have ndT : (hh_T (A ++ (key, r, q, L1 ++ o :: L2) :: B)).Nodup := (List.nodup_append.mp nd).1
  have etn : ∀ k, ¬ k = i → ¬ k = o.2.1 → upd (upd (upd tn i (-1)) i (upd tn i (-1) o.2.1)) o.2.1 (nI p) k = tn k := fun k a b => by
    rw [pk_un b, pk_un a, pk_un a]
  rw [T_ap, T_cons] at ndT
  refine ⟨by rw [h1]; simp, by rw [← show (A ++ (key, r, q, L1 ++ o :: L2) :: B).length = (A ++ (key, r, q, L1 ++ o :: (p, i, j) :: L2) :: B).length from by simp]; exact h2, ?_, ?_, ?_, sk_perm hsk ?_ ?_⟩
  · intro k c hc
    rcases Nat.lt_or_ge k A.length with z | z
    · rw [List.getElem?_append_left z] at hc
      exact h3 k c (by rw [List.getElem?_append_left z]; exact hc)
    · rw [List.getElem?_append_right z] at hc
      cases hk : k - A.length with
      | zero =>
        rw [hk, List.getElem?_cons_zero] at hc
        cases hc
        exact h3 k (key, r, q, L1 ++ o :: L2) (by rw [List.getElem?_append_right z, hk, List.getElem?_cons_zero])
      | succ m =>
        rw [hk, List.getElem?_cons_succ] at hc
        exact h3 k c (by rw [List.getElem?_append_right z, hk, List.getElem?_cons_succ]; exact hc)
  · rw [List.pairwise_append, List.pairwise_cons] at h4 ⊢
    refine ⟨h4.1, ⟨h4.2.1.1, h4.2.1.2⟩, fun a ha d hd => ?_⟩
    rcases List.mem_cons.mp hd with z | z
    · rw [z]; exact h4.2.2 a ha (key, r, q, L1 ++ o :: L2) List.mem_cons_self
    · exact h4.2.2 a ha d (List.mem_cons_of_mem _ z)
  · have nd2 := List.nodup_append.mp ndT
    have nd3 := List.nodup_append.mp nd2.2.1
    have fr : ∀ c, c ∈ A ∨ c ∈ B → hh_ch (upd ls p 1) (upd lt p (nI i)) (upd (upd (upd tn i (-1)) i (upd tn i (-1) o.2.1)) o.2.1 (nI p)) c := by
      intro c hc
      have hc' : c ∈ A ++ (key, r, q, L1 ++ o :: L2) :: B := by
        rcases hc with z | z
        · exact List.mem_append_left _ z
        · exact List.mem_append_right _ (List.mem_cons_of_mem _ z)
      refine ch_fr (h5 c hc') (fun k hk => ?_) fun v hv => ?_
      · have : k ≠ p := fun y => hp (P_mem.mpr ⟨c, hc', y ▸ hk⟩)
        exact ⟨pk_un this, pk_un this⟩
      · refine etn _ (fun y => hi (T_mem.mpr ⟨c, hc', v, hv, y⟩)) fun y => ?_
        have ho2 : o.2.1 ∈ (L1 ++ o :: L2).map (fun v : hh_V => v.2.1) := List.mem_map.mpr ⟨o, hoL, rfl⟩
        rcases hc with z | z
        · exact nd2.2.2 _ (T_mem.mpr ⟨c, z, v, hv, rfl⟩) _ (List.mem_append_left _ ho2) y
        · exact nd3.2.2 _ ho2 _ (T_mem.mpr ⟨c, z, v, hv, rfl⟩) y.symm
    intro c hc
    rcases List.mem_append.mp hc with z | z
    · exact fr c (Or.inl z)
    · rcases List.mem_cons.mp z with z | z
      · subst z
        obtain ⟨c1, c2⟩ := h5 _ hcm
        have c2' : hh_sg lt tn (-1) (L1 ++ o :: L2) := c2
        have ndL : ((L1 ++ o :: L2).map (fun v : hh_V => v.2.1)).Nodup := nd3.1
        rw [List.map_append, List.map_cons] at ndL
        have ndL2 := List.nodup_append.mp ndL
        have ndL3 := List.nodup_cons.mp ndL2.2.1
        obtain ⟨s1, s2⟩ := sg_ap.mp c2'
        have elt : ∀ v ∈ L1 ++ o :: L2, upd lt p (nI i) v.1 = lt v.1 := fun v hv => pk_un fun y => hp (P_mem.mpr ⟨_, hcm, y ▸ ps_mem hv⟩)
        have ein : ∀ v ∈ L1 ++ o :: L2, ¬ v.2.1 = i := fun v hv y => hi (T_mem.mpr ⟨_, hcm, v, hv, y⟩)
        constructor
        · show hh_rt _ _ r (L1 ++ o :: (p, i, j) :: L2)
          have c1' : hh_rt ls lt r (L1 ++ o :: L2) := c1
          cases L1 with
          | nil =>
            obtain ⟨a, b, d⟩ := c1'
            refine ⟨fun z => (pk_un hrp).trans (a z), fun z => ⟨(pk_un hrp).trans (b z).1, (pk_un hrp).trans (b z).2⟩, fun w hw => ?_⟩
            rcases List.mem_cons.mp hw with y | y
            · rw [y]; exact fun e => hrp e.symm
            · exact d w y
          | cons v M =>
            obtain ⟨a, b, d⟩ := c1'
            refine ⟨fun z => (pk_un hrp).trans (a z), fun z => ⟨(pk_un hrp).trans (b z).1, (pk_un hrp).trans (b z).2⟩, fun w hw => ?_⟩
            rcases List.mem_append.mp hw with y | y
            · exact d w (List.mem_append_left _ y)
            · rcases List.mem_cons.mp y with y | y
              · rw [y]; exact d o (List.mem_append_right _ List.mem_cons_self)
              · rcases List.mem_cons.mp y with y | y
                · rw [y]; exact fun e => hrp e.symm
                · exact d w (List.mem_append_right _ (List.mem_cons_of_mem _ y))
        · show hh_sg _ _ (-1) (L1 ++ o :: (p, i, j) :: L2)
          refine sg_ap.mpr ⟨sg_fr s1 fun v hv => ⟨elt v (List.mem_append_left _ hv), etn _ (ein v (List.mem_append_left _ hv)) fun y => ?_⟩, ?_, ?_, ?_, ?_, ?_⟩
          · exact ndL2.2.2 _ (List.mem_map.mpr ⟨v, hv, rfl⟩) _ List.mem_cons_self y
          · rw [elt o hoL]; exact s2.1
          · exact pk_us
          · exact pk_us
          · show upd (upd (upd tn i (-1)) i (upd tn i (-1) o.2.1)) o.2.1 (nI p) i = _
            rw [pk_un fun y => hio y.symm, pk_us, pk_un hio]
            exact s2.2.1
          · refine sg_fr s2.2.2 fun v hv => ⟨elt v (List.mem_append_right _ (List.mem_cons_of_mem _ hv)), etn _ (ein v (List.mem_append_right _ (List.mem_cons_of_mem _ hv))) fun y => ?_⟩
            exact ndL3.1 (y ▸ List.mem_map.mpr ⟨v, hv, rfl⟩)
      · exact fr c (Or.inr z)
  · rw [T_ap, T_cons, T_ap, T_cons]
    show (hh_T A ++ ((L1 ++ o :: (p, i, j) :: L2).map (fun v : hh_V => v.2.1) ++ hh_T B)).Perm (i :: (hh_T A ++ ((L1 ++ o :: L2).map (fun v : hh_V => v.2.1) ++ hh_T B)))
    rw [List.perm_iff_count]
    intro a
    simp only [List.map_append, List.map_cons, List.count_append, List.count_cons]
    omega
  · rw [P_ap, P_cons, P_ap, P_cons]
    show (hh_P A ++ (hh_ps r (L1 ++ o :: (p, i, j) :: L2) ++ hh_P B)).Perm (p :: (hh_P A ++ (hh_ps r (L1 ++ o :: L2) ++ hh_P B)))
    have e : (hh_ps r (L1 ++ o :: (p, i, j) :: L2)).Perm (p :: hh_ps r (L1 ++ o :: L2)) := by
      unfold hh_ps
      rw [List.perm_iff_count]
      intro a
      have : decide (¬ p = r) = true := decide_eq_true fun y => hrp y.symm
      simp only [List.map_append, List.map_cons, List.filter_append, List.filter_cons, this, if_true, List.count_append, List.count_cons]
      split <;> simp only [List.count_cons] <;> omega
    rw [List.perm_iff_count]
    intro a
    have := List.perm_iff_count.mp e a
    simp only [List.count_append, List.count_cons] at this ⊢
    omega
end
section
/-! prune of one chain -/
def hh_kp (lt tn : Nat → Int32) (fi la : Int32) (K : List hh_V) : Prop :=
  (K = [] ∧ fi = -1 ∧ la = -1) ∨ ∃ K0 w, K = K0 ++ [w] ∧ fi = hh_hz (nI w.1) K0 ∧ la = nI w.2.1 ∧ hh_sg lt tn (nI w.1) K0 ∧ lt w.1 = nI w.2.1
def hh_mid (D : List hh_C) (r : Nat) (K R : List hh_V) (F G : List Nat) (fi la sd lu : Int32) (tn tf ls lt lf : Nat → Int32) : Prop :=
  (∀ c ∈ D, hh_ch ls lt tn c) ∧ hh_sk (hh_T D ++ (K ++ R).map fun v => v.2.1) (hh_P D ++ hh_ps r (K ++ R)) F G sd lu tf lf ∧ hh_sg lt tn (-1) R ∧ hh_kp lt tn fi la K
    ∧ (∀ w ∈ K ++ R, w.1 = r → ls r = 1) ∧ ∀ w ∈ (K ++ R).tail, ¬ w.1 = r
def hh_kv (Ts : List Nat) (tr0 ms0 es0 tr ms es : Nat → Int32) : Prop := ∀ i ∈ Ts, tr i = tr0 i ∧ ms i = ms0 i ∧ es i = es0 i
def hh_fin (D : List hh_C) (r : Nat) (K : List hh_V) (F G : List Nat) (sd lu : Int32) (tn tf ls lt lf : Nat → Int32) : Prop :=
  (∀ c ∈ D, hh_ch ls lt tn c) ∧ hh_rt ls lt r K ∧ hh_sg lt tn (-1) K ∧ hh_sk (hh_T D ++ K.map fun v => v.2.1) (hh_P D ++ hh_ps r K) F G sd lu tf lf
theorem tl_drop {r : Nat} {K R : List hh_V} {v : hh_V} (h : ∀ w ∈ (K ++ v :: R).tail, ¬ w.1 = r) : ∀ w ∈ (K ++ R).tail, ¬ w.1 = r := by
  cases K with
  | nil => exact fun w hw => h w (List.mem_of_mem_tail hw)
  | cons x K =>
    intro w hw
    rcases List.mem_append.mp (show w ∈ K ++ R from hw) with z | z
    · exact h w (show w ∈ K ++ v :: R from List.mem_append_left _ z)
    · exact h w (show w ∈ K ++ v :: R from List.mem_append_right _ (List.mem_cons_of_mem _ z))
theorem ps_drop {r : Nat} {K R : List hh_V} {v : hh_V} (h : v.1 = r) : hh_ps r (K ++ v :: R) = hh_ps r (K ++ R) := by
  unfold hh_ps
  have e : decide (¬ v.1 = r) = false := decide_eq_false fun z => z h
  rw [List.map_append, List.map_append, List.map_cons, List.filter_append, List.filter_append, List.filter_cons, e]
  rfl
theorem ps_perm {r : Nat} {K R : List hh_V} {v : hh_V} (h : ¬ v.1 = r) : (hh_ps r (K ++ v :: R)).Perm (v.1 :: hh_ps r (K ++ R)) := by
  unfold hh_ps
  have e : decide (¬ v.1 = r) = true := decide_eq_true h
  rw [List.map_append, List.map_append, List.map_cons, List.filter_append, List.filter_append, List.filter_cons, e]
  rw [List.perm_iff_count]
  intro a
  simp only [if_true, List.count_append, List.count_cons]
  omega
section
variable {u0 u1 u2 u3 u4 u5 u6 u7 sc vl cl ck lr sd lu iz : Int32} {ac sn tr tk tv ms mn es en tn tf ls lt lf ik ir : Nat → Int32}
theorem xl_relT {S i : Nat} (hi : i < 32) (hS : S < 32) (e : sd = nI (S + 1)) {post : SX → Prop} (h : post (u0, u1, u2, u3, u4, u5, u6, u7, sc, vl, cl, ck, lr, nI S, lu, iz, ac, sn, upd tr i 0, tk, tv, upd ms i 0, mn, upd es i 0, en, tn, upd tf S (nI i), ls, lt, lf, ik, ir)) : wpX_releaseTuple post (u0, u1, u2, u3, u4, u5, u6, u7, sc, vl, cl, ck, lr, sd, lu, iz, ac, sn, tr, tk, tv, ms, mn, es, en, tn, tf, ls, lt, lf, ik, ir) (nI i) := by
  subst e
  unfold wpX_releaseTuple
  dsimp only
  rw [hb_c32 hi, nI_pred S]
  refine ⟨hb_i32 hi, nm_e ⟨hb_i32 hi, nm_e ⟨hb_i32 hi, nm_e (nm_e ?_)⟩⟩⟩
  rw [hb_c32 hS]
  exact ⟨hb_i32 hS, nm_e h⟩
theorem xl_relP {U p : Nat} (hp : p < 64) (hU : U < 64) (e : lu = nI (U + 1)) {post : SX → Prop} (h : post (u0, u1, u2, u3, u4, u5, u6, u7, sc, vl, cl, ck, lr, sd, nI U, iz, ac, sn, tr, tk, tv, ms, mn, es, en, tn, tf, upd ls p 0, lt, upd lf U (nI p), ik, ir)) : wpX_releasePointer post (u0, u1, u2, u3, u4, u5, u6, u7, sc, vl, cl, ck, lr, sd, lu, iz, ac, sn, tr, tk, tv, ms, mn, es, en, tn, tf, ls, lt, lf, ik, ir) (nI p) := by
  subst e
  unfold wpX_releasePointer
  dsimp only
  rw [hb_c64 hp, nI_pred U]
  refine ⟨hb_i64 hp, nm_e (nm_e ?_)⟩
  rw [hb_c64 hU]
  exact ⟨hb_i64 hU, nm_e h⟩
theorem xl_drop {S i p r : Nat} (hi : i < 32) (hp : p < 64) (hr : r < 64) (hS : S < 32) (e : sd = nI (S + 1)) (el : lt p = nI i) {post : SX → Prop}
    (h1 : p = r → post (u0, u1, u2, u3, u4, u5, u6, u7, sc, vl, cl, ck, lr, nI S, lu, iz, ac, sn, upd tr i 0, tk, tv, upd ms i 0, mn, upd es i 0, en, tn, upd tf S (nI i), ls, lt, lf, ik, ir))
    (h2 : ¬ p = r → ∃ U, U < 64 ∧ lu = nI (U + 1) ∧ post (u0, u1, u2, u3, u4, u5, u6, u7, sc, vl, cl, ck, lr, nI S, nI U, iz, ac, sn, upd tr i 0, tk, tv, upd ms i 0, mn, upd es i 0, en, tn, upd tf S (nI i), upd ls p 0, lt, upd lf U (nI p), ik, ir)) :
    wpX_dropVersion post (u0, u1, u2, u3, u4, u5, u6, u7, sc, vl, cl, ck, lr, sd, lu, iz, ac, sn, tr, tk, tv, ms, mn, es, en, tn, tf, ls, lt, lf, ik, ir) (nI p) (nI r) := by
  unfold wpX_dropVersion
  dsimp only
  rw [hb_c64 hp, el]
  refine ⟨hb_i64 hp, xl_relT hi hS e ?_⟩
  refine br_c (fun z => h1 (hb_inj z (by omega) (by omega))) fun z => ?_
  obtain ⟨U, hU, eU, hh⟩ := h2 fun y => z (by rw [y])
  exact xl_relP hp hU eU hh
theorem xp_end {D : List hh_C} {r : Nat} {K : List hh_V} {F G : List Nat} {fi la rem : Int32} (m : hh_mid D r K [] F G fi la sd lu tn tf ls lt lf) {post : Int32 → SX → Prop}
    (h : ∀ tn' ls' lt', hh_fin D r K F G sd lu tn' tf ls' lt' lf → post rem (u0, u1, u2, u3, u4, u5, u6, u7, sc, vl, cl, ck, lr, sd, lu, iz, ac, sn, tr, tk, tv, ms, mn, es, en, tn', tf, ls', lt', lf, ik, ir)) : wX_pruneChain_105 post (nI r) fi la rem u0 u1 u2 u3 u4 u5 u6 u7 sc vl cl ck lr sd lu iz ac sn tr tk tv ms mn es en tn tf ls lt lf ik ir := by
  obtain ⟨m1, m2, _, m4, m5, m6⟩ := m
  rw [List.append_nil] at m2 m5 m6
  obtain ⟨l1, l2⟩ := sk_lt m2
  obtain ⟨n1, n2⟩ := sk_nd m2
  have hr : r < 64 := l2 r (List.mem_append_right _ ps_root)
  have rD : r ∉ hh_P D := fun z => (List.nodup_append.mp (List.nodup_append.mp n2).1).2.2 r z r ps_root rfl
  unfold wX_pruneChain_105 wX_pruneChain_118 wpX_setRoot
  dsimp only
  rw [hb_c64 hr]
  rcases m4 with ⟨rfl, rfl, rfl⟩ | ⟨K0, w, rfl, rfl, rfl, k4, k5⟩
  · refine br_t hb_n1 (br_f hb_0n1 ⟨hb_i64 hr, nm_e (h tn _ lt ⟨fun c hc => ch_fr (m1 c hc) (fun q hq => ⟨pk_un fun y => rD (P_mem.mpr ⟨c, hc, y ▸ hq⟩), rfl⟩) fun _ _ => rfl, pk_us, trivial, m2⟩)⟩)
  · have hw : w ∈ K0 ++ [w] := by simp
    have hw32 : w.2.1 < 32 := l1 _ (List.mem_append_right _ (List.mem_map.mpr ⟨w, hw, rfl⟩))
    have ndT := List.nodup_append.mp (List.nodup_append.mp n1).1
    have ndK := ndT.2.1
    rw [List.map_append, List.map_singleton] at ndK
    have ndK2 := List.nodup_append.mp ndK
    have wD : ∀ c ∈ D, ∀ v ∈ c.2.2.2, upd tn w.2.1 (-1) v.2.1 = tn v.2.1 := fun c hc v hv =>
      pk_un fun y => ndT.2.2 _ (T_mem.mpr ⟨c, hc, v, hv, rfl⟩) _ (List.mem_map.mpr ⟨w, hw, rfl⟩) y
    have wK : ∀ v ∈ K0, upd tn w.2.1 (-1) v.2.1 = tn v.2.1 := fun v hv =>
      pk_un fun y => ndK2.2.2 _ (List.mem_map.mpr ⟨v, hv, rfl⟩) _ (List.mem_singleton.mpr rfl) y
    obtain ⟨h0, M, eK, ef⟩ : ∃ h0 M, K0 ++ [w] = h0 :: M ∧ hh_hz (nI w.1) K0 = nI h0.1 := by
      cases K0 with
      | nil => exact ⟨w, [], rfl, rfl⟩
      | cons x K1 => exact ⟨x, K1 ++ [w], rfl, rfl⟩
    have hh0 : h0 ∈ K0 ++ [w] := by rw [eK]; exact List.mem_cons_self
    have hh64 : h0.1 < 64 := l2 _ (List.mem_append_right _ (ps_mem hh0))
    rw [ef, hb_c32 hw32]
    refine br_f (nI_pos (by omega)) ⟨hb_i32 hw32, nm_e (br_t (nI_pos' (by omega)) (br_c (fun z => ?_) fun z => ?_))⟩
    · have e : h0.1 = r := hb_inj z (by omega) (by omega)
      refine h _ ls lt ⟨fun c hc => ch_fr (m1 c hc) (fun _ _ => ⟨rfl, rfl⟩) (wD c hc), ?_, ?_, m2⟩
      · rw [eK]
        exact ⟨fun _ => m5 h0 hh0 e, fun y => absurd e y, fun x hx => m6 x (by rw [eK]; exact hx)⟩
      · exact sg_ap.mpr ⟨sg_fr k4 fun v hv => ⟨rfl, wK v hv⟩, k5, pk_us, trivial⟩
    · have e : ¬ h0.1 = r := fun y => z (by rw [y])
      have hK : ∀ v ∈ K0 ++ [w], ¬ v.1 = r := fun v hv => by
        rw [eK] at hv
        rcases List.mem_cons.mp hv with y | y
        · rw [y]; exact e
        · exact m6 v (by rw [eK]; exact y)
      refine ⟨hb_i64 hr, nm_e ⟨hb_i64 hr, nm_e (h _ _ _ ⟨fun c hc => ch_fr (m1 c hc) (fun q hq => ?_) (wD c hc), ?_, ?_, m2⟩)⟩⟩
      · have : q ≠ r := fun y => rD (P_mem.mpr ⟨c, hc, y ▸ hq⟩)
        exact ⟨pk_un this, pk_un this⟩
      · rw [eK]
        exact ⟨fun y => absurd y e, fun _ => ⟨pk_us, pk_us⟩, fun x hx => m6 x (by rw [eK]; exact hx)⟩
      · exact sg_ap.mpr ⟨sg_fr k4 fun v hv => ⟨pk_un (hK v (List.mem_append_left _ hv)), wK v hv⟩, by rw [pk_un (hK w hw)]; exact k5, pk_us, trivial⟩
end
end
section
section
variable {u0 u1 u2 u3 u4 u5 u6 u7 sc vl cl ck lr sd lu iz : Int32} {ac sn tr tk tv ms mn es en tn tf ls lt lf ik ir : Nat → Int32}
theorem xp_18 {D : List hh_C} {r : Nat} {h : Int32} {tr0 ms0 es0 : Nat → Int32} {post : Int32 → SX → Prop} :
    ∀ (R K : List hh_V) (k n acc : Nat) (fi la sd lu : Int32) (F G : List Nat) (tr ms es tn tf ls lf : Nat → Int32),
    k + R.length ≤ 32 → R.length < n → hh_mid D r K R F G fi la sd lu tn tf ls lt lf → hh_kv (hh_T D ++ (K ++ R).map fun v => v.2.1) tr0 ms0 es0 tr ms es → hh_fr F ms →
    (∀ (F' G' : List Nat) (sd' lu' : Int32) (tr' ms' es' tn' tf' ls' lt' lf' : Nat → Int32),
      hh_fin D r (K ++ R.filter fun v => !hh_b (hh_ded h (ms0 v.2.1) (es0 v.2.1) (en v.2.1))) F' G' sd' lu' tn' tf' ls' lt' lf' →
      hh_kv (hh_T D ++ (K ++ R.filter fun v => !hh_b (hh_ded h (ms0 v.2.1) (es0 v.2.1) (en v.2.1))).map fun v => v.2.1) tr0 ms0 es0 tr' ms' es' → hh_fr F' ms' →
      post (nI (acc + R.countP fun v => hh_b (hh_ded h (ms0 v.2.1) (es0 v.2.1) (en v.2.1)))) (u0, u1, u2, u3, u4, u5, u6, u7, sc, vl, cl, ck, lr, sd', lu', iz, ac, sn, tr', tk, tv, ms', mn, es', en, tn', tf', ls', lt', lf', ik, ir)) →
    wX_pruneChain_18 post (nI r) h n fi la (nI acc) (hh_hz (-1) R) (nI k) u0 u1 u2 u3 u4 u5 u6 u7 sc vl cl ck lr sd lu iz ac sn tr tk tv ms mn es en tn tf ls lt lf ik ir := by
  intro R
  induction R with
  | nil =>
    intro K k n acc fi la sd lu F G tr ms es tn tf ls lf hk hn m kv fr hp
    obtain ⟨n, rfl⟩ : ∃ m, n = m + 1 := ⟨n - 1, by omega⟩
    have fin : wX_pruneChain_105 post (nI r) fi la (nI acc) u0 u1 u2 u3 u4 u5 u6 u7 sc vl cl ck lr sd lu iz ac sn tr tk tv ms mn es en tn tf ls lt lf ik ir := xp_end m fun tn' ls' lt' hf =>
      hp F G sd lu tr ms es tn' tf ls' lt' lf (by rw [List.filter_nil, List.append_nil]; exact hf) kv fr
    exact br_c (fun _ => fin) fun _ => br_t hb_n1 fin
  | cons v R ih =>
    intro K k n acc fi la sd lu F G tr ms es tn tf ls lf hk hn m kv fr hp
    obtain ⟨n, rfl⟩ : ∃ m, n = m + 1 := ⟨n - 1, by omega⟩
    have hk' : k + (R.length + 1) ≤ 32 := hk
    have hn' : R.length + 1 < n + 1 := hn
    obtain ⟨m1, m2, m3, m4, m5, m6⟩ := m
    obtain ⟨a, b, m3⟩ := m3
    obtain ⟨l1, l2⟩ := sk_lt m2
    obtain ⟨n1, n2⟩ := sk_nd m2
    have hvm : v ∈ K ++ v :: R := by simp
    have hv64 : v.1 < 64 := l2 _ (List.mem_append_right _ (ps_mem hvm))
    have hvT : v.2.1 ∈ (hh_T D ++ (K ++ v :: R).map fun v => v.2.1) := List.mem_append_right _ (List.mem_map.mpr ⟨v, hvm, rfl⟩)
    have hv32 : v.2.1 < 32 := l1 _ hvT
    have hr64 : r < 64 := l2 _ (List.mem_append_right _ ps_root)
    have ndT := List.nodup_append.mp (List.nodup_append.mp n1).1
    have ndP := List.nodup_append.mp (List.nodup_append.mp n2).1
    have permT : (v.2.1 :: (hh_T D ++ (K ++ R).map fun v => v.2.1)).Perm (hh_T D ++ (K ++ v :: R).map fun v => v.2.1) := by
      rw [List.map_append, List.map_append, List.map_cons, List.perm_iff_count]
      intro x
      simp only [List.count_append, List.count_cons]
      omega
    have nT : v.2.1 ∉ (hh_T D ++ (K ++ R).map fun v => v.2.1) :=
      (List.nodup_cons.mp (permT.nodup_iff.mpr (List.nodup_append.mp n1).1)).1
    obtain ⟨kv1, kv2, kv3⟩ := kv _ hvT
    show wX_pruneChain_18 post (nI r) h (n + 1) fi la (nI acc) (nI v.1) (nI k) u0 u1 u2 u3 u4 u5 u6 u7 sc vl cl ck lr sd lu iz ac sn tr tk tv ms mn es en tn tf ls lt lf ik ir
    rw [wX_pruneChain_18]
    dsimp only
    rw [hb_c64 hv64, a, nI_1 k, nI_1 acc]
    refine br_f (hb_g32 (by omega)) (br_f (nI_pos (by omega)) ⟨hb_i64 hv64, nm_e ⟨hb_i32 hv32, nm_r ((congrArg tn (hb_c32 hv32)).trans b) ?_⟩⟩)
    refine xl_ded hv32 (fun z => br_f hb_d10 ?_) fun z => br_t rfl ?_
    · -- dead: dropped
      rw [kv2, kv3] at z
      have eP : hh_b (hh_ded h (ms0 v.2.1) (es0 v.2.1) (en v.2.1)) = true := hh_bt.mpr z
      rw [List.filter_cons, List.countP_cons, if_pos eP] at hp
      rw [eP] at hp
      have hp' := hp
      rw [if_neg (by decide)] at hp'
      have kvN : hh_kv (hh_T D ++ (K ++ R).map fun v => v.2.1) tr0 ms0 es0 (upd tr v.2.1 0) (upd ms v.2.1 0) (upd es v.2.1 0) := fun i hi => by
        have hne : i ≠ v.2.1 := fun y => nT (y ▸ hi)
        rw [pk_un hne, pk_un hne, pk_un hne]
        exact kv i (permT.mem_iff.mp (List.mem_cons_of_mem _ hi))
      have frN : hh_fr (v.2.1 :: F) (upd ms v.2.1 0) := fun i hi => by
        by_cases y : i = v.2.1
        · rw [y]; exact pk_us
        · rw [pk_un y]
          exact fr i ((List.mem_cons.mp hi).resolve_left y)
      obtain ⟨S, hS, eS, skT⟩ := sk_relT (sk_perm m2 permT (List.Perm.refl _))
      refine xl_drop hv32 hv64 hr64 hS eS a (fun er => ?_) fun er => ?_
      · refine nm_e (nm_e (ih K (k + 1) n (acc + 1) fi la (nI S) lu (v.2.1 :: F) G _ _ _ tn _ ls lf (by omega) (by omega) ⟨m1, ?_, m3, m4, fun w hw => m5 w ?_, tl_drop m6⟩ kvN frN ?_))
        · rw [ps_drop er] at skT
          exact skT
        · rcases List.mem_append.mp hw with y | y
          · exact List.mem_append_left _ y
          · exact List.mem_append_right _ (List.mem_cons_of_mem _ y)
        · intro F' G' sd' lu' tr' ms' es' tn' tf' ls' lt' lf' q1 q2 q3
          rw [hb_acc]
          exact hp' F' G' sd' lu' tr' ms' es' tn' tf' ls' lt' lf' q1 q2 q3
      · have permP : (v.1 :: (hh_P D ++ hh_ps r (K ++ R))).Perm (hh_P D ++ hh_ps r (K ++ v :: R)) := by
          have := List.perm_iff_count.mp (ps_perm (K := K) (R := R) er)
          rw [List.perm_iff_count]
          intro x
          have t := this x
          simp only [List.count_append, List.count_cons] at t ⊢
          omega
        obtain ⟨U, hU, eU, skP⟩ := sk_relP (sk_perm skT (List.Perm.refl _) permP)
        refine ⟨U, hU, eU, nm_e (nm_e (ih K (k + 1) n (acc + 1) fi la (nI S) (nI U) (v.2.1 :: F) (v.1 :: G) _ _ _ tn _ _ _ (by omega) (by omega) ⟨fun c hc => ch_fr (m1 c hc) (fun q hq => ⟨pk_un fun y => ?_, rfl⟩) fun _ _ => rfl, skP, m3, m4, fun w hw e => ?_, tl_drop m6⟩ kvN frN ?_))⟩
        · exact ndP.2.2 q (P_mem.mpr ⟨c, hc, hq⟩) v.1 (ps_mem hvm) y
        · show upd ls v.1 0 r = 1
          rw [pk_un fun y => er y.symm]
          refine m5 w ?_ e
          rcases List.mem_append.mp hw with y | y
          · exact List.mem_append_left _ y
          · exact List.mem_append_right _ (List.mem_cons_of_mem _ y)
        · intro F' G' sd' lu' tr' ms' es' tn' tf' ls' lt' lf' q1 q2 q3
          rw [hb_acc]
          exact hp' F' G' sd' lu' tr' ms' es' tn' tf' ls' lt' lf' q1 q2 q3
    · -- kept
      rw [kv2, kv3] at z
      have eP : ¬ hh_b (hh_ded h (ms0 v.2.1) (es0 v.2.1) (en v.2.1)) = true := hh_bf' z
      have eP' : hh_b (hh_ded h (ms0 v.2.1) (es0 v.2.1) (en v.2.1)) = false := by
        cases hq : hh_b (hh_ded h (ms0 v.2.1) (es0 v.2.1) (en v.2.1)) with
        | true => exact absurd hq eP
        | false => rfl
      rw [List.filter_cons, List.countP_cons, if_neg eP, Nat.add_zero] at hp
      rw [eP'] at hp
      have hp' := hp
      rw [if_pos (by decide)] at hp'
      have e1 : K ++ [v] ++ R = K ++ v :: R := by simp
      have e2 : ∀ M : List hh_V, K ++ [v] ++ M = K ++ v :: M := fun M => by simp
      have hp2 : ∀ (F' G' : List Nat) (sd' lu' : Int32) (tr' ms' es' tn' tf' ls' lt' lf' : Nat → Int32),
          hh_fin D r (K ++ [v] ++ R.filter fun v => !hh_b (hh_ded h (ms0 v.2.1) (es0 v.2.1) (en v.2.1))) F' G' sd' lu' tn' tf' ls' lt' lf' →
          hh_kv (hh_T D ++ (K ++ [v] ++ R.filter fun v => !hh_b (hh_ded h (ms0 v.2.1) (es0 v.2.1) (en v.2.1))).map fun v => v.2.1) tr0 ms0 es0 tr' ms' es' → hh_fr F' ms' →
          post (nI (acc + R.countP fun v => hh_b (hh_ded h (ms0 v.2.1) (es0 v.2.1) (en v.2.1)))) (u0, u1, u2, u3, u4, u5, u6, u7, sc, vl, cl, ck, lr, sd', lu', iz, ac, sn, tr', tk, tv, ms', mn, es', en, tn', tf', ls', lt', lf', ik, ir) := by
        intro F' G' sd' lu' tr' ms' es' tn' tf' ls' lt' lf' q1 q2 q3
        rw [e2] at q1 q2
        exact hp' F' G' sd' lu' tr' ms' es' tn' tf' ls' lt' lf' q1 q2 q3
      rcases m4 with ⟨rfl, rfl, rfl⟩ | ⟨K0, w, rfl, rfl, rfl, k4, k5⟩
      · refine br_f hb_0n1 (nm_e (ih [v] (k + 1) n acc (nI v.1) (nI v.2.1) sd lu F G tr ms es tn tf ls lf (by omega) (by omega) ⟨m1, m2, m3, Or.inr ⟨[], v, rfl, rfl, rfl, trivial, a⟩, m5, m6⟩ kv fr hp2))
      · have hw : w ∈ K0 ++ [w] ++ v :: R := by simp
        have hw32 : w.2.1 < 32 := l1 _ (List.mem_append_right _ (List.mem_map.mpr ⟨w, hw, rfl⟩))
        have ndK := ndT.2.1
        rw [List.map_append, List.map_append, List.map_singleton, List.map_cons] at ndK
        have ndK2 := List.nodup_append.mp ndK
        have ndK3 := List.nodup_append.mp ndK2.1
        have wD : ∀ c ∈ D, ∀ x ∈ c.2.2.2, upd tn w.2.1 (nI v.1) x.2.1 = tn x.2.1 := fun c hc x hx =>
          pk_un fun y => ndT.2.2 _ (T_mem.mpr ⟨c, hc, x, hx, rfl⟩) _ (List.mem_map.mpr ⟨w, hw, rfl⟩) y
        have wK : ∀ x ∈ K0, upd tn w.2.1 (nI v.1) x.2.1 = tn x.2.1 := fun x hx =>
          pk_un fun y => ndK3.2.2 _ (List.mem_map.mpr ⟨x, hx, rfl⟩) _ (List.mem_singleton.mpr rfl) y
        have wR : ∀ x ∈ R, upd tn w.2.1 (nI v.1) x.2.1 = tn x.2.1 := fun x hx =>
          pk_un fun y => ndK2.2.2 w.2.1 (List.mem_append_right _ (List.mem_singleton.mpr rfl)) x.2.1 (List.mem_cons_of_mem _ (List.mem_map.mpr ⟨x, hx, rfl⟩)) y.symm
        rw [hb_c32 hw32]
        refine br_t (nI_pos' (by omega)) ⟨hb_i32 hw32, nm_e (nm_e (ih (K0 ++ [w] ++ [v]) (k + 1) n acc _ (nI v.2.1) sd lu F G tr ms es _ tf ls lf (by omega) (by omega) ⟨fun c hc => ch_fr (m1 c hc) (fun _ _ => ⟨rfl, rfl⟩) (wD c hc), ?_, sg_fr m3 fun x hx => ⟨rfl, wR x hx⟩, Or.inr ⟨K0 ++ [w], v, rfl, ?_, rfl, ?_, a⟩, ?_, ?_⟩ ?_ fr hp2))⟩
        · rw [e1]; exact m2
        · rw [hz_ap]; rfl
        · exact sg_ap.mpr ⟨sg_fr k4 fun x hx => ⟨rfl, wK x hx⟩, k5, pk_us, trivial⟩
        · rw [e1]; exact m5
        · rw [e1]; exact m6
        · rw [e1]; exact kv
end
end
section
noncomputable def hh_pc (h : Int32) (ms es en : Nat → Int32) (c : hh_C) : hh_C := (c.1, c.2.1, c.2.2.1, c.2.2.2.filter fun v => !hh_b (hh_ded h (ms v.2.1) (es v.2.1) (en v.2.1)))
noncomputable def hh_pm (key h : Int32) (ms es en : Nat → Int32) (c : hh_C) : hh_C := if hh_b (hh_mt key c) then hh_pc h ms es en c else c
theorem ix_sub {A B : List hh_C} {c c' : hh_C} {ik ir : Nat → Int32} (e1 : c'.1 = c.1) (e2 : c'.2.1 = c.2.1) (h : hh_ix (A ++ c :: B) ik ir) : hh_ix (A ++ c' :: B) ik ir := by
  intro k d hd
  rcases Nat.lt_or_ge k A.length with z | z
  · rw [List.getElem?_append_left z] at hd
    exact h k d (by rw [List.getElem?_append_left z]; exact hd)
  · rw [List.getElem?_append_right z] at hd
    cases hk : k - A.length with
    | zero =>
      rw [hk, List.getElem?_cons_zero] at hd
      cases hd
      rw [e1, e2]
      exact h k c (by rw [List.getElem?_append_right z, hk, List.getElem?_cons_zero])
    | succ m =>
      rw [hk, List.getElem?_cons_succ] at hd
      exact h k d (by rw [List.getElem?_append_right z, hk, List.getElem?_cons_succ]; exact hd)
theorem so_sub {A B : List hh_C} {c c' : hh_C} (e1 : c'.1 = c.1) (h : (A ++ c :: B).Pairwise fun c d => c.1 ≤ d.1) : (A ++ c' :: B).Pairwise fun c d => c.1 ≤ d.1 := by
  rw [List.pairwise_append, List.pairwise_cons] at h ⊢
  refine ⟨h.1, ⟨fun d hd => by rw [e1]; exact h.2.1.1 d hd, h.2.1.2⟩, fun a ha d hd => ?_⟩
  rcases List.mem_cons.mp hd with z | z
  · rw [z, e1]; exact h.2.2 a ha c List.mem_cons_self
  · exact h.2.2 a ha d (List.mem_cons_of_mem _ z)
theorem T_mid (A B : List hh_C) (c : hh_C) : (hh_T (A ++ B) ++ c.2.2.2.map fun v => v.2.1).Perm (hh_T (A ++ c :: B)) := by
  rw [T_ap, T_ap, T_cons, List.perm_iff_count]
  intro x
  simp only [List.count_append]
  omega
theorem P_mid (A B : List hh_C) (c : hh_C) : (hh_P (A ++ B) ++ hh_ps c.2.1 c.2.2.2).Perm (hh_P (A ++ c :: B)) := by
  rw [P_ap, P_ap, P_cons, List.perm_iff_count]
  intro x
  simp only [List.count_append]
  omega
section
variable {u0 u1 u2 u3 u4 u5 u6 u7 sc vl cl ck lr sd lu iz : Int32} {ac sn tr tk tv ms mn es en tn tf ls lt lf ik ir : Nat → Int32}
theorem xp_chain {A B : List hh_C} {c : hh_C} {h : Int32} {tr0 ms0 es0 : Nat → Int32} {F G : List Nat} (H : hh_hp (A ++ c :: B) F G sd lu iz tn tf ls lt lf ik ir)
    (kv : hh_kv (hh_T (A ++ c :: B)) tr0 ms0 es0 tr ms es) (fr : hh_fr F ms) {post : Int32 → SX → Prop}
    (hp : ∀ (F' G' : List Nat) (sd' lu' : Int32) (tr' ms' es' tn' tf' ls' lt' lf' : Nat → Int32), hh_hp (A ++ hh_pc h ms0 es0 en c :: B) F' G' sd' lu' iz tn' tf' ls' lt' lf' ik ir →
      hh_kv (hh_T (A ++ hh_pc h ms0 es0 en c :: B)) tr0 ms0 es0 tr' ms' es' → hh_fr F' ms' →
      post (nI (c.2.2.2.countP fun v => hh_b (hh_ded h (ms0 v.2.1) (es0 v.2.1) (en v.2.1)))) (u0, u1, u2, u3, u4, u5, u6, u7, sc, vl, cl, ck, lr, sd', lu', iz, ac, sn, tr', tk, tv, ms', mn, es', en, tn', tf', ls', lt', lf', ik, ir)) :
    wpX_pruneChain post (u0, u1, u2, u3, u4, u5, u6, u7, sc, vl, cl, ck, lr, sd, lu, iz, ac, sn, tr, tk, tv, ms, mn, es, en, tn, tf, ls, lt, lf, ik, ir) (nI c.2.1) h := by
  have hcm : c ∈ A ++ c :: B := by simp
  have hrd := hp_rd H c hcm
  obtain ⟨h1, h2, h3, h4, h5, h6⟩ := H
  unfold wpX_pruneChain
  refine xl_fp hrd.1 hrd.2.1.1 ⟨c.2.2.2.length + 1, ?_⟩
  refine xp_18 (D := A ++ B) (r := c.2.1) (tr0 := tr0) (ms0 := ms0) (es0 := es0) c.2.2.2 [] 0 (c.2.2.2.length + 1) 0 (-1) (-1) sd lu F G tr ms es tn tf ls lf (by have := hrd.2.2.1; omega) (by omega)
    ⟨fun d hd => h5 d ?_, sk_perm h6 (T_mid A B c) (P_mid A B c), hrd.2.1.2, Or.inl ⟨rfl, rfl, rfl⟩, ?_, ?_⟩ (fun i hi => kv i ((T_mid A B c).mem_iff.mp hi)) fr ?_
  · rcases List.mem_append.mp hd with z | z
    · exact List.mem_append_left _ z
    · exact List.mem_append_right _ (List.mem_cons_of_mem _ z)
  · have hrt := hrd.2.1.1
    intro w hw e
    have hw' : w ∈ c.2.2.2 := hw
    cases hL : c.2.2.2 with
    | nil => rw [hL] at hw'; exact absurd hw' List.not_mem_nil
    | cons v M =>
      rw [hL] at hw' hrt
      obtain ⟨r1, r2, r3⟩ := hrt
      rcases List.mem_cons.mp hw' with y | y
      · exact r1 (y ▸ e)
      · exact absurd e (r3 w y)
  · have hrt := hrd.2.1.1
    intro w hw
    have hw' : w ∈ c.2.2.2.tail := hw
    cases hL : c.2.2.2 with
    | nil => rw [hL] at hw'; exact absurd hw' List.not_mem_nil
    | cons v M =>
      rw [hL] at hw' hrt
      exact hrt.2.2 w hw'
  · intro F' G' sd' lu' tr' ms' es' tn' tf' ls' lt' lf' q1 q2 q3
    rw [Nat.zero_add]
    obtain ⟨f1, f2, f3, f4⟩ := q1
    refine hp F' G' sd' lu' tr' ms' es' tn' tf' ls' lt' lf' ⟨?_, ?_, ix_sub (c := c) rfl rfl h3, so_sub (c := c) rfl h4, fun d hd => ?_, ?_⟩ (fun i hi => q2 i ((T_mid A B (hh_pc h ms0 es0 en c)).mem_iff.mpr hi)) q3
    · rw [h1]; simp
    · rw [← show (A ++ c :: B).length = (A ++ hh_pc h ms0 es0 en c :: B).length from by simp]; exact h2
    · rcases List.mem_append.mp hd with z | z
      · exact f1 d (List.mem_append_left _ z)
      · rcases List.mem_cons.mp z with z | z
        · rw [z]; exact ⟨f2, f3⟩
        · exact f1 d (List.mem_append_right _ z)
    · exact sk_perm f4 (T_mid A B (hh_pc h ms0 es0 en c)).symm (P_mid A B (hh_pc h ms0 es0 en c)).symm
theorem xp_24 {key h : Int32} {to : Nat} {tr0 ms0 es0 : Nat → Int32} {post : Int32 → SX → Prop} :
    ∀ (B A : List hh_C) (acc n : Nat) (F G : List Nat) (sd lu : Int32) (tr ms es tn tf ls lt lf : Nat → Int32),
    hh_hp (A ++ B) F G sd lu iz tn tf ls lt lf ik ir → hh_kv (hh_T (A ++ B)) tr0 ms0 es0 tr ms es → hh_fr F ms → to ≤ (A ++ B).length → B.length < n →
    (∀ q c, B[q]? = some c → (A.length + q < to ↔ hh_mt key c)) →
    (∀ (F' G' : List Nat) (sd' lu' : Int32) (tr' ms' es' tn' tf' ls' lt' lf' : Nat → Int32), hh_hp (A ++ B.map (hh_pm key h ms0 es0 en)) F' G' sd' lu' iz tn' tf' ls' lt' lf' ik ir →
      hh_kv (hh_T (A ++ B.map (hh_pm key h ms0 es0 en))) tr0 ms0 es0 tr' ms' es' → hh_fr F' ms' →
      post (nI (acc + hh_su (hh_f key fun v => hh_ded h (ms0 v.2.1) (es0 v.2.1) (en v.2.1)) B)) (u0, u1, u2, u3, u4, u5, u6, u7, sc, vl, cl, ck, lr, sd', lu', iz, ac, sn, tr', tk, tv, ms', mn, es', en, tn', tf', ls', lt', lf', ik, ir)) →
    wX_prune_24 post (nI to) h n (nI acc) (nI A.length) u0 u1 u2 u3 u4 u5 u6 u7 sc vl cl ck lr sd lu iz ac sn tr tk tv ms mn es en tn tf ls lt lf ik ir := by
  intro B
  induction B with
  | nil =>
    intro A acc n F G sd lu tr ms es tn tf ls lt lf H kv fr hto hn hk hp
    obtain ⟨n, rfl⟩ : ∃ m, n = m + 1 := ⟨n - 1, by omega⟩
    have h32 : (A ++ []).length ≤ 32 := H.2.1
    rw [List.append_nil] at hto h32
    exact br_t (nI_le hto (by omega)) (hp F G sd lu tr ms es tn tf ls lt lf H kv fr)
  | cons c B ih =>
    intro A acc n F G sd lu tr ms es tn tf ls lt lf H kv fr hto hn hk hp
    obtain ⟨n, rfl⟩ : ∃ m, n = m + 1 := ⟨n - 1, by omega⟩
    have hn' : B.length + 1 < n + 1 := hn
    have h32 : (A ++ c :: B).length ≤ 32 := H.2.1
    rw [List.length_append, List.length_cons] at h32
    have hto' : to ≤ A.length + (B.length + 1) := by
      rw [List.length_append, List.length_cons] at hto
      exact hto
    have hk0 := hk 0 c rfl
    rw [Nat.add_zero] at hk0
    rcases Nat.lt_or_ge A.length to with z | z
    · have hi' : A.length < 32 := by omega
      have hm : hh_mt key c := hk0.mp z
      have epm : hh_pm key h ms0 es0 en c = hh_pc h ms0 es0 en c := if_pos (hh_bt.mpr hm)
      have eir : ir A.length = nI c.2.1 := (H.2.2.1 A.length c (hh_in A B c)).2
      rw [wX_prune_24]
      dsimp only
      rw [hb_c32 hi', eir, nI_1 A.length]
      refine br_f (nI_ge z (by omega)) ⟨hb_i32 hi', xp_chain H kv fr fun F' G' sd' lu' tr' ms' es' tn' tf' ls' lt' lf' q1 q2 q3 => ?_⟩
      refine nm_r (nI_add _ _) (nm_e ?_)
      have e1 : A ++ hh_pc h ms0 es0 en c :: B = (A ++ [hh_pc h ms0 es0 en c]) ++ B := by simp
      have e2 : A ++ (c :: B).map (hh_pm key h ms0 es0 en) = (A ++ [hh_pc h ms0 es0 en c]) ++ B.map (hh_pm key h ms0 es0 en) := by rw [List.map_cons, epm]; simp
      rw [show A.length + 1 = (A ++ [hh_pc h ms0 es0 en c]).length from by simp]
      rw [e1] at q1 q2
      rw [e2, hh_su_c, hh_f1 hm] at hp
      refine ih (A ++ [hh_pc h ms0 es0 en c]) _ n F' G' sd' lu' tr' ms' es' tn' tf' ls' lt' lf' q1 q2 q3 ?_ (by omega) ?_ ?_
      · rw [← e1]
        rw [List.length_append, List.length_cons] at hto ⊢
        exact hto
      · intro q d hd
        have := hk (q + 1) d (by rw [List.getElem?_cons_succ]; exact hd)
        rw [← this, List.length_append, List.length_singleton]
        omega
      · intro F2 G2 sd2 lu2 tr2 ms2 es2 tn2 tf2 ls2 lt2 lf2 p1 p2 p3
        rw [Nat.add_assoc]
        exact hp F2 G2 sd2 lu2 tr2 ms2 es2 tn2 tf2 ls2 lt2 lf2 p1 p2 p3
    · have hnm : ∀ d ∈ c :: B, ¬ hh_mt key d := fun d hd y => by
        obtain ⟨q, hq⟩ := List.mem_iff_getElem?.mp hd
        have := (hk q d hq).mpr y
        omega
      have e1 : (c :: B).map (hh_pm key h ms0 es0 en) = c :: B := by
        have : ∀ d ∈ c :: B, hh_pm key h ms0 es0 en d = (fun d => d) d := fun d hd => if_neg (hh_bf' (hnm d hd))
        exact (List.map_congr_left this).trans (by simp)
      rw [e1, hh_su_0 fun d hd => hh_f0 (hnm d hd), Nat.add_zero] at hp
      exact br_t (nI_le z (by omega)) (hp F G sd lu tr ms es tn tf ls lt lf H kv fr)
end
end
section
theorem rg_mt {Cs : List hh_C} {fr to : Nat} {key : Int32} (h1 : ∀ p c, Cs[p]? = some c → (fr ≤ p ↔ key = 0 ∨ key ≤ c.1)) (h2 : ∀ p c, Cs[p]? = some c → (p < to ↔ key = 0 ∨ c.1 ≤ key)) :
    ∀ p c, Cs[p]? = some c → ((fr ≤ p ∧ p < to) ↔ hh_mt key c) := by
  intro p c hc
  rw [h1 p c hc, h2 p c hc]
  constructor
  · rintro ⟨a | a, b | b⟩
    · exact Or.inl a
    · exact Or.inl a
    · exact Or.inl b
    · exact Or.inr (Int32.le_antisymm b a)
  · rintro (a | a)
    · exact ⟨Or.inl a, Or.inl a⟩
    · rw [a]
      exact ⟨Or.inr (Int32.le_refl _), Or.inr (Int32.le_refl _)⟩
def hh_vm (K B : List hh_C) (p : Nat) (F G : List Nat) (sd lu : Int32) (tn tf ls lt lf ik ir : Nat → Int32) : Prop :=
  (∀ c ∈ K ++ B, hh_ch ls lt tn c) ∧ hh_sk (hh_T (K ++ B)) (hh_P (K ++ B)) F G sd lu tf lf ∧ hh_ix K ik ir ∧ ∀ q c, B[q]? = some c → ik (p + q) = c.1 ∧ ir (p + q) = nI c.2.1
section
variable {u0 u1 u2 u3 u4 u5 u6 u7 sc vl cl ck lr sd lu iz : Int32} {ac sn tr tk tv ms mn es en tn tf ls lt lf ik ir : Nat → Int32}
theorem xl_prune {key : Int32} {s : Nat} {Cs : List hh_C} {F G : List Nat} (hs : sc = nI s) (h8 : s ≤ 8) (hin : ∀ t, s ≤ t → t < 8 → ac t = 0)
    (H : hh_hp Cs F G sd lu iz tn tf ls lt lf ik ir) (fr : hh_fr F ms) {post : Int32 → SX → Prop}
    (hp : ∀ h, hh_hor ac sn ck h → ∀ (F' G' : List Nat) (sd' lu' : Int32) (tr' ms' es' tn' tf' ls' lt' lf' : Nat → Int32), hh_hp (Cs.map (hh_pm key h ms es en)) F' G' sd' lu' iz tn' tf' ls' lt' lf' ik ir →
      hh_kv (hh_T (Cs.map (hh_pm key h ms es en))) tr ms es tr' ms' es' → hh_fr F' ms' →
      post (nI (hh_su (hh_f key fun v => hh_ded h (ms v.2.1) (es v.2.1) (en v.2.1)) Cs)) (u0, u1, u2, u3, u4, u5, u6, u7, sc, vl, cl, ck, lr, sd', lu', iz, ac, sn, tr', tk, tv, ms', mn, es', en, tn', tf', ls', lt', lf', ik, ir)) :
    wpX_prune post (u0, u1, u2, u3, u4, u5, u6, u7, sc, vl, cl, ck, lr, sd, lu, iz, ac, sn, tr, tk, tv, ms, mn, es, en, tn, tf, ls, lt, lf, ik, ir) key := by
  unfold wpX_prune
  dsimp only
  refine xl_rs H.1 H.2.1 H.2.2.1 H.2.2.2.1 fun a ha ha2 => xl_re H.1 H.2.1 H.2.2.1 H.2.2.2.1 fun b hb hb2 => xl_hor hs h8 hin fun h hh => ⟨(Cs.drop a).length + 1, ?_⟩
  have mt := rg_mt ha2 hb2
  have e : Cs.take a ++ Cs.drop a = Cs := List.take_append_drop a Cs
  have hl : (Cs.take a).length = a := by rw [List.length_take]; omega
  have nmA : ∀ c ∈ Cs.take a, ¬ hh_mt key c := fun c hc z => by
    obtain ⟨k, hk1, hk2⟩ := hh_inA (B := Cs.drop a) hc
    rw [e] at hk2
    have := (mt k c hk2).mpr z
    omega
  have eA : (Cs.take a).map (hh_pm key h ms es en) = Cs.take a := by
    have : ∀ d ∈ Cs.take a, hh_pm key h ms es en d = (fun d => d) d := fun d hd => if_neg (hh_bf' (nmA d hd))
    exact (List.map_congr_left this).trans (by simp)
  have main : wX_prune_24 post (nI b) h ((Cs.drop a).length + 1) (nI 0) (nI (Cs.take a).length) u0 u1 u2 u3 u4 u5 u6 u7 sc vl cl ck lr sd lu iz ac sn tr tk tv ms mn es en tn tf ls lt lf ik ir := by
    refine xp_24 (key := key) (tr0 := tr) (ms0 := ms) (es0 := es) (Cs.drop a) (Cs.take a) 0 _ F G sd lu tr ms es tn tf ls lt lf (by rw [e]; exact H) (fun i _ => ⟨rfl, rfl, rfl⟩) fr (by rw [e]; exact hb) (by omega) ?_ ?_
    · intro q c hq
      rw [List.getElem?_drop] at hq
      rw [hl, ← mt (a + q) c hq]
      exact ⟨fun z => ⟨by omega, z⟩, fun z => z.2⟩
    · intro F' G' sd' lu' tr' ms' es' tn' tf' ls' lt' lf' q1 q2 q3
      have e2 : Cs.take a ++ (Cs.drop a).map (hh_pm key h ms es en) = Cs.map (hh_pm key h ms es en) := by
        rw [show Cs.map (hh_pm key h ms es en) = (Cs.take a ++ Cs.drop a).map (hh_pm key h ms es en) from by rw [e], List.map_append, eA]
      rw [e2] at q1 q2
      have e3 : hh_su (hh_f key fun v => hh_ded h (ms v.2.1) (es v.2.1) (en v.2.1)) Cs = 0 + hh_su (hh_f key fun v => hh_ded h (ms v.2.1) (es v.2.1) (en v.2.1)) (Cs.drop a) := by
        rw [← hh_su_0 (B := Cs.take a) fun d hd => hh_f0 (nmA d hd), ← hh_su_a, e]
      rw [← e3]
      exact hp h hh F' G' sd' lu' tr' ms' es' tn' tf' ls' lt' lf' q1 q2 q3
  rw [hl] at main
  exact main
theorem xv_15 {N : Nat} {F : List Nat} {post : Int32 → SX → Prop} :
    ∀ (B K : List hh_C) (p n : Nat) (G : List Nat) (lu : Int32) (ls lf ik ir : Nat → Int32), K.length ≤ p → p + B.length = N → N ≤ 32 → B.length < n → hh_vm K B p F G sd lu tn tf ls lt lf ik ir →
    (∀ (G' : List Nat) (lu' : Int32) (ls' lf' ik' ir' : Nat → Int32), hh_vm (K ++ B.filter fun c => !c.2.2.2.isEmpty) [] N F G' sd lu' tn tf ls' lt lf' ik' ir' →
      post (nI (N - (K ++ B.filter fun c => !c.2.2.2.isEmpty).length)) (u0, u1, u2, u3, u4, u5, u6, u7, sc, vl, cl, ck, lr, sd, lu', nI (K ++ B.filter fun c => !c.2.2.2.isEmpty).length, ac, sn, tr, tk, tv, ms, mn, es, en, tn, tf, ls', lt, lf', ik', ir')) →
    wX_vacuum_15 post (nI N) n (nI K.length) (nI p) u0 u1 u2 u3 u4 u5 u6 u7 sc vl cl ck lr sd lu iz ac sn tr tk tv ms mn es en tn tf ls lt lf ik ir := by
  intro B
  induction B with
  | nil =>
    intro K p n G lu ls lf ik ir hKp hpN hN hn m hp
    obtain ⟨n, rfl⟩ : ∃ m, n = m + 1 := ⟨n - 1, by omega⟩
    obtain rfl : p = N := hpN
    rw [List.filter_nil, List.append_nil] at hp
    rw [wX_vacuum_15]
    dsimp only
    rw [pk_sub hKp]
    exact br_t (nI_le (by omega) (by omega)) (hp G lu ls lf ik ir m)
  | cons c B ih =>
    intro K p n G lu ls lf ik ir hKp hpN hN hn m hp
    obtain ⟨n, rfl⟩ : ∃ m, n = m + 1 := ⟨n - 1, by omega⟩
    have hn' : B.length + 1 < n + 1 := hn
    have hpN' : p + (B.length + 1) = N := hpN
    have hi' : p < 32 := by omega
    obtain ⟨m1, m2, m3, m4⟩ := m
    obtain ⟨l1, l2⟩ := sk_lt m2
    obtain ⟨n1, n2⟩ := sk_nd m2
    have hcm : c ∈ K ++ c :: B := by simp
    have hr64 : c.2.1 < 64 := l2 _ (P_mem.mpr ⟨c, hcm, ps_root⟩)
    have m40 := m4 0 c rfl
    rw [Nat.add_zero] at m40
    rw [wX_vacuum_15]
    dsimp only
    rw [hb_c32 hi', m40.2, m40.1, nI_1 p, nI_1 K.length, hb_c32 (show K.length < 32 by omega)]
    refine br_f (nI_ge (by omega) (by omega)) ⟨hb_i32 hi', nm_e ?_⟩
    rw [hb_c64 hr64]
    refine ⟨hb_i64 hr64, br_c (fun e3 => ?_) fun e3 => ?_⟩
    · have eL : c.2.2.2 = [] := (hh_rt3 (m1 c hcm).1).mp e3
      have eF : (!c.2.2.2.isEmpty) = false := by rw [eL]; rfl
      rw [List.filter_cons, eF] at hp
      have hp' := hp
      rw [if_neg (by decide)] at hp'
      have eps : hh_ps c.2.1 c.2.2.2 = [c.2.1] := by rw [eL]; rfl
      have pT : (hh_T (K ++ B)).Perm (hh_T (K ++ c :: B)) := by
        have := T_mid K B c
        rw [eL, List.map_nil, List.append_nil] at this
        exact this
      have pP : (c.2.1 :: hh_P (K ++ B)).Perm (hh_P (K ++ c :: B)) := by
        have := P_mid K B c
        rw [eps] at this
        exact (List.perm_append_singleton _ _).symm.trans this
      have nP := (List.nodup_cons.mp (pP.nodup_iff.mpr (List.nodup_append.mp n2).1)).1
      obtain ⟨U, hU, eU, sk⟩ := sk_relP (sk_perm m2 pT pP)
      refine xl_relP hr64 hU eU (nm_e (ih K (p + 1) n (c.2.1 :: G) (nI U) _ _ ik ir (by omega) (by omega) hN (by omega) ⟨fun d hd => ?_, sk, m3, fun q d hd => ?_⟩ hp'))
      · have hd' : d ∈ K ++ c :: B := by
          rcases List.mem_append.mp hd with z | z
          · exact List.mem_append_left _ z
          · exact List.mem_append_right _ (List.mem_cons_of_mem _ z)
        exact ch_fr (m1 d hd') (fun q hq => ⟨pk_un fun y => nP (P_mem.mpr ⟨d, hd, y ▸ hq⟩), rfl⟩) fun _ _ => rfl
      · have := m4 (q + 1) d (by rw [List.getElem?_cons_succ]; exact hd)
        rw [show p + 1 + q = p + (q + 1) from by omega]
        exact this
    · have eL : ¬ c.2.2.2 = [] := fun z => e3 ((hh_rt3 (m1 c hcm).1).mpr z)
      have eF : (!c.2.2.2.isEmpty) = true := by
        cases hL : c.2.2.2 with
        | nil => exact absurd hL eL
        | cons v M => rfl
      rw [List.filter_cons, eF] at hp
      have hp' := hp
      rw [if_pos rfl] at hp'
      have iK : vp_in (nI K.length) 32 := hb_i32 (by omega)
      have e1 : ∀ M : List hh_C, K ++ c :: M = (K ++ [c]) ++ M := fun M => by simp
      rw [show K.length + 1 = (K ++ [c]).length from by simp]
      rw [e1] at hp' m1 m2
      refine ⟨hb_i32 hi', iK, nm_e ⟨iK, nm_e (nm_e (nm_e (ih (K ++ [c]) (p + 1) n G lu ls lf _ _ (by simp; omega) (by omega) hN (by omega) ⟨m1, m2, fun k d hd => ?_, fun q d hd => ?_⟩ hp')))⟩⟩
      · rcases Nat.lt_or_ge k K.length with z | z
        · rw [List.getElem?_append_left z] at hd
          rw [pk_un (by omega), pk_un (by omega)]
          exact m3 k d hd
        · have hk : k < (K ++ [c]).length := (List.getElem?_eq_some_iff.mp hd).1
          rw [List.length_append, List.length_singleton] at hk
          obtain rfl : k = K.length := by omega
          rw [List.getElem?_append_right (by omega), Nat.sub_self, List.getElem?_cons_zero] at hd
          cases hd
          rw [pk_us, pk_us]
          exact ⟨rfl, rfl⟩
      · have := m4 (q + 1) d (by rw [List.getElem?_cons_succ]; exact hd)
        rw [show p + 1 + q = p + (q + 1) from by omega, pk_un (by omega), pk_un (by omega)]
        exact this
theorem xl_vacuum {s : Nat} {Cs : List hh_C} {F G : List Nat} (hs : sc = nI s) (h8 : s ≤ 8) (hin : ∀ t, s ≤ t → t < 8 → ac t = 0)
    (H : hh_hp Cs F G sd lu iz tn tf ls lt lf ik ir) (fr : hh_fr F ms) {post : Int32 → SX → Prop}
    (hp : ∀ h, hh_hor ac sn ck h → ∀ (F' G' : List Nat) (sd' lu' : Int32) (tr' ms' es' tn' tf' ls' lt' lf' ik' ir' : Nat → Int32),
      hh_hp ((Cs.map (hh_pm 0 h ms es en)).filter fun c => !c.2.2.2.isEmpty) F' G' sd' lu' (nI ((Cs.map (hh_pm 0 h ms es en)).filter fun c => !c.2.2.2.isEmpty).length) tn' tf' ls' lt' lf' ik' ir' →
      hh_kv (hh_T (Cs.map (hh_pm 0 h ms es en))) tr ms es tr' ms' es' → hh_fr F' ms' →
      post (nI ((Cs.map (hh_pm 0 h ms es en)).countP fun c => c.2.2.2.isEmpty)) (u0, u1, u2, u3, u4, u5, u6, u7, sc, vl, cl, ck, lr, sd', lu', nI ((Cs.map (hh_pm 0 h ms es en)).filter fun c => !c.2.2.2.isEmpty).length, ac, sn, tr', tk, tv, ms', mn, es', en, tn', tf', ls', lt', lf', ik', ir')) :
    wpX_vacuum post (u0, u1, u2, u3, u4, u5, u6, u7, sc, vl, cl, ck, lr, sd, lu, iz, ac, sn, tr, tk, tv, ms, mn, es, en, tn, tf, ls, lt, lf, ik, ir) := by
  unfold wpX_vacuum
  dsimp only
  refine xl_prune hs h8 hin H fr fun h hh F' G' sd' lu' tr' ms' es' tn' tf' ls' lt' lf' q1 q2 q3 => ?_
  obtain ⟨r1, r2, r3, r4, r5, r6⟩ := q1
  have len : ∀ l : List hh_C, l.length - (l.filter fun c => !c.2.2.2.isEmpty).length = l.countP fun c => c.2.2.2.isEmpty := fun l => by
    induction l with
    | nil => rfl
    | cons c l ih =>
      have := List.length_filter_le (fun c : hh_C => !c.2.2.2.isEmpty) l
      rw [List.filter_cons, List.countP_cons, List.length_cons]
      cases hc : c.2.2.2.isEmpty with
      | true => simp only [Bool.not_true, Bool.false_eq_true, if_false, if_true]; omega
      | false => simp only [Bool.not_false, Bool.false_eq_true, if_false, if_true, List.length_cons]; omega
  have main : wX_vacuum_15 post (nI (Cs.map (hh_pm 0 h ms es en)).length) ((Cs.map (hh_pm 0 h ms es en)).length + 1) (nI ([] : List hh_C).length) (nI 0) u0 u1 u2 u3 u4 u5 u6 u7 sc vl cl ck lr sd' lu' iz ac sn tr' tk tv ms' mn es' en tn' tf' ls' lt' lf' ik ir := by
    refine xv_15 (F := F') (Cs.map (hh_pm 0 h ms es en)) [] 0 ((Cs.map (hh_pm 0 h ms es en)).length + 1) G' lu' ls' lf' ik ir
      (by simp) (by simp) r2 (by omega) ⟨r5, r6, fun k d hd => by rw [List.getElem?_nil] at hd; exact absurd hd (by simp), fun q d hd => by rw [Nat.zero_add]; exact r3 q d hd⟩
      (fun G2 lu2 ls2 lf2 ik2 ir2 m => ?_)
    obtain ⟨m1, m2, m3, _⟩ := m
    rw [List.nil_append, List.append_nil] at m1 m2
    rw [List.nil_append] at m3 ⊢
    rw [len]
    exact hp h hh F' G2 sd' lu2 tr' ms' es' tn' tf' ls2 lt' lf2 ik2 ir2 ⟨rfl, Nat.le_trans (List.length_filter_le _ _) r2, m3, r4.filter _, m1, m2⟩ q2 q3
  rw [← r1] at main
  exact ⟨_, main⟩
end
end
section
/-! the relation -/
def hh_core (k s V C c l : Nat) (Cs : List hh_C) (F G : List Nat) (sc vl cl ck lr sd lu iz : Int32) (ac sn tr tk tv ms mn es en tn tf ls lt lf ik ir st vc vr vk vv mk mm ek em ex kk : Nat → Int32) : Prop :=
  hh_num k s V C c l sc vl cl ck lr ∧ hh_tx s c ac sn ∧ hh_hp Cs F G sd lu iz tn tf ls lt lf ik ir ∧ hh_fr F ms
    ∧ hh_ver l tr tk tv ms mn es en vc vr vk vv mk mm ek em Cs ∧ hh_mv ac sn tr ms mn es en ∧ hh_y Cs st ex kk
def hh_rel (k s V C c l : Nat) (Cs : List hh_C) (F G : List Nat) : SX → SY → Prop
  | (u0, u1, u2, u3, u4, u5, u6, u7, sc, vl, cl, ck, lr, sd, lu, iz, ac, sn, tr, tk, tv, ms, mn, es, en, tn, tf, ls, lt, lf, ik, ir), (sc2, vl2, cl2, ck2, lr2, ac2, sn2, st, vc, vr, vk, vv, mk9, mm, ek, em, ex, kk) =>
    (sc2 = sc ∧ vl2 = vl ∧ cl2 = cl ∧ ck2 = ck ∧ lr2 = lr ∧ ac2 = ac ∧ sn2 = sn)
      ∧ hh_core k s V C c l Cs F G sc vl cl ck lr sd lu iz ac sn tr tk tv ms mn es en tn tf ls lt lf ik ir st vc vr vk vv mk9 mm ek em ex kk
def i_Rel (k : Nat) (u : SX) (v : SY) : Prop := ∃ s V C c l Cs F G, hh_rel k s V C c l Cs F G u v
theorem i_el {k : Nat} {u : SX} {v : SY} {P : SX → SY → Prop}
    (h : ∀ (u0 u1 u2 u3 u4 u5 u6 u7 sc vl cl ck lr sd lu iz : Int32) (ac sn tr tk tv ms mn es en tn tf ls lt lf ik ir st vc vr vk vv mk mm ek em ex kk : Nat → Int32) (s V C c l : Nat) (Cs : List hh_C) (F G : List Nat),
      hh_num k s V C c l sc vl cl ck lr → hh_tx s c ac sn → hh_hp Cs F G sd lu iz tn tf ls lt lf ik ir → hh_fr F ms →
      hh_ver l tr tk tv ms mn es en vc vr vk vv mk mm ek em Cs → hh_mv ac sn tr ms mn es en → hh_y Cs st ex kk → P (u0, u1, u2, u3, u4, u5, u6, u7, sc, vl, cl, ck, lr, sd, lu, iz, ac, sn, tr, tk, tv, ms, mn, es, en, tn, tf, ls, lt, lf, ik, ir) (sc, vl, cl, ck, lr, ac, sn, st, vc, vr, vk, vv, mk, mm, ek, em, ex, kk))
    (I : i_Rel k u v) : P u v := by
  obtain ⟨s, V, C, c, l, Cs, F, G, I⟩ := I
  obtain ⟨u0, u1, u2, u3, u4, u5, u6, u7, sc, vl, cl, ck, lr, sd, lu, iz, ac, sn, tr, tk, tv, ms, mn, es, en, tn, tf, ls, lt, lf, ik, ir⟩ := u
  obtain ⟨sc2, vl2, cl2, ck2, lr2, ac2, sn2, st, vc, vr, vk, vv, mk, mm, ek, em, ex, kk⟩ := v
  obtain ⟨⟨rfl, rfl, rfl, rfl, rfl, rfl, rfl⟩, I1, I2, I3, I4, I5, I6, I7⟩ := I
  exact h _ _ _ _ _ _ _ _ _ _ _ _ _ _ _ _ _ _ _ _ _ _ _ _ _ _ _ _ _ _ _ _ _ _ _ _ _ _ _ _ _ _ _ s V C c l Cs F G I1 I2 I3 I4 I5 I6 I7
theorem i_in {k s V C c l : Nat} {Cs : List hh_C} {F G : List Nat} {u0 u1 u2 u3 u4 u5 u6 u7 sc vl cl ck lr sd lu iz : Int32} {ac sn tr tk tv ms mn es en tn tf ls lt lf ik ir st vc vr vk vv mk mm ek em ex kk : Nat → Int32}
    (h1 : hh_num k s V C c l sc vl cl ck lr) (h2 : hh_tx s c ac sn) (h3 : hh_hp Cs F G sd lu iz tn tf ls lt lf ik ir) (h4 : hh_fr F ms)
    (h5 : hh_ver l tr tk tv ms mn es en vc vr vk vv mk mm ek em Cs) (h6 : hh_mv ac sn tr ms mn es en) (h7 : hh_y Cs st ex kk) : i_Rel k (u0, u1, u2, u3, u4, u5, u6, u7, sc, vl, cl, ck, lr, sd, lu, iz, ac, sn, tr, tk, tv, ms, mn, es, en, tn, tf, ls, lt, lf, ik, ir) (sc, vl, cl, ck, lr, ac, sn, st, vc, vr, vk, vv, mk, mm, ek, em, ex, kk) :=
  ⟨s, V, C, c, l, Cs, F, G, ⟨rfl, rfl, rfl, rfl, rfl, rfl, rfl⟩, h1, h2, h3, h4, h5, h6, h7⟩
theorem num_up {k k' s V C c l : Nat} {sc vl cl ck lr : Int32} (h : hh_num k s V C c l sc vl cl ck lr) (hk : k ≤ k') : hh_num k' s V C c l sc vl cl ck lr := by
  obtain ⟨a1, a2, a3, a4, a5, a6, a7, a8, a9, a10, a11⟩ := h
  exact ⟨a1, a2, a3, a4, a5, a6, a7, a8, by omega, a10, by omega⟩
theorem i_up {k : Nat} {u : SX} {v : SY} (h : i_Rel k u v) : i_Rel (k + 5) u v := by
  refine i_el (P := fun u v => i_Rel (k + 5) u v) ?_ h
  intro u0 u1 u2 u3 u4 u5 u6 u7 sc vl cl ck lr sd lu iz ac sn tr tk tv ms mn es en tn tf ls lt lf ik ir st vc vr vk vv mk mm ek em ex kk s V C c l Cs F G h1 h2 h3 h4 h5 h6 h7
  exact i_in (num_up h1 (by omega)) h2 h3 h4 h5 h6 h7
/-! plain laws: the two sides' versions -/
theorem mv_e3 {ac sn tr ms mn es en : Nat → Int32} (h : hh_mv ac sn tr ms mn es en) : ∀ i, i < 32 → hh_e3 (ms i) (es i) := by
  intro i hi hl
  obtain ⟨h1, h2⟩ := h.1 i hi
  rcases hl with e | e
  · rcases (h1 e).2 with z | z
    · exact Or.inl z
    · exact Or.inr (Or.inl z.1)
  · exact h2 e
theorem vis_iff {t s m a e b e' b' : Int32} (h : hh_liv m → e' = e ∧ (¬ e = 0 → b' = b)) : hh_vis t s m a e' b' ↔ hh_vis t s m a e b := by
  constructor
  · rintro ⟨h1, h2⟩
    obtain ⟨e1, e2⟩ := h (hh_mad_l h1)
    subst e1
    refine ⟨h1, ?_⟩
    rcases h2 with z | ⟨z, y⟩ | ⟨z, y⟩
    · exact Or.inl z
    · rw [e2 (by rw [z]; exact hb_d10)] at y
      exact Or.inr (Or.inl ⟨z, y⟩)
    · rw [e2 (by rw [z]; exact hb_d20)] at y
      exact Or.inr (Or.inr ⟨z, y⟩)
  · rintro ⟨h1, h2⟩
    obtain ⟨e1, e2⟩ := h (hh_mad_l h1)
    subst e1
    refine ⟨h1, ?_⟩
    rcases h2 with z | ⟨z, y⟩ | ⟨z, y⟩
    · exact Or.inl z
    · rw [← e2 (by rw [z]; exact hb_d10)] at y
      exact Or.inr (Or.inl ⟨z, y⟩)
    · rw [← e2 (by rw [z]; exact hb_d20)] at y
      exact Or.inr (Or.inr ⟨z, y⟩)
theorem ded_iff {d m e b e' b' : Int32} (h : hh_liv m → e' = e ∧ (¬ e = 0 → b' = b)) : hh_ded d m e' b' ↔ hh_ded d m e b := by
  constructor
  · rintro (z | ⟨z, y, x⟩)
    · exact Or.inl z
    · obtain ⟨e1, e2⟩ := h (Or.inr z)
      subst e1
      rw [e2 (by rw [y]; exact hb_d20)] at x
      exact Or.inr ⟨z, y, x⟩
  · rintro (z | ⟨z, y, x⟩)
    · exact Or.inl z
    · obtain ⟨e1, e2⟩ := h (Or.inr z)
      subst e1
      rw [← e2 (by rw [y]; exact hb_d20)] at x
      exact Or.inr ⟨z, y, x⟩
section
variable {l : Nat} {Cs : List hh_C} {F G : List Nat} {sd lu iz : Int32} {ac sn tr tk tv ms mn es en tn tf ls lt lf ik ir st vc vr vk vv mk mm ek em ex kk : Nat → Int32}
theorem vr_vis {c : hh_C} {v : hh_V} {t s : Int32} (h : hh_vr l tr tk tv ms mn es en vc vr vk vv mk mm ek em c v) : hh_vis t s (mk v.2.2) (mm v.2.2) (ek v.2.2) (em v.2.2) ↔ hh_vis t s (ms v.2.1) (mn v.2.1) (es v.2.1) (en v.2.1) := by
  obtain ⟨_, ⟨a, b, d⟩, _⟩ := h
  rw [a, b]
  exact vis_iff d
theorem vr_ded {c : hh_C} {v : hh_V} {d : Int32} (h : hh_vr l tr tk tv ms mn es en vc vr vk vv mk mm ek em c v) : hh_ded d (mk v.2.2) (ek v.2.2) (em v.2.2) ↔ hh_ded d (ms v.2.1) (es v.2.1) (en v.2.1) := by
  obtain ⟨_, ⟨a, b, e⟩, _⟩ := h
  rw [a]
  exact ded_iff e
/-- a live tuple is a version -/
theorem at_T (H : hh_hp Cs F G sd lu iz tn tf ls lt lf ik ir) (fr : hh_fr F ms) {i : Nat} (hi : i < 32) (hl : ¬ ms i = 0) : ∃ c ∈ Cs, ∃ v ∈ c.2.2.2, v.2.1 = i := by
  rcases sk_all H.2.2.2.2.2 hi with z | z
  · exact T_mem.mp z
  · exact absurd (fr i z) hl
theorem liv_0 {m : Int32} (h : hh_liv m) : ¬ m = 0 := by
  rcases h with e | e
  · rw [e]; exact hb_d10
  · rw [e]; exact hb_d20
theorem vis_liv {t s m a e b : Int32} (h : hh_vis t s m a e b) : hh_liv m := hh_mad_l h.1
theorem at_J (Y : hh_y Cs st ex kk) {j : Nat} (hj : j < 32) (hs : ¬ st j = 0) : ∃ c ∈ Cs, ∃ v ∈ c.2.2.2, v.2.2 = j := J_mem.mp ((Y.2.1 j).mpr ⟨hj, hs⟩)
theorem J_at (Y : hh_y Cs st ex kk) {c : hh_C} {v : hh_V} (hc : c ∈ Cs) (hv : v ∈ c.2.2.2) : v.2.2 < 32 ∧ ¬ st v.2.2 = 0 := (Y.2.1 _).mp (J_mem.mpr ⟨c, hc, v, hv, rfl⟩)
theorem T_at (H : hh_hp Cs F G sd lu iz tn tf ls lt lf ik ir) {c : hh_C} {v : hh_V} (hc : c ∈ Cs) (hv : v ∈ c.2.2.2) : v.2.1 < 32 := ((hp_rd H c hc).2.2.2 v hv).2
/-- one row, one visible version -/
theorem bf_no {e b m a e2 b2 : Int32} {t : Nat} (ht : t < 8) (h : hh_bf sn e b m a) (h1 : hh_opn (nI t) (sn t) e b) (h2 : hh_mad (nI t) (sn t) m a) : False := by
  rcases h with ⟨a1, a2, a3⟩ | ⟨a1, a2, a3⟩ | ⟨a1, a2, a3⟩
  · rcases h2 with ⟨z, _⟩ | ⟨_, z⟩
    · rw [a2] at z; exact hb_d21 z
    · exact hh_opn_2 a1 (Int32.le_trans a3 z) h1
  · rcases h2 with ⟨_, z⟩ | ⟨z, _⟩
    · rw [z, hb_c8 ht] at a3
      exact hh_opn_2 a1 a3 h1
    · rw [a2] at z; exact hb_d12 z
  · rcases h2 with ⟨_, z⟩ | ⟨z, _⟩
    · exact hh_opn_0 a1 (a3.trans z) h1
    · rw [a2] at z; exact hb_d12 z
theorem mv_uniq (M : hh_mv ac sn tr ms mn es en) {t i k : Nat} (ht : t < 8) (hi : i < 32) (hk : k < 32) (e : tr i = tr k) (h1 : hh_vis (nI t) (sn t) (ms i) (mn i) (es i) (en i)) (h2 : hh_vis (nI t) (sn t) (ms k) (mn k) (es k) (en k)) : i = k := by
  refine Classical.not_not.mp fun z => ?_
  rcases M.2 i k hi hk z (vis_liv h1) (vis_liv h2) e with y | y
  · exact bf_no (e2 := 0) (b2 := 0) ht y h1.2 h2.1
  · exact bf_no (e2 := 0) (b2 := 0) ht y h2.2 h1.1
/-- the answers of the two searches -/
theorem law_seen (H : hh_hp Cs F G sd lu iz tn tf ls lt lf ik ir) (fr : hh_fr F ms) (V : hh_ver l tr tk tv ms mn es en vc vr vk vv mk mm ek em Cs) (M : hh_mv ac sn tr ms mn es en) (Y : hh_y Cs st ex kk)
    {t : Nat} (ht : t < 8) {row : Int32} {i j : Nat} (hi : i < 32) (ei : tr i = row) (vi : hh_vis (nI t) (sn t) (ms i) (mn i) (es i) (en i))
    (hj : j < 32) (hst : ¬ st j = 0) (ej : vr j = row) (vj : hh_vis (nI t) (sn t) (mk j) (mm j) (ek j) (em j)) : ∃ c ∈ Cs, ∃ v ∈ c.2.2.2, v.2.1 = i ∧ v.2.2 = j := by
  obtain ⟨c, hc, v, hv, rfl⟩ := at_J Y hj hst
  have W := (V c hc).2.2 v hv
  refine ⟨c, hc, v, hv, mv_uniq M ht (T_at H hc hv) hi ?_ ((vr_vis W).mp vj) vi, rfl⟩
  rw [ei, ← ej, W.1.2.2.2.1]
theorem law_none (H : hh_hp Cs F G sd lu iz tn tf ls lt lf ik ir) (V : hh_ver l tr tk tv ms mn es en vc vr vk vv mk mm ek em Cs) (Y : hh_y Cs st ex kk)
    {t : Nat} {row : Int32} {j : Nat} (hj : j < 32) (hst : ¬ st j = 0) (ej : vr j = row) (vj : hh_vis (nI t) (sn t) (mk j) (mm j) (ek j) (em j)) :
    ∃ i, i < 32 ∧ tr i = row ∧ hh_vis (nI t) (sn t) (ms i) (mn i) (es i) (en i) := by
  obtain ⟨c, hc, v, hv, rfl⟩ := at_J Y hj hst
  have W := (V c hc).2.2 v hv
  exact ⟨v.2.1, T_at H hc hv, by rw [← ej, W.1.2.2.2.1], (vr_vis W).mp vj⟩
theorem law_some (H : hh_hp Cs F G sd lu iz tn tf ls lt lf ik ir) (fr : hh_fr F ms) (V : hh_ver l tr tk tv ms mn es en vc vr vk vv mk mm ek em Cs) (Y : hh_y Cs st ex kk)
    {t : Nat} {row : Int32} {i : Nat} (hi : i < 32) (ei : tr i = row) (vi : hh_vis (nI t) (sn t) (ms i) (mn i) (es i) (en i)) :
    ∃ j, j < 32 ∧ ¬ st j = 0 ∧ vr j = row ∧ hh_vis (nI t) (sn t) (mk j) (mm j) (ek j) (em j) := by
  obtain ⟨c, hc, v, hv, rfl⟩ := at_T H fr hi (liv_0 (vis_liv vi))
  have W := (V c hc).2.2 v hv
  obtain ⟨a, b⟩ := J_at Y hc hv
  exact ⟨v.2.2, a, b, by rw [W.1.2.2.2.1, ei], (vr_vis W).mpr vi⟩
theorem law_scan (H : hh_hp Cs F G sd lu iz tn tf ls lt lf ik ir) (fr : hh_fr F ms) (V : hh_ver l tr tk tv ms mn es en vc vr vk vv mk mm ek em Cs) (Y : hh_y Cs st ex kk) {t : Nat} {aft x : Int32} :
    (∃ i, i < 32 ∧ hh_vis (nI t) (sn t) (ms i) (mn i) (es i) (en i) ∧ ¬ tr i ≤ aft ∧ x = tr i) ↔ (∃ i, i < 32 ∧ (¬ st i = 0 ∧ hh_vis (nI t) (sn t) (mk i) (mm i) (ek i) (em i)) ∧ ¬ vr i ≤ aft ∧ x = vr i) := by
  constructor
  · rintro ⟨i, hi, a, b, e⟩
    obtain ⟨j, p, q, r, w⟩ := law_some H fr V Y hi rfl a
    exact ⟨j, p, ⟨q, w⟩, by rw [r]; exact b, by rw [r]; exact e⟩
  · rintro ⟨j, hj, ⟨a, b⟩, d, e⟩
    obtain ⟨i, p, q, r⟩ := law_none H V Y hj a rfl b
    exact ⟨i, p, r, by rw [q]; exact d, by rw [q]; exact e⟩
theorem law_find (H : hh_hp Cs F G sd lu iz tn tf ls lt lf ik ir) (V : hh_ver l tr tk tv ms mn es en vc vr vk vv mk mm ek em Cs) (Y : hh_y Cs st ex kk) {t : Nat} {key aft x : Int32} :
    hh_S (nI t) aft key (sn t) tr ms mn es en Cs x ↔ (∃ i, i < 32 ∧ (¬ st i = 0 ∧ hh_vis (nI t) (sn t) (mk i) (mm i) (ek i) (em i)) ∧ vk i = key ∧ ¬ vr i ≤ aft ∧ x = vr i) := by
  constructor
  · rintro ⟨c, hc, e1, v, hv, a, b, e⟩
    have W := (V c hc).2.2 v hv
    obtain ⟨p, q⟩ := J_at Y hc hv
    exact ⟨v.2.2, p, ⟨q, (vr_vis W).mpr a⟩, W.1.2.1.trans e1, by rw [W.1.2.2.2.1]; exact b, by rw [W.1.2.2.2.1]; exact e⟩
  · rintro ⟨j, hj, ⟨a, b⟩, d, e, f⟩
    obtain ⟨c, hc, v, hv, rfl⟩ := at_J Y hj a
    have W := (V c hc).2.2 v hv
    exact ⟨c, hc, W.1.2.1.symm.trans d, v, hv, (vr_vis W).mp b, by rw [← W.1.2.2.2.1]; exact e, by rw [← W.1.2.2.2.1]; exact f⟩
theorem law_nk (H : hh_hp Cs F G sd lu iz tn tf ls lt lf ik ir) (V : hh_ver l tr tk tv ms mn es en vc vr vk vv mk mm ek em Cs) (Y : hh_y Cs st ex kk) {t : Nat} {key x : Int32} :
    hh_SK (nI t) key (sn t) ms mn es en Cs x ↔ (∃ i, i < 32 ∧ (¬ st i = 0 ∧ hh_vis (nI t) (sn t) (mk i) (mm i) (ek i) (em i)) ∧ ¬ vk i ≤ key ∧ x = vk i) := by
  constructor
  · rintro ⟨c, hc, e1, ⟨v, hv, a⟩, e⟩
    have W := (V c hc).2.2 v hv
    obtain ⟨p, q⟩ := J_at Y hc hv
    exact ⟨v.2.2, p, ⟨q, (vr_vis W).mpr a⟩, by rw [W.1.2.1]; exact e1, by rw [W.1.2.1]; exact e⟩
  · rintro ⟨j, hj, ⟨a, b⟩, d, e⟩
    obtain ⟨c, hc, v, hv, rfl⟩ := at_J Y hj a
    have W := (V c hc).2.2 v hv
    exact ⟨c, hc, by rw [← W.1.2.1]; exact d, ⟨v, hv, (vr_vis W).mp b⟩, by rw [← W.1.2.1]; exact e⟩
theorem ge1_0 {x : Int32} (h : 1 ≤ x) : ¬ x = 0 := fun e => by rw [e] at h; exact absurd h (by decide)
theorem row_0 (V : hh_ver l tr tk tv ms mn es en vc vr vk vv mk mm ek em Cs) (Y : hh_y Cs st ex kk) : ∀ j, j < 32 → ¬ st j = 0 → ¬ vr j = 0 := by
  intro j hj a
  obtain ⟨c, hc, v, hv, rfl⟩ := at_J Y hj a
  have W := (V c hc).2.2 v hv
  rw [W.1.2.2.2.1]
  exact ge1_0 W.2.2.2.1
theorem key_0 (V : hh_ver l tr tk tv ms mn es en vc vr vk vv mk mm ek em Cs) (Y : hh_y Cs st ex kk) : ∀ j, j < 32 → ¬ st j = 0 → ¬ vk j = 0 := by
  intro j hj a
  obtain ⟨c, hc, v, hv, rfl⟩ := at_J Y hj a
  have W := (V c hc).2.2 v hv
  rw [W.1.2.1]
  exact ge1_0 (V c hc).1
theorem tr_0 (H : hh_hp Cs F G sd lu iz tn tf ls lt lf ik ir) (fr : hh_fr F ms) (V : hh_ver l tr tk tv ms mn es en vc vr vk vv mk mm ek em Cs) : ∀ i, i < 32 → hh_liv (ms i) → ¬ tr i = 0 := by
  intro i hi a
  obtain ⟨c, hc, v, hv, rfl⟩ := at_T H fr hi (liv_0 a)
  exact ge1_0 ((V c hc).2.2 v hv).2.2.2.1
end
end
section
/-! counts -/
theorem cnt_L {L : List Nat} {P : Nat → Prop} (nd : L.Nodup) (hm : ∀ j, j ∈ L ↔ j < 32 ∧ P j) (q : Nat → Prop) :
    (List.range' 0 32).countP (fun j => hh_b (P j ∧ q j)) = L.countP (fun j => hh_b (q j)) := by
  have pm : L.Perm ((List.range' 0 32).filter fun j => hh_b (P j)) := by
    refine (List.perm_ext_iff_of_nodup nd ((List.nodup_range' (step := 1) (by decide)).filter _)).mpr fun a => ?_
    rw [hm, List.mem_filter, List.mem_range'_1, hh_bt]
    exact ⟨fun ⟨h1, h2⟩ => ⟨⟨by omega, by omega⟩, h2⟩, fun ⟨h1, h2⟩ => ⟨by omega, h2⟩⟩
  rw [pm.countP_eq, List.countP_filter]
  refine List.countP_congr fun x _ => ?_
  rw [Bool.and_eq_true, hh_bt, hh_bt, hh_bt]
  exact and_comm
theorem cnt_J (q : Nat → Prop) (Cs : List hh_C) : (hh_J Cs).countP (fun j => hh_b (q j)) = hh_su (fun c => c.2.2.2.countP fun v => hh_b (q v.2.2)) Cs := by
  induction Cs with
  | nil => rfl
  | cons c B ih =>
    rw [J_cons, hh_su_c, List.countP_append, ih, List.countP_map]
    rfl
theorem cnt_Q (q : Nat → Prop) (Cs : List hh_C) : (hh_Q Cs).countP (fun j => hh_b (q j)) = Cs.countP fun c => hh_b (q c.2.2.1) := by
  unfold hh_Q
  rw [List.countP_map]
  rfl
theorem su_congr {f g : hh_C → Nat} {Cs : List hh_C} (h : ∀ c ∈ Cs, f c = g c) : hh_su f Cs = hh_su g Cs := by
  unfold hh_su
  rw [List.map_congr_left h]
theorem inj_of {α : Type} {f : α → Nat} {l : List α} (h : (l.map f).Nodup) {a b : α} (ha : a ∈ l) (hb : b ∈ l) (e : f a = f b) : a = b := by
  induction l with
  | nil => exact absurd ha List.not_mem_nil
  | cons x l ih =>
    rw [List.map_cons, List.nodup_cons] at h
    rcases List.mem_cons.mp ha with z | z
    · rcases List.mem_cons.mp hb with y | y
      · rw [z, y]
      · exact absurd (List.mem_map.mpr ⟨b, y, (e.symm.trans (congrArg f z))⟩) h.1
    · rcases List.mem_cons.mp hb with y | y
      · exact absurd (List.mem_map.mpr ⟨a, z, e.trans (congrArg f y)⟩) h.1
      · exact ih h.2 z y
section
variable {l : Nat} {Cs : List hh_C} {F G : List Nat} {sd lu iz : Int32} {ac sn tr tk tv ms mn es en tn tf ls lt lf ik ir st vc vr vk vv mk mm ek em ex kk : Nat → Int32}
theorem law_cnt (V : hh_ver l tr tk tv ms mn es en vc vr vk vv mk mm ek em Cs) (Y : hh_y Cs st ex kk) {key : Int32} {q : Nat → Prop} {q' : hh_V → Prop} (hq : ∀ c ∈ Cs, ∀ v ∈ c.2.2.2, q v.2.2 ↔ q' v) :
    (List.range' 0 32).countP (fun j => hh_b (¬ st j = 0 ∧ (key = 0 ∨ vk j = key) ∧ q j)) = hh_su (hh_f key q') Cs := by
  rw [cnt_L Y.1 Y.2.1, cnt_J]
  refine su_congr fun c hc => ?_
  by_cases m : hh_mt key c
  · rw [hh_f1 m]
    refine List.countP_congr fun v hv => ?_
    rw [hh_bt, hh_bt, ← hq c hc v hv, ((V c hc).2.2 v hv).1.2.1]
    exact ⟨fun z => z.2, fun z => ⟨m, z⟩⟩
  · rw [hh_f0 m, List.countP_eq_zero]
    intro v hv z
    rw [hh_bt, ((V c hc).2.2 v hv).1.2.1] at z
    exact m z.1
theorem law_emp (V : hh_ver l tr tk tv ms mn es en vc vr vk vv mk mm ek em Cs) (Y : hh_y Cs st ex kk) {c : hh_C} (hc : c ∈ Cs) : hh_emp st vc (nI c.2.2.1) ↔ c.2.2.2 = [] := by
  have q32 : ∀ d ∈ Cs, d.2.2.1 < 32 := fun d hd => ((Y.2.2.2.1 _).mp (Q_mem.mpr ⟨d, hd, rfl⟩)).1
  constructor
  · intro h
    cases hL : c.2.2.2 with
    | nil => rfl
    | cons v M =>
      have hv : v ∈ c.2.2.2 := by rw [hL]; exact List.mem_cons_self
      obtain ⟨a, b⟩ := J_at Y hc hv
      exact absurd ((V c hc).2.2 v hv).1.2.2.1 (h v.2.2 a b)
  · intro h j hj hs e
    obtain ⟨d, hd, v, hv, rfl⟩ := at_J Y hj hs
    have e2 := ((V d hd).2.2 v hv).1.2.2.1
    have e3 := hb_inj (e2.symm.trans e) (by have := q32 d hd; omega) (by have := q32 c hc; omega)
    have e4 : d = c := inj_of (f := fun c : hh_C => c.2.2.1) Y.2.2.1 hd hc e3
    rw [e4, h] at hv
    exact absurd hv List.not_mem_nil
theorem cnt_g (key oe : Int32) (Cs : List hh_C) : (Cs.countP fun c => hh_b (hh_mt key c ∧ (oe = 0 ∨ c.2.2.2 = []))) = hh_su (hh_g key oe) Cs := by
  induction Cs with
  | nil => rfl
  | cons c B ih =>
    rw [List.countP_cons, hh_su_c, ih, Nat.add_comm]
    rfl
theorem law_chn (V : hh_ver l tr tk tv ms mn es en vc vr vk vv mk mm ek em Cs) (Y : hh_y Cs st ex kk) {key oe : Int32} :
    (List.range' 0 32).countP (fun j => hh_b (¬ ex j = 0 ∧ (key = 0 ∨ kk j = key) ∧ (oe = 0 ∨ hh_emp st vc (nI j)))) = hh_su (hh_g key oe) Cs := by
  rw [cnt_L Y.2.2.1 Y.2.2.2.1, cnt_Q, ← cnt_g]
  refine List.countP_congr fun c hc => ?_
  rw [hh_bt, hh_bt, law_emp V Y hc, Y.2.2.2.2 c hc]
  exact Iff.rfl
theorem su_T {P : hh_V → Prop} (Cs : List hh_C) : hh_su (hh_f 0 fun v => (0 : Int32) = 0 ∨ P v) Cs = (hh_T Cs).length := by
  induction Cs with
  | nil => rfl
  | cons c B ih =>
    rw [hh_su_c, ih, T_cons, List.length_append, List.length_map, hh_f1 (Or.inl rfl)]
    have : (c.2.2.2.countP fun v => hh_b ((0 : Int32) = 0 ∨ P v)) = c.2.2.2.length := List.countP_eq_length.mpr fun v _ => hh_bt.mpr (Or.inl rfl)
    rw [this]
theorem su_C (Cs : List hh_C) : hh_su (hh_g 0 0) Cs = Cs.length := by
  induction Cs with
  | nil => rfl
  | cons c B ih => rw [hh_su_c, ih, hh_g1 ⟨Or.inl rfl, Or.inl rfl⟩, List.length_cons, Nat.add_comm]
theorem free_st (Y : hh_y Cs st ex kk) (h : (hh_J Cs).length < 32) : ∃ j, j < 32 ∧ st j = 0 := by
  refine Classical.not_not.mp fun z => ?_
  have : ∀ j ∈ List.range 32, j ∈ hh_J Cs := fun j hj => (Y.2.1 j).mpr ⟨List.mem_range.mp hj, fun e => z ⟨j, List.mem_range.mp hj, e⟩⟩
  have := List.Nodup.length_le_of_subset List.nodup_range this
  rw [List.length_range] at this
  omega
theorem free_ex (Y : hh_y Cs st ex kk) (h : Cs.length < 32) : ∃ q, q < 32 ∧ ex q = 0 := by
  refine Classical.not_not.mp fun z => ?_
  have : ∀ j ∈ List.range 32, j ∈ hh_Q Cs := fun j hj => (Y.2.2.2.1 j).mpr ⟨List.mem_range.mp hj, fun e => z ⟨j, List.mem_range.mp hj, e⟩⟩
  have := List.Nodup.length_le_of_subset List.nodup_range this
  rw [List.length_range] at this
  unfold hh_Q at this
  rw [List.length_map] at this
  omega
end
end
section
theorem ms_liv {l : Nat} {Cs : List hh_C} {F G : List Nat} {sd lu iz : Int32} {tr tk tv ms mn es en tn tf ls lt lf ik ir vc vr vk vv mk mm ek em : Nat → Int32} (H : hh_hp Cs F G sd lu iz tn tf ls lt lf ik ir) (fr : hh_fr F ms) (V : hh_ver l tr tk tv ms mn es en vc vr vk vv mk mm ek em Cs)
    {i : Nat} (hi : i < 32) (h0 : ¬ ms i = 0) (h3 : ¬ ms i = 3) : hh_liv (ms i) := by
  obtain ⟨c, hc, v, hv, rfl⟩ := at_T H fr hi h0
  exact ((V c hc).2.2 v hv).2.2.1.resolve_right h3
def hh_hd (m a e b x : Int32) : Prop := (m = 1 ∧ x = a) ∨ (¬ m = 1 ∧ e = 1 ∧ x = b)
theorem hd_no {ac : Nat → Int32} {m a e b x : Int32} (h : hh_mv1 ac m a e b) (e2 : e = 2) (hx : hh_hd m a e b x) : False := by
  rcases hx with ⟨z, _⟩ | ⟨_, z, _⟩
  · rcases (h.1 z).2 with y | ⟨y, _⟩
    · rw [e2] at y; exact hb_d20 y
    · rw [e2] at y; exact hb_d21 y
  · rw [e2] at z; exact hb_d21 z
theorem hd_bf {ac sn : Nat → Int32} {m a e b m' a' e' b' x y : Int32} (h : hh_mv1 ac m a e b) (hb : hh_bf sn e b m' a') (hx : hh_hd m a e b x) (hy : hh_hd m' a' e' b' y) : x = y := by
  rcases hb with ⟨z, _, _⟩ | ⟨z, _, _⟩ | ⟨z1, z2, z3⟩
  · exact (hd_no h z hx).elim
  · exact (hd_no h z hx).elim
  · have ey : y = a' := by
      rcases hy with ⟨_, w⟩ | ⟨w, _⟩
      · exact w
      · exact absurd z2 w
    rw [ey, ← z3]
    rcases hx with ⟨w1, w2⟩ | ⟨_, _, w⟩
    · rcases (h.1 w1).2 with v | ⟨_, v⟩
      · rw [z1] at v; exact absurd v hb_d10
      · rw [w2, v]
    · exact w
theorem hd_uniq {ac sn tr ms mn es en : Nat → Int32} (M : hh_mv ac sn tr ms mn es en) {i k : Nat} {x y : Int32} (hi : i < 32) (hk : k < 32) (li : hh_liv (ms i)) (lk : hh_liv (ms k)) (e : tr i = tr k)
    (hx : hh_hd (ms i) (mn i) (es i) (en i) x) (hy : hh_hd (ms k) (mn k) (es k) (en k) y) : x = y := by
  by_cases z : i = k
  · subst z
    rcases hx with ⟨a, b⟩ | ⟨a, b, d⟩
    · rcases hy with ⟨_, b'⟩ | ⟨a', _⟩
      · rw [b, b']
      · exact absurd a a'
    · rcases hy with ⟨a', _⟩ | ⟨_, _, d'⟩
      · exact absurd a' a
      · rw [d, d']
  · rcases M.2 i k hi hk z li lk e with w | w
    · exact hd_bf (M.1 i hi) w hx hy
    · exact (hd_bf (M.1 k hk) w hy hx).symm
theorem i_vc_find {k : Nat} {u : SX} {v : SY} (I : i_Rel k u v) (hk : k + 5 ≤ 2563) (v1 : Int32) (v2 : Int32) (v3 : Int32) : wpX_find (fun r => wpY_find (fun r' => r' = r ∧ i_Rel (k + 5) u v) v v1 v2 v3) u v1 v2 v3 := by
  refine i_el (P := fun u v => wpX_find (fun r => wpY_find (fun r' => r' = r ∧ i_Rel (k + 5) u v) v v1 v2 v3) u v1 v2 v3) ?_ I
  intro u0 u1 u2 u3 u4 u5 u6 u7 sc vl cl ck lr sd lu iz ac sn tr tk tv ms mn es en tn tf ls lt lf ik ir st vc vr vk vv mk mm ek em ex kk s V C c l Cs F G N T H fr Ve M Y
  have R : i_Rel (k + 5) (u0, u1, u2, u3, u4, u5, u6, u7, sc, vl, cl, ck, lr, sd, lu, iz, ac, sn, tr, tk, tv, ms, mn, es, en, tn, tf, ls, lt, lf, ik, ir) (sc, vl, cl, ck, lr, ac, sn, st, vc, vr, vk, vv, mk, mm, ek, em, ex, kk) := i_in (num_up N (by omega)) T H fr Ve M Y
  unfold wpX_find
  dsimp only
  refine xl_act N.1 N.2.2.1 (fun ha => br_f hb_d10 ?_) fun hn => br_t rfl ?_
  · obtain ⟨t, ht, rfl, hac⟩ := ha
    have s8 := N.2.2.1
    have ht8 : t < 8 := by omega
    refine xl_pos H.1 H.2.1 H.2.2.1 H.2.2.2.1 fun a ha1 ha2 => xl_pos H.1 H.2.1 H.2.2.1 H.2.2.2.1 fun b hb1 hb2 => ⟨(Cs.drop a).length + 1, ?_⟩
    have e : Cs.take a ++ Cs.drop a = Cs := List.take_append_drop a Cs
    have hl : (Cs.take a).length = a := by rw [List.length_take]; omega
    have mt : ∀ p c, Cs[p]? = some c → ((a ≤ p ∧ p < b) ↔ c.1 = v2) := fun p c hc => by
      have q1 := (ha2 p c hc).trans hh_be0
      have q2 := (hb2 p c hc).trans hh_be1
      constructor
      · rintro ⟨z1, z2⟩
        refine Int32.le_antisymm (q2.mp z2) (Classical.not_not.mp fun y => ?_)
        have := q1.mpr y
        omega
      · intro z
        have w1 : ¬ p < a := fun y => q1.mp y (by rw [z]; exact Int32.le_refl _)
        exact ⟨by omega, q2.mpr (by rw [z]; exact Int32.le_refl _)⟩
    have main : wX_find_33 (fun r => wpY_find (fun r' => r' = r ∧ i_Rel (k + 5) (u0, u1, u2, u3, u4, u5, u6, u7, sc, vl, cl, ck, lr, sd, lu, iz, ac, sn, tr, tk, tv, ms, mn, es, en, tn, tf, ls, lt, lf, ik, ir) (sc, vl, cl, ck, lr, ac, sn, st, vc, vr, vk, vv, mk, mm, ek, em, ex, kk)) (sc, vl, cl, ck, lr, ac, sn, st, vc, vr, vk, vv, mk, mm, ek, em, ex, kk) (nI t) v2 v3) (nI t) v3 (nI b) u0 u1 u2 u3 u4 u5 u6 u7 sc vl cl ck lr sd lu iz ac sn tr tk tv ms mn es en tn tf ls lt lf ik ir ((Cs.drop a).length + 1) 0 (nI (Cs.take a).length) := by
      refine xl_find ht8 (mv_e3 M) H.2.1 hb1 H.2.2.1 (hp_rd H) (fun c hc => ⟨(Ve c hc).2.1, fun v hv => ge1_0 ((Ve c hc).2.2 v hv).2.2.2.1⟩) mt (fun r hr => ?_) (Cs.drop a) (Cs.take a) 0 _ e.symm (by omega) (by omega) (Or.inl ⟨rfl, ?_⟩)
      · unfold wpY_find
        dsimp only
        refine yl_act N.1 N.2.2.1 (fun _ => br_f hb_d10 ⟨33, ?_⟩) fun z => absurd ⟨t, ht, rfl, hac⟩ z
        refine yl_find N.1 N.2.2.1 ht hac (row_0 Ve Y) (fun r' hr' => ⟨hm_uniq hr hr' fun x => law_find H Ve Y, R⟩) 32 0 0 rfl (Or.inl ⟨rfl, ?_⟩)
        rintro x ⟨i, hi, _⟩
        exact absurd hi (Nat.not_lt_zero i)
      · rintro x ⟨c, hc, z, _⟩
        obtain ⟨p, hp1, hp2⟩ := hh_inA (B := Cs.drop a) hc
        rw [e] at hp2
        have := (mt p c hp2).mpr z
        omega
    rw [hl] at main
    exact main
  · unfold wpY_find
    dsimp only
    exact yl_act N.1 N.2.2.1 (fun z => absurd z hn) fun _ => br_t rfl ⟨rfl, R⟩
theorem i_vc_scan {k : Nat} {u : SX} {v : SY} (I : i_Rel k u v) (hk : k + 5 ≤ 2563) (v1 : Int32) (v2 : Int32) : wpX_scan (fun r => wpY_scan (fun r' => r' = r ∧ i_Rel (k + 5) u v) v v1 v2) u v1 v2 := by
  refine i_el (P := fun u v => wpX_scan (fun r => wpY_scan (fun r' => r' = r ∧ i_Rel (k + 5) u v) v v1 v2) u v1 v2) ?_ I
  intro u0 u1 u2 u3 u4 u5 u6 u7 sc vl cl ck lr sd lu iz ac sn tr tk tv ms mn es en tn tf ls lt lf ik ir st vc vr vk vv mk mm ek em ex kk s V C c l Cs F G N T H fr Ve M Y
  have R : i_Rel (k + 5) (u0, u1, u2, u3, u4, u5, u6, u7, sc, vl, cl, ck, lr, sd, lu, iz, ac, sn, tr, tk, tv, ms, mn, es, en, tn, tf, ls, lt, lf, ik, ir) (sc, vl, cl, ck, lr, ac, sn, st, vc, vr, vk, vv, mk, mm, ek, em, ex, kk) := i_in (num_up N (by omega)) T H fr Ve M Y
  unfold wpX_scan
  dsimp only
  refine xl_act N.1 N.2.2.1 (fun ha => br_f hb_d10 ?_) fun hn => br_t rfl ?_
  · obtain ⟨t, ht, rfl, hac⟩ := ha
    have s8 := N.2.2.1
    have ht8 : t < 8 := by omega
    refine ⟨33, xl_scan ht8 (mv_e3 M) (tr_0 H fr Ve) (fun r hr => ?_) 32 0 0 rfl (Or.inl ⟨rfl, ?_⟩)⟩
    · unfold wpY_scan
      dsimp only
      refine yl_act N.1 N.2.2.1 (fun _ => br_f hb_d10 ⟨33, ?_⟩) fun z => absurd ⟨t, ht, rfl, hac⟩ z
      refine yl_scan N.1 N.2.2.1 ht hac (row_0 Ve Y) (fun r' hr' => ⟨hm_uniq hr hr' fun x => law_scan H fr Ve Y, R⟩) 32 0 0 rfl (Or.inl ⟨rfl, ?_⟩)
      rintro x ⟨i, hi, _⟩
      exact absurd hi (Nat.not_lt_zero i)
    · rintro x ⟨i, hi, _⟩
      exact absurd hi (Nat.not_lt_zero i)
  · unfold wpY_scan
    dsimp only
    exact yl_act N.1 N.2.2.1 (fun z => absurd z hn) fun _ => br_t rfl ⟨rfl, R⟩
theorem i_vc_nextKey {k : Nat} {u : SX} {v : SY} (I : i_Rel k u v) (hk : k + 5 ≤ 2563) (v1 : Int32) (v2 : Int32) : wpX_nextKey (fun r => wpY_nextKey (fun r' => r' = r ∧ i_Rel (k + 5) u v) v v1 v2) u v1 v2 := by
  refine i_el (P := fun u v => wpX_nextKey (fun r => wpY_nextKey (fun r' => r' = r ∧ i_Rel (k + 5) u v) v v1 v2) u v1 v2) ?_ I
  intro u0 u1 u2 u3 u4 u5 u6 u7 sc vl cl ck lr sd lu iz ac sn tr tk tv ms mn es en tn tf ls lt lf ik ir st vc vr vk vv mk mm ek em ex kk s V C c l Cs F G N T H fr Ve M Y
  have R : i_Rel (k + 5) (u0, u1, u2, u3, u4, u5, u6, u7, sc, vl, cl, ck, lr, sd, lu, iz, ac, sn, tr, tk, tv, ms, mn, es, en, tn, tf, ls, lt, lf, ik, ir) (sc, vl, cl, ck, lr, ac, sn, st, vc, vr, vk, vv, mk, mm, ek, em, ex, kk) := i_in (num_up N (by omega)) T H fr Ve M Y
  unfold wpX_nextKey
  dsimp only
  refine xl_act N.1 N.2.2.1 (fun ha => br_f hb_d10 ?_) fun hn => br_t rfl ?_
  · obtain ⟨t, ht, rfl, hac⟩ := ha
    have s8 := N.2.2.1
    have ht8 : t < 8 := by omega
    refine xl_pos H.1 H.2.1 H.2.2.1 H.2.2.2.1 fun a ha1 ha2 => ⟨(Cs.drop a).length + 1, ?_⟩
    have e : Cs.take a ++ Cs.drop a = Cs := List.take_append_drop a Cs
    have hl : (Cs.take a).length = a := by rw [List.length_take]; omega
    have mt : ∀ p c, Cs[p]? = some c → (p < a ↔ c.1 ≤ v2) := fun p c hc => (ha2 p c hc).trans hh_be1
    have main : wX_nextKey_20 (fun r => wpY_nextKey (fun r' => r' = r ∧ i_Rel (k + 5) (u0, u1, u2, u3, u4, u5, u6, u7, sc, vl, cl, ck, lr, sd, lu, iz, ac, sn, tr, tk, tv, ms, mn, es, en, tn, tf, ls, lt, lf, ik, ir) (sc, vl, cl, ck, lr, ac, sn, st, vc, vr, vk, vv, mk, mm, ek, em, ex, kk)) (sc, vl, cl, ck, lr, ac, sn, st, vc, vr, vk, vv, mk, mm, ek, em, ex, kk) (nI t) v2) (nI t) u0 u1 u2 u3 u4 u5 u6 u7 sc vl cl ck lr sd lu iz ac sn tr tk tv ms mn es en tn tf ls lt lf ik ir ((Cs.drop a).length + 1) (nI (Cs.take a).length) := by
      refine xl_nk ht8 (mv_e3 M) H.1 H.2.1 H.2.2.1 H.2.2.2.1 (hp_rd H) mt (fun r hr => ?_) (Cs.drop a) (Cs.take a) _ e.symm (by omega) (by omega) ?_
      · unfold wpY_nextKey
        dsimp only
        refine yl_act N.1 N.2.2.1 (fun _ => br_f hb_d10 ⟨33, ?_⟩) fun z => absurd ⟨t, ht, rfl, hac⟩ z
        refine yl_nk N.1 N.2.2.1 ht hac (key_0 Ve Y) (fun r' hr' => ⟨hm_uniq hr hr' fun x => law_nk H Ve Y, R⟩) 32 0 0 rfl (Or.inl ⟨rfl, ?_⟩)
        rintro x ⟨i, hi, _⟩
        exact absurd hi (Nat.not_lt_zero i)
      · rintro x ⟨c, hc, z, _⟩
        obtain ⟨p, hp1, hp2⟩ := hh_inA (B := Cs.drop a) hc
        rw [e] at hp2
        exact z ((mt p c hp2).mp (by omega))
    rw [hl] at main
    exact main
  · unfold wpY_nextKey
    dsimp only
    exact yl_act N.1 N.2.2.1 (fun z => absurd z hn) fun _ => br_t rfl ⟨rfl, R⟩
theorem i_vc_keyOf {k : Nat} {u : SX} {v : SY} (I : i_Rel k u v) (hk : k + 5 ≤ 2563) (v1 : Int32) (v2 : Int32) : wpX_keyOf (fun r => wpY_keyOf (fun r' => r' = r ∧ i_Rel (k + 5) u v) v v1 v2) u v1 v2 := by
  refine i_el (P := fun u v => wpX_keyOf (fun r => wpY_keyOf (fun r' => r' = r ∧ i_Rel (k + 5) u v) v v1 v2) u v1 v2) ?_ I
  intro u0 u1 u2 u3 u4 u5 u6 u7 sc vl cl ck lr sd lu iz ac sn tr tk tv ms mn es en tn tf ls lt lf ik ir st vc vr vk vv mk mm ek em ex kk s V C c l Cs F G N T H fr Ve M Y
  have R : i_Rel (k + 5) (u0, u1, u2, u3, u4, u5, u6, u7, sc, vl, cl, ck, lr, sd, lu, iz, ac, sn, tr, tk, tv, ms, mn, es, en, tn, tf, ls, lt, lf, ik, ir) (sc, vl, cl, ck, lr, ac, sn, st, vc, vr, vk, vv, mk, mm, ek, em, ex, kk) := i_in (num_up N (by omega)) T H fr Ve M Y
  unfold wpX_keyOf
  dsimp only
  refine xl_act N.1 N.2.2.1 (fun ha => br_f hb_d10 ?_) fun hn => br_t rfl ?_
  · obtain ⟨t, ht, rfl, hac⟩ := ha
    have s8 := N.2.2.1
    have ht8 : t < 8 := by omega
    refine xl_visTup ht8 (mv_e3 M) (fun i hi ei vi => ?_) fun z => ?_
    · rw [hb_c32 hi]
      refine br_t (nI_pos' (by omega)) ⟨hb_i32 hi, ?_⟩
      unfold wpY_keyOf
      dsimp only
      refine yl_act N.1 N.2.2.1 (fun _ => br_f hb_d10 (yl_seen N.1 N.2.2.1 ht hac (fun j hj hs ej vj => ?_) fun w => ?_)) fun z => absurd ⟨t, ht, rfl, hac⟩ z
      · rw [hb_c32 hj]
        refine br_t (nI_pos' (by omega)) ⟨hb_i32 hj, ?_, R⟩
        obtain ⟨c, hc, v, hv, rfl, rfl⟩ := law_seen H fr Ve M Y ht8 hi ei vi hj hs ej vj
        have W := (Ve c hc).2.2 v hv
        rw [W.1.1, W.1.2.1]
      · obtain ⟨j, p, q, r, s⟩ := law_some H fr Ve Y hi ei vi
        exact absurd s (w j p q r)
    · refine br_f hb_0n1 ?_
      unfold wpY_keyOf
      dsimp only
      refine yl_act N.1 N.2.2.1 (fun _ => br_f hb_d10 (yl_seen N.1 N.2.2.1 ht hac (fun j hj hs ej vj => ?_) fun w => br_f hb_0n1 ⟨rfl, R⟩)) fun z => absurd ⟨t, ht, rfl, hac⟩ z
      obtain ⟨i, p, q, r⟩ := law_none H Ve Y hj hs ej vj
      exact absurd r (z i p q)
  · unfold wpY_keyOf
    dsimp only
    exact yl_act N.1 N.2.2.1 (fun z => absurd z hn) fun _ => br_t rfl ⟨rfl, R⟩
theorem i_vc_valueOf {k : Nat} {u : SX} {v : SY} (I : i_Rel k u v) (hk : k + 5 ≤ 2563) (v1 : Int32) (v2 : Int32) : wpX_valueOf (fun r => wpY_valueOf (fun r' => r' = r ∧ i_Rel (k + 5) u v) v v1 v2) u v1 v2 := by
  refine i_el (P := fun u v => wpX_valueOf (fun r => wpY_valueOf (fun r' => r' = r ∧ i_Rel (k + 5) u v) v v1 v2) u v1 v2) ?_ I
  intro u0 u1 u2 u3 u4 u5 u6 u7 sc vl cl ck lr sd lu iz ac sn tr tk tv ms mn es en tn tf ls lt lf ik ir st vc vr vk vv mk mm ek em ex kk s V C c l Cs F G N T H fr Ve M Y
  have R : i_Rel (k + 5) (u0, u1, u2, u3, u4, u5, u6, u7, sc, vl, cl, ck, lr, sd, lu, iz, ac, sn, tr, tk, tv, ms, mn, es, en, tn, tf, ls, lt, lf, ik, ir) (sc, vl, cl, ck, lr, ac, sn, st, vc, vr, vk, vv, mk, mm, ek, em, ex, kk) := i_in (num_up N (by omega)) T H fr Ve M Y
  unfold wpX_valueOf
  dsimp only
  refine xl_act N.1 N.2.2.1 (fun ha => br_f hb_d10 ?_) fun hn => br_t rfl ?_
  · obtain ⟨t, ht, rfl, hac⟩ := ha
    have s8 := N.2.2.1
    have ht8 : t < 8 := by omega
    refine xl_visTup ht8 (mv_e3 M) (fun i hi ei vi => ?_) fun z => ?_
    · rw [hb_c32 hi]
      refine br_t (nI_pos' (by omega)) ⟨hb_i32 hi, ?_⟩
      unfold wpY_valueOf
      dsimp only
      refine yl_act N.1 N.2.2.1 (fun _ => br_f hb_d10 (yl_seen N.1 N.2.2.1 ht hac (fun j hj hs ej vj => ?_) fun w => ?_)) fun z => absurd ⟨t, ht, rfl, hac⟩ z
      · rw [hb_c32 hj]
        refine br_t (nI_pos' (by omega)) ⟨hb_i32 hj, ?_, R⟩
        obtain ⟨c, hc, v, hv, rfl, rfl⟩ := law_seen H fr Ve M Y ht8 hi ei vi hj hs ej vj
        exact ((Ve c hc).2.2 v hv).1.2.2.2.2
      · obtain ⟨j, p, q, r, s⟩ := law_some H fr Ve Y hi ei vi
        exact absurd s (w j p q r)
    · refine br_f hb_0n1 ?_
      unfold wpY_valueOf
      dsimp only
      refine yl_act N.1 N.2.2.1 (fun _ => br_f hb_d10 (yl_seen N.1 N.2.2.1 ht hac (fun j hj hs ej vj => ?_) fun w => br_f hb_0n1 ⟨rfl, R⟩)) fun z => absurd ⟨t, ht, rfl, hac⟩ z
      obtain ⟨i, p, q, r⟩ := law_none H Ve Y hj hs ej vj
      exact absurd r (z i p q)
  · unfold wpY_valueOf
    dsimp only
    exact yl_act N.1 N.2.2.1 (fun z => absurd z hn) fun _ => br_t rfl ⟨rfl, R⟩
theorem i_vc_versions {k : Nat} {u : SX} {v : SY} (I : i_Rel k u v) (hk : k + 5 ≤ 2563) (v1 : Int32) (v2 : Int32) : wpX_versions (fun r => wpY_versions (fun r' => r' = r ∧ i_Rel (k + 5) u v) v v1 (lw_bz v2)) u v1 (lw_bz v2) := by
  refine i_el (P := fun u v => wpX_versions (fun r => wpY_versions (fun r' => r' = r ∧ i_Rel (k + 5) u v) v v1 (lw_bz v2)) u v1 (lw_bz v2)) ?_ I
  intro u0 u1 u2 u3 u4 u5 u6 u7 sc vl cl ck lr sd lu iz ac sn tr tk tv ms mn es en tn tf ls lt lf ik ir st vc vr vk vv mk mm ek em ex kk s V C c l Cs F G N T H fr Ve M Y
  have R : i_Rel (k + 5) (u0, u1, u2, u3, u4, u5, u6, u7, sc, vl, cl, ck, lr, sd, lu, iz, ac, sn, tr, tk, tv, ms, mn, es, en, tn, tf, ls, lt, lf, ik, ir) (sc, vl, cl, ck, lr, ac, sn, st, vc, vr, vk, vv, mk, mm, ek, em, ex, kk) := i_in (num_up N (by omega)) T H fr Ve M Y
  generalize lw_bz v2 = od
  unfold wpX_versions
  dsimp only
  refine xl_rs H.1 H.2.1 H.2.2.1 H.2.2.2.1 fun a ha ha2 => xl_re H.1 H.2.1 H.2.2.1 H.2.2.2.1 fun b hb hb2 => xl_hor N.1 N.2.2.1 T.1 fun h hh => ⟨(Cs.drop a).length + 1, ?_⟩
  have mt := rg_mt ha2 hb2
  have e : Cs.take a ++ Cs.drop a = Cs := List.take_append_drop a Cs
  have hl : (Cs.take a).length = a := by rw [List.length_take]; omega
  have nmA : ∀ c ∈ Cs.take a, ¬ hh_mt v1 c := fun c hc z => by
    obtain ⟨k, hk1, hk2⟩ := hh_inA (B := Cs.drop a) hc
    rw [e] at hk2
    have := (mt k c hk2).mpr z
    omega
  have main : wX_versions_25 (fun r => wpY_versions (fun r' => r' = r ∧ i_Rel (k + 5) (u0, u1, u2, u3, u4, u5, u6, u7, sc, vl, cl, ck, lr, sd, lu, iz, ac, sn, tr, tk, tv, ms, mn, es, en, tn, tf, ls, lt, lf, ik, ir) (sc, vl, cl, ck, lr, ac, sn, st, vc, vr, vk, vv, mk, mm, ek, em, ex, kk)) (sc, vl, cl, ck, lr, ac, sn, st, vc, vr, vk, vv, mk, mm, ek, em, ex, kk) v1 od) od (nI b) h u0 u1 u2 u3 u4 u5 u6 u7 sc vl cl ck lr sd lu iz ac sn tr tk tv ms mn es en tn tf ls lt lf ik ir ((Cs.drop a).length + 1) (nI 0) (nI (Cs.take a).length) := by
    refine xl_ver25 H.2.1 hb H.2.2.1 (hp_rd H) mt (Cs.drop a) (Cs.take a) 0 _ e.symm (by omega) (by omega) ?_
    refine ⟨33, yl_ver5 (fun t ht => ?_) (fun _ => hh) 32 0 0 rfl ⟨?_, R⟩⟩
    · rw [N.2.2.2.2.2.2.2.1]; exact T.2 t ht
    · rw [law_cnt Ve Y (q' := fun v => od = 0 ∨ hh_ded h (ms v.2.1) (es v.2.1) (en v.2.1)) fun c hc v hv => or_congr Iff.rfl (vr_ded ((Ve c hc).2.2 v hv))]
      have e3 : hh_su (hh_f v1 fun v => od = 0 ∨ hh_ded h (ms v.2.1) (es v.2.1) (en v.2.1)) Cs = 0 + hh_su (hh_f v1 fun v => od = 0 ∨ hh_ded h (ms v.2.1) (es v.2.1) (en v.2.1)) (Cs.drop a) := by
        rw [← hh_su_0 (B := Cs.take a) fun d hd => hh_f0 (nmA d hd), ← hh_su_a, e]
      rw [e3, Nat.zero_add, Nat.zero_add]
  rw [hl] at main
  exact main
theorem i_vc_chains {k : Nat} {u : SX} {v : SY} (I : i_Rel k u v) (hk : k + 5 ≤ 2563) (v1 : Int32) (v2 : Int32) : wpX_chains (fun r => wpY_chains (fun r' => r' = r ∧ i_Rel (k + 5) u v) v v1 (lw_bz v2)) u v1 (lw_bz v2) := by
  refine i_el (P := fun u v => wpX_chains (fun r => wpY_chains (fun r' => r' = r ∧ i_Rel (k + 5) u v) v v1 (lw_bz v2)) u v1 (lw_bz v2)) ?_ I
  intro u0 u1 u2 u3 u4 u5 u6 u7 sc vl cl ck lr sd lu iz ac sn tr tk tv ms mn es en tn tf ls lt lf ik ir st vc vr vk vv mk mm ek em ex kk s V C c l Cs F G N T H fr Ve M Y
  have R : i_Rel (k + 5) (u0, u1, u2, u3, u4, u5, u6, u7, sc, vl, cl, ck, lr, sd, lu, iz, ac, sn, tr, tk, tv, ms, mn, es, en, tn, tf, ls, lt, lf, ik, ir) (sc, vl, cl, ck, lr, ac, sn, st, vc, vr, vk, vv, mk, mm, ek, em, ex, kk) := i_in (num_up N (by omega)) T H fr Ve M Y
  generalize lw_bz v2 = oe
  unfold wpX_chains
  dsimp only
  refine xl_rs H.1 H.2.1 H.2.2.1 H.2.2.2.1 fun a ha ha2 => xl_re H.1 H.2.1 H.2.2.1 H.2.2.2.1 fun b hb hb2 => ⟨(Cs.drop a).length + 1, ?_⟩
  have mt := rg_mt ha2 hb2
  have e : Cs.take a ++ Cs.drop a = Cs := List.take_append_drop a Cs
  have hl : (Cs.take a).length = a := by rw [List.length_take]; omega
  have nmA : ∀ c ∈ Cs.take a, ¬ hh_mt v1 c := fun c hc z => by
    obtain ⟨k, hk1, hk2⟩ := hh_inA (B := Cs.drop a) hc
    rw [e] at hk2
    have := (mt k c hk2).mpr z
    omega
  have main : wX_chains_19 (fun r => wpY_chains (fun r' => r' = r ∧ i_Rel (k + 5) (u0, u1, u2, u3, u4, u5, u6, u7, sc, vl, cl, ck, lr, sd, lu, iz, ac, sn, tr, tk, tv, ms, mn, es, en, tn, tf, ls, lt, lf, ik, ir) (sc, vl, cl, ck, lr, ac, sn, st, vc, vr, vk, vv, mk, mm, ek, em, ex, kk)) (sc, vl, cl, ck, lr, ac, sn, st, vc, vr, vk, vv, mk, mm, ek, em, ex, kk) v1 oe) oe (nI b) u0 u1 u2 u3 u4 u5 u6 u7 sc vl cl ck lr sd lu iz ac sn tr tk tv ms mn es en tn tf ls lt lf ik ir ((Cs.drop a).length + 1) (nI 0) (nI (Cs.take a).length) := by
    refine xl_chn19 H.2.1 hb H.2.2.1 (hp_rd H) mt (Cs.drop a) (Cs.take a) 0 _ e.symm (by omega) (by omega) ?_
    refine ⟨33, yl_chn5 32 0 0 rfl ⟨?_, R⟩⟩
    rw [law_chn Ve Y]
    have e3 : hh_su (hh_g v1 oe) Cs = 0 + hh_su (hh_g v1 oe) (Cs.drop a) := by
      rw [← hh_su_0 (B := Cs.take a) fun d hd => hh_g0 fun z => nmA d hd z.1, ← hh_su_a, e]
    rw [e3, Nat.zero_add, Nat.zero_add]
  rw [hl] at main
  exact main
theorem i_vc_holder {k : Nat} {u : SX} {v : SY} (I : i_Rel k u v) (hk : k + 5 ≤ 2563) (v1 : Int32) : wpX_holder (fun r => wpY_holder (fun r' => r' = r ∧ i_Rel (k + 5) u v) v v1) u v1 := by
  refine i_el (P := fun u v => wpX_holder (fun r => wpY_holder (fun r' => r' = r ∧ i_Rel (k + 5) u v) v v1) u v1) ?_ I
  intro u0 u1 u2 u3 u4 u5 u6 u7 sc vl cl ck lr sd lu iz ac sn tr tk tv ms mn es en tn tf ls lt lf ik ir st vc vr vk vv mk mm ek em ex kk s V C c l Cs F G N T H fr Ve M Y
  have R : i_Rel (k + 5) (u0, u1, u2, u3, u4, u5, u6, u7, sc, vl, cl, ck, lr, sd, lu, iz, ac, sn, tr, tk, tv, ms, mn, es, en, tn, tf, ls, lt, lf, ik, ir) (sc, vl, cl, ck, lr, ac, sn, st, vc, vr, vk, vv, mk, mm, ek, em, ex, kk) := i_in (num_up N (by omega)) T H fr Ve M Y
  -- a place of the reference as a tuple
  have yx : ∀ j, j < 32 → ¬ st j = 0 → ¬ mk j = 3 → vr j = v1 → ∃ i, i < 32 ∧ hh_liv (ms i) ∧ tr i = v1 ∧ mk j = ms i ∧ mm j = mn i ∧ ek j = es i ∧ (¬ es i = 0 → em j = en i) := by
    intro j hj hs h3 er
    obtain ⟨c, hc, v, hv, rfl⟩ := at_J Y hj hs
    have W := (Ve c hc).2.2 v hv
    have hl : hh_liv (ms v.2.1) := W.2.2.1.resolve_right (by rw [← W.2.1.1]; exact h3)
    exact ⟨v.2.1, T_at H hc hv, hl, by rw [← W.1.2.2.2.1]; exact er, W.2.1.1, W.2.1.2.1, (W.2.1.2.2 hl).1, (W.2.1.2.2 hl).2⟩
  have found : ∀ x i, i < 32 → hh_liv (ms i) → tr i = v1 → hh_hd (ms i) (mn i) (es i) (en i) x → wpY_holder (fun r' => r' = x ∧ i_Rel (k + 5) (u0, u1, u2, u3, u4, u5, u6, u7, sc, vl, cl, ck, lr, sd, lu, iz, ac, sn, tr, tk, tv, ms, mn, es, en, tn, tf, ls, lt, lf, ik, ir) (sc, vl, cl, ck, lr, ac, sn, st, vc, vr, vk, vv, mk, mm, ek, em, ex, kk)) (sc, vl, cl, ck, lr, ac, sn, st, vc, vr, vk, vv, mk, mm, ek, em, ex, kk) v1 := by
    intro x i hi hl er hx
    refine ⟨33, yl_hold (fun j hj hs h3 ej => ?_) (fun z => ?_) 32 0 rfl fun k hk => absurd hk (Nat.not_lt_zero k)⟩
    · obtain ⟨i2, a1, a2, a3, a4, a5, a6, a7⟩ := yx j hj hs h3 ej
      refine ⟨fun e1 => ⟨?_, R⟩, fun n1 e1 => ⟨?_, R⟩⟩
      · exact hd_uniq M a1 hi a2 hl (a3.trans er.symm) (Or.inl ⟨by rw [← a4]; exact e1, a5⟩) hx
      · rw [a6] at e1
        exact hd_uniq M a1 hi a2 hl (a3.trans er.symm) (Or.inr ⟨by rw [← a4]; exact n1, e1, a7 (by rw [e1]; exact hb_d10)⟩) hx
    · obtain ⟨c, hc, v, hv, rfl⟩ := at_T H fr hi (liv_0 hl)
      have W := (Ve c hc).2.2 v hv
      obtain ⟨p, q⟩ := J_at Y hc hv
      have h3 : ¬ mk v.2.2 = 3 := by
        rw [W.2.1.1]
        rcases hl with y | y
        · rw [y]; exact hb_d13
        · rw [y]; exact hb_d23
      obtain ⟨w1, w2⟩ := z v.2.2 p q h3 (W.1.2.2.2.1.trans er)
      rw [W.2.1.1] at w1
      rw [(W.2.1.2.2 hl).1] at w2
      rcases hx with ⟨y, _⟩ | ⟨_, y, _⟩
      · exact absurd y w1
      · exact absurd y w2
  refine ⟨33, xl_hold (fun i hi h0 h3 er => ?_) (fun z => ?_) 32 0 rfl fun k hk => absurd hk (Nat.not_lt_zero k)⟩
  · have hl := ms_liv H fr Ve hi h0 h3
    exact ⟨fun e1 => found _ i hi hl er (Or.inl ⟨e1, rfl⟩), fun n1 e1 => found _ i hi hl er (Or.inr ⟨n1, e1, rfl⟩)⟩
  · refine ⟨33, yl_hold (fun j hj hs h3 ej => ?_) (fun _ => ⟨rfl, R⟩) 32 0 rfl fun k hk => absurd hk (Nat.not_lt_zero k)⟩
    obtain ⟨i2, a1, a2, a3, a4, a5, a6, a7⟩ := yx j hj hs h3 ej
    have h30 : ¬ ms i2 = 3 := by rw [← a4]; exact h3
    obtain ⟨w1, w2⟩ := z i2 a1 (liv_0 a2) h30 a3
    exact ⟨fun e1 => absurd (by rw [← a4]; exact e1) w1, fun n1 e1 => absurd (by rw [← a6]; exact e1) w2⟩
end
section
/-! what the writers keep: makings and endings -/
section
variable {ac sn tr ms mn es en : Nat → Int32}
theorem act_1 {t n : Nat} {x : Int32} (h : hh_act n ac x) : hh_act n (upd ac t 1) x := by
  obtain ⟨t', h1, h2, h3⟩ := h
  refine ⟨t', h1, h2, ?_⟩
  by_cases e : t' = t
  · rw [e, pk_us]; exact hb_d10
  · rw [pk_un e]; exact h3
theorem act_0 {t n : Nat} {x : Int32} (h : hh_act n ac x) (hx : ¬ x = nI t) : hh_act n (upd ac t 0) x := by
  obtain ⟨t', h1, h2, h3⟩ := h
  exact ⟨t', h1, h2, by rw [pk_un fun e => hx (by rw [h2, e])]; exact h3⟩
theorem mv_beg (M : hh_mv ac sn tr ms mn es en) {t : Nat} (ht : t < 8) (h0 : ac t = 0) (x : Int32) : hh_mv (upd ac t 1) (upd sn t x) tr ms mn es en := by
  have key : ∀ i k, k < 32 → hh_bf sn (es i) (en i) (ms k) (mn k) → hh_bf (upd sn t x) (es i) (en i) (ms k) (mn k) := by
    intro i k hk h
    rcases h with a | ⟨a, b, d⟩ | a
    · exact Or.inl a
    · obtain ⟨t', q1, q2, q3⟩ := ((M.1 k hk).1 b).1
      refine Or.inr (Or.inl ⟨a, b, ?_⟩)
      rw [q2, hb_c8 q1] at d ⊢
      rw [pk_un fun e => q3 (by rw [e]; exact h0)]
      exact d
    · exact Or.inr (Or.inr a)
  refine ⟨fun i hi => ⟨fun e => ⟨act_1 ((M.1 i hi).1 e).1, ((M.1 i hi).1 e).2⟩, (M.1 i hi).2⟩, fun i k hi hk hne h1 h2 e => ?_⟩
  rcases M.2 i k hi hk hne h1 h2 e with z | z
  · exact Or.inl (key i k hk z)
  · exact Or.inr (key k i hi z)
theorem cm_liv {T C m a m' a' : Int32} (h : hh_cm T C m a m' a') (hl : hh_liv m') : hh_liv m := by
  rcases h with ⟨h1, _⟩ | ⟨_, h2, _⟩
  · exact Or.inl h1
  · rw [← h2]; exact hl
theorem com_bf {T C e b m a e' b' m' a' : Int32} (hE : hh_cm T C e b e' b') (hM : hh_cm T C m a m' a') (h : hh_bf sn e b m a) (hs : sn T.toNatClampNeg ≤ C) : hh_bf sn e' b' m' a' := by
  rcases h with ⟨a1, a2, a3⟩ | ⟨a1, a2, a3⟩ | ⟨a1, a2, a3⟩
  · subst a1 a2
    rcases hE with ⟨z, _⟩ | ⟨_, rfl, rfl⟩
    · exact absurd z hb_d21
    rcases hM with ⟨z, _⟩ | ⟨_, rfl, rfl⟩
    · exact absurd z hb_d21
    exact Or.inl ⟨rfl, rfl, a3⟩
  · subst a1 a2
    rcases hE with ⟨z, _⟩ | ⟨_, rfl, rfl⟩
    · exact absurd z hb_d21
    rcases hM with ⟨_, z1, rfl, rfl⟩ | ⟨_, rfl, rfl⟩
    · rw [z1] at a3
      exact Or.inl ⟨rfl, rfl, Int32.le_trans a3 hs⟩
    · exact Or.inr (Or.inl ⟨rfl, rfl, a3⟩)
  · subst a1 a2 a3
    rcases hE with ⟨_, z1, rfl, rfl⟩ | ⟨z, rfl, rfl⟩
    · rcases hM with ⟨_, _, rfl, rfl⟩ | ⟨z, _⟩
      · exact Or.inl ⟨rfl, rfl, Int32.le_refl _⟩
      · exact absurd ⟨rfl, z1⟩ z
    · rcases hM with ⟨_, z1, _⟩ | ⟨_, rfl, rfl⟩
      · exact absurd ⟨rfl, z1⟩ z
      · exact Or.inr (Or.inr ⟨rfl, rfl, rfl⟩)
theorem com_mv1 {t : Nat} {C m a e b m' a' e' b' : Int32} (h : hh_mv1 ac m a e b) (hM : hh_cm (nI t) C m a m' a') (hE : hh_cm (nI t) C e b e' b') : hh_mv1 (upd ac t 0) m' a' e' b' := by
  rcases hM with ⟨rfl, z1, rfl, rfl⟩ | ⟨z, rfl, rfl⟩
  · refine ⟨fun y => absurd y hb_d21, fun _ => ?_⟩
    obtain ⟨h1, h2⟩ := h.1 rfl
    rcases h2 with rfl | ⟨rfl, y⟩
    · rcases hE with ⟨x, _⟩ | ⟨_, rfl, _⟩
      · exact absurd x hb_d01
      · exact Or.inl rfl
    · rcases hE with ⟨_, _, rfl, _⟩ | ⟨x, _⟩
      · exact Or.inr (Or.inr rfl)
      · exact absurd ⟨rfl, y.trans z1⟩ x
  · refine ⟨fun y => ?_, fun y => ?_⟩
    · subst y
      obtain ⟨h1, h2⟩ := h.1 rfl
      have na : ¬ a' = nI t := fun x => z ⟨rfl, x⟩
      refine ⟨act_0 h1 na, ?_⟩
      rcases h2 with rfl | ⟨rfl, y⟩
      · rcases hE with ⟨x, _⟩ | ⟨_, rfl, _⟩
        · exact absurd x hb_d01
        · exact Or.inl rfl
      · rcases hE with ⟨_, x, _⟩ | ⟨_, rfl, rfl⟩
        · exact absurd (y.symm.trans x) na
        · exact Or.inr ⟨rfl, y⟩
    · rcases hE with ⟨_, _, rfl, _⟩ | ⟨_, rfl, _⟩
      · exact Or.inr (Or.inr rfl)
      · exact h.2 y
theorem mv_com (M : hh_mv ac sn tr ms mn es en) {t : Nat} {C : Int32} {ms' mn' es' en' : Nat → Int32} (ht : t < 8) (hs : sn t ≤ C) (h1 : hh_ci (nI t) C 32 ms mn ms' mn') (h2 : hh_ci (nI t) C 32 es en es' en') :
    hh_mv (upd ac t 0) sn tr ms' mn' es' en' := by
  have hs' : sn (nI t).toNatClampNeg ≤ C := by rw [hb_c8 ht]; exact hs
  refine ⟨fun i hi => com_mv1 (M.1 i hi) (h1.1 i hi) (h2.1 i hi), fun i k hi hk hne l1 l2 e => ?_⟩
  rcases M.2 i k hi hk hne (cm_liv (h1.1 i hi) l1) (cm_liv (h1.1 k hk) l2) e with z | z
  · exact Or.inl (com_bf (h2.1 i hi) (h1.1 k hk) z hs')
  · exact Or.inr (com_bf (h2.1 k hk) (h1.1 i hi) z hs')
theorem cg_liv {T m a m' : Int32} (h : hh_cg T 3 m a m') (hl : hh_liv m') : ¬ (m = 1 ∧ a = T) ∧ m' = m := by
  rcases h with ⟨_, _, h1⟩ | h
  · rw [h1] at hl
    rcases hl with y | y
    · exact absurd y hb_d31
    · exact absurd y hb_d32
  · exact h
theorem abo_bf {T e b m a e' m' : Int32} (hE : hh_cg T 0 e b e') (hM : hh_cg T 3 m a m') (hl : hh_liv m') (h : hh_bf sn e b m a) : hh_bf sn e' b m' a := by
  obtain ⟨n1, rfl⟩ := cg_liv hM hl
  rcases h with ⟨a1, a2, a3⟩ | ⟨a1, a2, a3⟩ | ⟨a1, a2, a3⟩
  · subst a1
    rcases hE with ⟨z, _⟩ | ⟨_, rfl⟩
    · exact absurd z hb_d21
    · exact Or.inl ⟨rfl, a2, a3⟩
  · subst a1
    rcases hE with ⟨z, _⟩ | ⟨_, rfl⟩
    · exact absurd z hb_d21
    · exact Or.inr (Or.inl ⟨rfl, a2, a3⟩)
  · subst a1
    rcases hE with ⟨_, z, _⟩ | ⟨_, rfl⟩
    · exact absurd ⟨a2, a3.symm.trans z⟩ n1
    · exact Or.inr (Or.inr ⟨rfl, a2, a3⟩)
theorem abo_mv1 {t : Nat} {m a e b m' e' : Int32} (h : hh_mv1 ac m a e b) (hM : hh_cg (nI t) 3 m a m') (hE : hh_cg (nI t) 0 e b e') : hh_mv1 (upd ac t 0) m' a e' b := by
  refine ⟨fun y => ?_, fun y => ?_⟩
  · obtain ⟨n1, rfl⟩ := cg_liv hM (Or.inl y)
    subst y
    obtain ⟨h1, h2⟩ := h.1 rfl
    have na : ¬ a = nI t := fun x => n1 ⟨rfl, x⟩
    refine ⟨act_0 h1 na, ?_⟩
    rcases h2 with rfl | ⟨rfl, y⟩
    · rcases hE with ⟨x, _⟩ | ⟨_, rfl⟩
      · exact absurd x hb_d01
      · exact Or.inl rfl
    · rcases hE with ⟨_, x, _⟩ | ⟨_, rfl⟩
      · exact absurd (y.symm.trans x) na
      · exact Or.inr ⟨rfl, y⟩
  · obtain ⟨n1, rfl⟩ := cg_liv hM (Or.inr y)
    rcases hE with ⟨_, _, rfl⟩ | ⟨_, rfl⟩
    · exact Or.inl rfl
    · exact h.2 y
theorem mv_abo (M : hh_mv ac sn tr ms mn es en) {t : Nat} {ms' es' : Nat → Int32} (h1 : hh_cj (nI t) 3 32 mn ms ms') (h2 : hh_cj (nI t) 0 32 en es es') : hh_mv (upd ac t 0) sn tr ms' mn es' en := by
  refine ⟨fun i hi => abo_mv1 (M.1 i hi) (h1.1 i hi) (h2.1 i hi), fun i k hi hk hne l1 l2 e => ?_⟩
  have e1 := (cg_liv (h1.1 i hi) l1).2
  have e2 := (cg_liv (h1.1 k hk) l2).2
  rcases M.2 i k hi hk hne (by rw [← e1]; exact l1) (by rw [← e2]; exact l2) e with z | z
  · exact Or.inl (abo_bf (h2.1 i hi) (h1.1 k hk) l2 z)
  · exact Or.inr (abo_bf (h2.1 k hk) (h1.1 i hi) l1 z)
theorem bf_0 {e b m a : Int32} (h : hh_bf sn e b m a) (e0 : e = 0) : False := by
  subst e0
  rcases h with ⟨z, _⟩ | ⟨z, _⟩ | ⟨z, _⟩
  · exact hb_d02 z
  · exact hb_d02 z
  · exact hb_d01 z
theorem mv_end (M : hh_mv ac sn tr ms mn es en) {t o : Nat} (ho : o < 32) (hv : hh_vis (nI t) (sn t) (ms o) (mn o) (es o) (en o)) (e0 : es o = 0) : hh_mv ac sn tr ms mn (upd es o 1) (upd en o (nI t)) := by
  refine ⟨fun i hi => ?_, fun i k hi hk hne l1 l2 e => ?_⟩
  · by_cases z : i = o
    · subst z
      rw [pk_us, pk_us]
      refine ⟨fun y => ⟨((M.1 i hi).1 y).1, Or.inr ⟨rfl, ?_⟩⟩, fun _ => Or.inr (Or.inl rfl)⟩
      rcases hv.1 with ⟨_, x⟩ | ⟨x, _⟩
      · exact x.symm
      · rw [y] at x; exact absurd x hb_d12
    · rw [pk_un z, pk_un z]
      exact M.1 i hi
  · rcases M.2 i k hi hk hne l1 l2 e with z | z
    · have : i ≠ o := fun y => bf_0 z (by rw [y]; exact e0)
      refine Or.inl ?_
      rw [pk_un this, pk_un this]
      exact z
    · have : k ≠ o := fun y => bf_0 z (by rw [y]; exact e0)
      refine Or.inr ?_
      rw [pk_un this, pk_un this]
      exact z
/-- behind an ended version of the row a new one may come -/
theorem row_end (M : hh_mv ac sn tr ms mn es en) {t o : Nat} (ht : t < 8) (ho : o < 32) (hv : hh_vis (nI t) (sn t) (ms o) (mn o) (es o) (en o)) (e0 : es o = 0) :
    ∀ w, w < 32 → hh_liv (ms w) → tr w = tr o → hh_bf sn (upd es o 1 w) (upd en o (nI t) w) 1 (nI t) := by
  intro w hw hl e
  by_cases z : w = o
  · subst z
    rw [pk_us, pk_us]
    exact Or.inr (Or.inr ⟨rfl, rfl, rfl⟩)
  · rw [pk_un z, pk_un z]
    rcases M.2 w o hw ho z hl (vis_liv hv) e with y | y
    · rcases y with ⟨a1, a2, a3⟩ | ⟨a1, a2, a3⟩ | ⟨a1, a2, a3⟩
      · rcases hv.1 with ⟨x, _⟩ | ⟨_, x⟩
        · rw [a2] at x; exact absurd x hb_d21
        · exact Or.inr (Or.inl ⟨a1, rfl, by rw [hb_c8 ht]; exact Int32.le_trans a3 x⟩)
      · rcases hv.1 with ⟨_, x⟩ | ⟨x, _⟩
        · exact Or.inr (Or.inl ⟨a1, rfl, by rw [x] at a3; exact a3⟩)
        · rw [a2] at x; exact absurd x hb_d12
      · rcases hv.1 with ⟨_, x⟩ | ⟨x, _⟩
        · exact Or.inr (Or.inr ⟨a1, rfl, a3.trans x⟩)
        · rw [a2] at x; exact absurd x hb_d12
    · exact (bf_0 y e0).elim
theorem mv_new (M : hh_mv ac sn tr ms mn es en) {t i : Nat} {row : Int32} (ht : t < 8) (hac : ¬ ac t = 0) (hr : ∀ w, w < 32 → hh_liv (ms w) → tr w = row → hh_bf sn (es w) (en w) 1 (nI t)) :
    hh_mv ac sn (upd tr i row) (upd ms i 1) (upd mn i (nI t)) (upd es i 0) en := by
  refine ⟨fun k hk => ?_, fun k m hk hm hne l1 l2 e => ?_⟩
  · by_cases z : k = i
    · subst z
      rw [pk_us, pk_us, pk_us]
      exact ⟨fun _ => ⟨⟨t, ht, rfl, hac⟩, Or.inl rfl⟩, fun y => absurd y hb_d12⟩
    · rw [pk_un z, pk_un z, pk_un z]
      exact M.1 k hk
  · by_cases z : k = i
    · subst z
      have hm' : m ≠ k := fun y => hne y.symm
      rw [pk_us, pk_un hm'] at e
      rw [pk_un hm'] at l2
      refine Or.inr ?_
      rw [pk_us, pk_us, pk_un hm']
      exact hr m hm l2 e.symm
    · by_cases y : m = i
      · subst y
        rw [pk_us, pk_un z] at e
        rw [pk_un z] at l1
        refine Or.inl ?_
        rw [pk_us, pk_us, pk_un z]
        exact hr k hk l1 e
      · rw [pk_un z, pk_un y] at e
        rw [pk_un z] at l1
        rw [pk_un y] at l2
        rw [pk_un z, pk_un y, pk_un y, pk_un z, pk_un y, pk_un z]
        exact M.2 k m hk hm hne l1 l2 e
theorem mv_sub (M : hh_mv ac sn tr ms mn es en) {tr' ms' es' : Nat → Int32} (h : ∀ i, i < 32 → (tr' i = tr i ∧ ms' i = ms i ∧ es' i = es i) ∨ ms' i = 0) : hh_mv ac sn tr' ms' mn es' en := by
  have nl : ∀ i, i < 32 → hh_liv (ms' i) → tr' i = tr i ∧ ms' i = ms i ∧ es' i = es i := fun i hi hl => by
    rcases h i hi with z | z
    · exact z
    · exact absurd z (liv_0 hl)
  refine ⟨fun i hi => ?_, fun i k hi hk hne l1 l2 e => ?_⟩
  · rcases h i hi with ⟨_, b, d⟩ | z
    · rw [b, d]; exact M.1 i hi
    · rw [z]
      exact ⟨fun y => absurd y hb_d01, fun y => absurd y hb_d02⟩
  · obtain ⟨a1, a2, a3⟩ := nl i hi l1
    obtain ⟨b1, b2, b3⟩ := nl k hk l2
    rw [a1, b1] at e
    rw [a2] at l1
    rw [b2] at l2
    rw [a2, a3, b2, b3]
    exact M.2 i k hi hk hne l1 l2 e
end
end
section
/-! what the writers keep: the versions of both sides, the places of the reference -/
theorem cm_eq {T C m a m1 a1 m2 a2 : Int32} (h : hh_cm T C m a m1 a1) (g : hh_cm T C m a m2 a2) : m2 = m1 ∧ a2 = a1 := by
  rcases h with ⟨h1, h2, h3, h4⟩ | ⟨h1, h2, h3⟩
  · rcases g with ⟨_, _, g3, g4⟩ | ⟨g1, _⟩
    · exact ⟨g3.trans h3.symm, g4.trans h4.symm⟩
    · exact absurd ⟨h1, h2⟩ g1
  · rcases g with ⟨g1, g2, _⟩ | ⟨_, g2, g3⟩
    · exact absurd ⟨g1, g2⟩ h1
    · exact ⟨g2.trans h2.symm, g3.trans h3.symm⟩
theorem cg_eq {T w m a m1 m2 : Int32} (h : hh_cg T w m a m1) (g : hh_cg T w m a m2) : m2 = m1 := by
  rcases h with ⟨h1, h2, h3⟩ | ⟨h1, h2⟩
  · rcases g with ⟨_, _, g3⟩ | ⟨g1, _⟩
    · exact g3.trans h3.symm
    · exact absurd ⟨h1, h2⟩ g1
  · rcases g with ⟨g1, g2, _⟩ | ⟨_, g2⟩
    · exact absurd ⟨g1, g2⟩ h1
    · exact g2.trans h2.symm
theorem cm_0 {T C m a m1 a1 : Int32} (h : hh_cm T C m a m1 a1) (e : m = 0) : m1 = 0 := by
  rcases h with ⟨z, _⟩ | ⟨_, z, _⟩
  · rw [e] at z; exact absurd z hb_d01
  · rw [z]; exact e
theorem cg_0 {T w m a m1 : Int32} (h : hh_cg T w m a m1) (e : m = 0) : m1 = 0 := by
  rcases h with ⟨z, _⟩ | ⟨_, z⟩
  · rw [e] at z; exact absurd z hb_d01
  · rw [z]; exact e
def hh_VS (Cs : List hh_C) : List hh_V := Cs.flatMap fun c => c.2.2.2
theorem VS_T (Cs : List hh_C) : hh_T Cs = (hh_VS Cs).map fun v => v.2.1 := List.map_flatMap.symm
theorem VS_J (Cs : List hh_C) : hh_J Cs = (hh_VS Cs).map fun v => v.2.2 := List.map_flatMap.symm
theorem VS_mem {Cs : List hh_C} {c : hh_C} {v : hh_V} (hc : c ∈ Cs) (hv : v ∈ c.2.2.2) : v ∈ hh_VS Cs := List.mem_flatMap.mpr ⟨c, hc, hv⟩
section
variable {l : Nat} {Cs : List hh_C} {F G : List Nat} {sd lu iz : Int32} {ac sn tr tk tv ms mn es en tn tf ls lt lf ik ir st vc vr vk vv mk mm ek em ex kk : Nat → Int32}
theorem T_nd (H : hh_hp Cs F G sd lu iz tn tf ls lt lf ik ir) : (hh_T Cs).Nodup := (List.nodup_append.mp (sk_nd H.2.2.2.2.2).1).1
theorem T_inj (H : hh_hp Cs F G sd lu iz tn tf ls lt lf ik ir) {c d : hh_C} {v w : hh_V} (hc : c ∈ Cs) (hv : v ∈ c.2.2.2) (hd : d ∈ Cs) (hw : w ∈ d.2.2.2) (e : v.2.1 = w.2.1) : v = w := by
  have nd := T_nd H
  rw [VS_T] at nd
  exact inj_of (f := fun v : hh_V => v.2.1) nd (VS_mem hc hv) (VS_mem hd hw) e
theorem J_inj (Y : hh_y Cs st ex kk) {c d : hh_C} {v w : hh_V} (hc : c ∈ Cs) (hv : v ∈ c.2.2.2) (hd : d ∈ Cs) (hw : w ∈ d.2.2.2) (e : v.2.2 = w.2.2) : v = w := by
  have nd := Y.1
  rw [VS_J] at nd
  exact inj_of (f := fun v : hh_V => v.2.2) nd (VS_mem hc hv) (VS_mem hd hw) e
theorem ver_com (H : hh_hp Cs F G sd lu iz tn tf ls lt lf ik ir) (Y : hh_y Cs st ex kk) (V : hh_ver l tr tk tv ms mn es en vc vr vk vv mk mm ek em Cs) {T C : Int32} {ms' mn' es' en' mk' mm' ek' em' : Nat → Int32}
    (x1 : hh_ci T C 32 ms mn ms' mn') (x2 : hh_ci T C 32 es en es' en') (y1 : hh_di st T C 32 mk mm mk' mm') (y2 : hh_di st T C 32 ek em ek' em') :
    hh_ver l tr tk tv ms' mn' es' en' vc vr vk vv mk' mm' ek' em' Cs := by
  intro c hc
  refine ⟨(V c hc).1, (V c hc).2.1, fun v hv => ?_⟩
  obtain ⟨W1, ⟨W2, W3, W4⟩, W5, W6⟩ := (V c hc).2.2 v hv
  obtain ⟨hj, hs⟩ := J_at Y hc hv
  have hi := T_at H hc hv
  have a1 := x1.1 _ hi
  have a2 := x2.1 _ hi
  have b1 := y1.1 _ hj hs
  have b2 := y2.1 _ hj hs
  rw [W2, W3] at b1
  obtain ⟨e1, e2⟩ := cm_eq a1 b1
  refine ⟨W1, ⟨e1, e2, fun hl => ?_⟩, ?_, W6⟩
  · obtain ⟨w1, w2⟩ := W4 (cm_liv a1 hl)
    by_cases z : es v.2.1 = 0
    · have z1 := cm_0 a2 z
      have z2 := cm_0 b2 (w1.trans z)
      exact ⟨z2.trans z1.symm, fun y => absurd z1 y⟩
    · rw [w1, w2 z] at b2
      obtain ⟨e3, e4⟩ := cm_eq a2 b2
      exact ⟨e3, fun _ => e4⟩
  · rcases a1 with ⟨_, _, z, _⟩ | ⟨_, z, _⟩
    · exact Or.inl (Or.inr z)
    · rw [z]; exact W5
theorem ver_abo (H : hh_hp Cs F G sd lu iz tn tf ls lt lf ik ir) (Y : hh_y Cs st ex kk) (V : hh_ver l tr tk tv ms mn es en vc vr vk vv mk mm ek em Cs) {T : Int32} {ms' es' mk' ek' : Nat → Int32}
    (x1 : hh_cj T 3 32 mn ms ms') (x2 : hh_cj T 0 32 en es es') (y1 : hh_yi st mm em T 32 mk ek mk' ek') :
    hh_ver l tr tk tv ms' mn es' en vc vr vk vv mk' mm ek' em Cs := by
  intro c hc
  refine ⟨(V c hc).1, (V c hc).2.1, fun v hv => ?_⟩
  obtain ⟨W1, ⟨W2, W3, W4⟩, W5, W6⟩ := (V c hc).2.2 v hv
  obtain ⟨hj, hs⟩ := J_at Y hc hv
  have hi := T_at H hc hv
  have a1 := x1.1 _ hi
  have a2 := x2.1 _ hi
  have b1 := y1.1 _ hj hs
  rw [W2, W3] at b1
  have e1 : mk' v.2.2 = ms' v.2.1 := by
    rcases b1 with ⟨z1, z2, z3, _⟩ | ⟨z1, z2, _⟩
    · exact cg_eq a1 (Or.inl ⟨z1, z2, z3⟩)
    · exact cg_eq a1 (Or.inr ⟨z1, z2⟩)
  refine ⟨W1, ⟨e1, W3, fun hl => ?_⟩, ?_, W6⟩
  · obtain ⟨n1, n2⟩ := cg_liv a1 hl
    have b2 : hh_cg T 0 (ek v.2.2) (em v.2.2) (ek' v.2.2) := by
      rcases b1 with ⟨z1, z2, _⟩ | ⟨_, _, z⟩
      · exact absurd ⟨z1, z2⟩ n1
      · exact z
    rw [n2] at hl
    obtain ⟨w1, w2⟩ := W4 hl
    by_cases z : es v.2.1 = 0
    · have z1 := cg_0 a2 z
      have z2 := cg_0 b2 (w1.trans z)
      exact ⟨z2.trans z1.symm, fun y => absurd z1 y⟩
    · rw [w1, w2 z] at b2
      exact ⟨cg_eq a2 b2, fun _ => w2 z⟩
  · rcases a1 with ⟨_, _, z⟩ | ⟨_, z⟩
    · exact Or.inr z
    · rw [z]; exact W5
theorem ver_end (H : hh_hp Cs F G sd lu iz tn tf ls lt lf ik ir) (Y : hh_y Cs st ex kk) (V : hh_ver l tr tk tv ms mn es en vc vr vk vv mk mm ek em Cs) {d : hh_C} {o : hh_V} (hd : d ∈ Cs) (ho : o ∈ d.2.2.2) (T : Int32) :
    hh_ver l tr tk tv ms mn (upd es o.2.1 1) (upd en o.2.1 T) vc vr vk vv mk mm (upd ek o.2.2 1) (upd em o.2.2 T) Cs := by
  intro c hc
  refine ⟨(V c hc).1, (V c hc).2.1, fun v hv => ?_⟩
  obtain ⟨W1, ⟨W2, W3, W4⟩, W5, W6⟩ := (V c hc).2.2 v hv
  refine ⟨W1, ⟨W2, W3, fun hl => ?_⟩, W5, W6⟩
  by_cases z : v.2.1 = o.2.1
  · have e := T_inj H hc hv hd ho z
    subst e
    rw [pk_us, pk_us, pk_us, pk_us]
    exact ⟨rfl, fun _ => rfl⟩
  · have z2 : ¬ v.2.2 = o.2.2 := fun y => z (by rw [J_inj Y hc hv hd ho y])
    rw [pk_un z, pk_un z, pk_un z2, pk_un z2]
    exact W4 hl
theorem ver_frm {i j l' : Nat} {row key val T q : Int32} (hi : i ∉ hh_T Cs) (hj : j ∉ hh_J Cs) (hl : nI l ≤ nI l') (V : hh_ver l tr tk tv ms mn es en vc vr vk vv mk mm ek em Cs) :
    hh_ver l' (upd tr i row) (upd tk i key) (upd tv i val) (upd ms i 1) (upd mn i T) (upd es i 0) en (upd vc j q) (upd vr j row) (upd vk j key) (upd vv j val) (upd mk j 1) (upd mm j T) (upd ek j 0) (upd em j 0) Cs := by
  intro c hc
  have ni : ∀ v ∈ c.2.2.2, v.2.1 ≠ i := fun v hv e => hi (T_mem.mpr ⟨c, hc, v, hv, e⟩)
  have nj : ∀ v ∈ c.2.2.2, v.2.2 ≠ j := fun v hv e => hj (J_mem.mpr ⟨c, hc, v, hv, e⟩)
  obtain ⟨V1, ⟨rw0, V2⟩, V3⟩ := V c hc
  refine ⟨V1, ⟨rw0, fun v hv => by rw [pk_un (ni v hv)]; exact V2 v hv⟩, fun v hv => ?_⟩
  obtain ⟨W1, W2, W5, W6, W7⟩ := V3 v hv
  unfold hh_vr
  rw [pk_un (ni v hv), pk_un (ni v hv), pk_un (ni v hv), pk_un (ni v hv), pk_un (ni v hv), pk_un (ni v hv), pk_un (nj v hv), pk_un (nj v hv), pk_un (nj v hv), pk_un (nj v hv), pk_un (nj v hv), pk_un (nj v hv), pk_un (nj v hv), pk_un (nj v hv)]
  exact ⟨W1, W2, W5, W6, Int32.le_trans W7 hl⟩
theorem vr_new {i j l' p r : Nat} {row key val T : Int32} {q : Nat} {L : List hh_V} (h1 : 1 ≤ row) (h2 : row ≤ nI l') :
    hh_vr l' (upd tr i row) (upd tk i key) (upd tv i val) (upd ms i 1) (upd mn i T) (upd es i 0) en (upd vc j (nI q)) (upd vr j row) (upd vk j key) (upd vv j val) (upd mk j 1) (upd mm j T) (upd ek j 0) (upd em j 0) (key, r, q, L) (p, i, j) := by
  unfold hh_vr
  dsimp only
  rw [pk_us, pk_us, pk_us, pk_us, pk_us, pk_us, pk_us, pk_us, pk_us, pk_us, pk_us, pk_us, pk_us]
  exact ⟨⟨rfl, rfl, rfl, rfl, rfl⟩, ⟨rfl, rfl, fun _ => ⟨rfl, fun z => absurd rfl z⟩⟩, Or.inl (Or.inl rfl), h1, h2⟩
theorem ver_new {i j l' p r q : Nat} {row key val T : Int32} (hi : i ∉ hh_T Cs) (hj : j ∉ hh_J Cs) (hl : nI l ≤ nI l') (h1 : 1 ≤ row) (h2 : row ≤ nI l') (h3 : 1 ≤ key)
    (V : hh_ver l tr tk tv ms mn es en vc vr vk vv mk mm ek em Cs) :
    hh_ver l' (upd tr i row) (upd tk i key) (upd tv i val) (upd ms i 1) (upd mn i T) (upd es i 0) en (upd vc j (nI q)) (upd vr j row) (upd vk j key) (upd vv j val) (upd mk j 1) (upd mm j T) (upd ek j 0) (upd em j 0) (Cs.take r ++ (key, p, q, [(p, i, j)]) :: Cs.drop r) := by
  intro c hc
  have old : c ∈ Cs → _ := ver_frm (row := row) (key := key) (val := val) (T := T) (q := nI q) hi hj hl V c
  rcases List.mem_append.mp hc with z | z
  · exact old (List.mem_of_mem_take z)
  · rcases List.mem_cons.mp z with z | z
    · subst z
      refine ⟨h3, ⟨row, fun v hv => ?_⟩, fun v hv => ?_⟩
      · rw [List.mem_singleton.mp hv]; exact pk_us
      · rw [List.mem_singleton.mp hv]; exact vr_new h1 h2
    · exact old (List.mem_of_mem_drop z)
theorem ver_lnk {A B : List hh_C} {L1 L2 : List hh_V} {o : hh_V} {i j p r q : Nat} {row key val T : Int32} (hi : i ∉ hh_T (A ++ (key, r, q, L1 ++ o :: L2) :: B)) (hj : j ∉ hh_J (A ++ (key, r, q, L1 ++ o :: L2) :: B))
    (er : tr o.2.1 = row) (V : hh_ver l tr tk tv ms mn es en vc vr vk vv mk mm ek em (A ++ (key, r, q, L1 ++ o :: L2) :: B)) :
    hh_ver l (upd tr i row) (upd tk i key) (upd tv i val) (upd ms i 1) (upd mn i T) (upd es i 0) en (upd vc j (nI q)) (upd vr j row) (upd vk j key) (upd vv j val) (upd mk j 1) (upd mm j T) (upd ek j 0) (upd em j 0) (A ++ (key, r, q, L1 ++ o :: (p, i, j) :: L2) :: B) := by
  have frm := ver_frm (row := row) (key := key) (val := val) (T := T) (q := nI q) hi hj (Int32.le_refl _) V
  have hcm : (key, r, q, L1 ++ o :: L2) ∈ A ++ (key, r, q, L1 ++ o :: L2) :: B := by simp
  have hoL : o ∈ L1 ++ o :: L2 := by simp
  intro c hc
  rcases List.mem_append.mp hc with z | z
  · exact frm c (List.mem_append_left _ z)
  · rcases List.mem_cons.mp z with z | z
    · subst z
      obtain ⟨f1, ⟨rw0, f2⟩, f3⟩ := frm _ hcm
      have Wo := (V _ hcm).2.2 o hoL
      have ero : rw0 = row := by
        have := f2 o hoL
        rw [pk_un fun e => hi (T_mem.mpr ⟨_, hcm, o, hoL, e⟩)] at this
        exact this.symm.trans er
      have mem : ∀ v ∈ L1 ++ o :: (p, i, j) :: L2, v ∈ L1 ++ o :: L2 ∨ v = (p, i, j) := fun v hv => by
        rcases List.mem_append.mp hv with y | y
        · exact Or.inl (List.mem_append_left _ y)
        · rcases List.mem_cons.mp y with y | y
          · rw [y]; exact Or.inl hoL
          · rcases List.mem_cons.mp y with y | y
            · exact Or.inr y
            · exact Or.inl (List.mem_append_right _ (List.mem_cons_of_mem _ y))
      refine ⟨f1, ⟨row, fun v hv => ?_⟩, fun v hv => ?_⟩
      · rcases mem v hv with y | y
        · exact (f2 v y).trans ero
        · rw [y]; exact pk_us
      · rcases mem v hv with y | y
        · exact f3 v y
        · rw [y]
          exact vr_new (by rw [← er]; exact Wo.2.2.2.1) (by rw [← er]; exact Wo.2.2.2.2)
    · exact frm c (List.mem_append_right _ (List.mem_cons_of_mem _ z))
theorem y_new {i j p r q : Nat} {key : Int32} (Y : hh_y Cs st ex kk) (hj : j < 32) (sj : st j = 0) (hq : q < 32) (xq : ex q = 0) :
    hh_y (Cs.take r ++ (key, p, q, [(p, i, j)]) :: Cs.drop r) (upd st j 1) (upd ex q 1) (upd kk q key) := by
  have e : Cs.take r ++ Cs.drop r = Cs := List.take_append_drop r Cs
  have pJ : (hh_J (Cs.take r ++ (key, p, q, [(p, i, j)]) :: Cs.drop r)).Perm (j :: hh_J Cs) := by
    rw [J_ap, J_cons]
    have : hh_J Cs = hh_J (Cs.take r) ++ hh_J (Cs.drop r) := by rw [← J_ap, e]
    rw [this]
    exact List.perm_middle
  have pQ : (hh_Q (Cs.take r ++ (key, p, q, [(p, i, j)]) :: Cs.drop r)).Perm (q :: hh_Q Cs) := by
    unfold hh_Q
    rw [List.map_append, List.map_cons]
    have : Cs.map (fun c => c.2.2.1) = (Cs.take r).map (fun c => c.2.2.1) ++ (Cs.drop r).map (fun c => c.2.2.1) := by rw [← List.map_append, e]
    rw [this]
    exact List.perm_middle
  have nj : j ∉ hh_J Cs := fun z => ((Y.2.1 j).mp z).2 sj
  have nq : q ∉ hh_Q Cs := fun z => ((Y.2.2.2.1 q).mp z).2 xq
  refine ⟨pJ.nodup_iff.mpr (List.nodup_cons.mpr ⟨nj, Y.1⟩), fun k => ?_, pQ.nodup_iff.mpr (List.nodup_cons.mpr ⟨nq, Y.2.2.1⟩), fun k => ?_, fun c hc => ?_⟩
  · rw [pJ.mem_iff, List.mem_cons, Y.2.1 k]
    by_cases z : k = j
    · subst z
      rw [pk_us]
      exact ⟨fun _ => ⟨hj, hb_d10⟩, fun _ => Or.inl rfl⟩
    · rw [pk_un z]
      exact ⟨fun y => y.resolve_left z, Or.inr⟩
  · rw [pQ.mem_iff, List.mem_cons, Y.2.2.2.1 k]
    by_cases z : k = q
    · subst z
      rw [pk_us]
      exact ⟨fun _ => ⟨hq, hb_d10⟩, fun _ => Or.inl rfl⟩
    · rw [pk_un z]
      exact ⟨fun y => y.resolve_left z, Or.inr⟩
  · have old : c ∈ Cs → upd kk q key c.2.2.1 = c.1 := fun h => by
      rw [pk_un fun y => nq (Q_mem.mpr ⟨c, h, y⟩)]
      exact Y.2.2.2.2 c h
    rcases List.mem_append.mp hc with z | z
    · exact old (List.mem_of_mem_take z)
    · rcases List.mem_cons.mp z with z | z
      · subst z; exact pk_us
      · exact old (List.mem_of_mem_drop z)
theorem y_lnk {A B : List hh_C} {L1 L2 : List hh_V} {o : hh_V} {i j p r q : Nat} {key : Int32} (Y : hh_y (A ++ (key, r, q, L1 ++ o :: L2) :: B) st ex kk) (hj : j < 32) (sj : st j = 0) :
    hh_y (A ++ (key, r, q, L1 ++ o :: (p, i, j) :: L2) :: B) (upd st j 1) ex kk := by
  have pJ : (hh_J (A ++ (key, r, q, L1 ++ o :: (p, i, j) :: L2) :: B)).Perm (j :: hh_J (A ++ (key, r, q, L1 ++ o :: L2) :: B)) := by
    rw [J_ap, J_cons, J_ap, J_cons]
    show (hh_J A ++ ((L1 ++ o :: (p, i, j) :: L2).map (fun v : hh_V => v.2.2) ++ hh_J B)).Perm (j :: (hh_J A ++ ((L1 ++ o :: L2).map (fun v : hh_V => v.2.2) ++ hh_J B)))
    rw [List.perm_iff_count]
    intro a
    simp only [List.map_append, List.map_cons, List.count_append, List.count_cons]
    omega
  have eQ : hh_Q (A ++ (key, r, q, L1 ++ o :: (p, i, j) :: L2) :: B) = hh_Q (A ++ (key, r, q, L1 ++ o :: L2) :: B) := by
    unfold hh_Q
    rw [List.map_append, List.map_cons, List.map_append, List.map_cons]
  have nj : j ∉ hh_J (A ++ (key, r, q, L1 ++ o :: L2) :: B) := fun z => ((Y.2.1 j).mp z).2 sj
  refine ⟨pJ.nodup_iff.mpr (List.nodup_cons.mpr ⟨nj, Y.1⟩), fun k => ?_, by rw [eQ]; exact Y.2.2.1, fun k => by rw [eQ]; exact Y.2.2.2.1 k, fun c hc => ?_⟩
  · rw [pJ.mem_iff, List.mem_cons, Y.2.1 k]
    by_cases z : k = j
    · subst z
      rw [pk_us]
      exact ⟨fun _ => ⟨hj, hb_d10⟩, fun _ => Or.inl rfl⟩
    · rw [pk_un z]
      exact ⟨fun y => y.resolve_left z, Or.inr⟩
  · rcases List.mem_append.mp hc with z | z
    · exact Y.2.2.2.2 c (List.mem_append_left _ z)
    · rcases List.mem_cons.mp z with z | z
      · subst z
        exact Y.2.2.2.2 (key, r, q, L1 ++ o :: L2) (by simp)
      · exact Y.2.2.2.2 c (List.mem_append_right _ (List.mem_cons_of_mem _ z))
/-! prune, vacuum -/
theorem pm_1 (key h : Int32) (c : hh_C) : (hh_pm key h ms es en c).1 = c.1 ∧ (hh_pm key h ms es en c).2.1 = c.2.1 ∧ (hh_pm key h ms es en c).2.2.1 = c.2.2.1 := by
  unfold hh_pm
  split
  · exact ⟨rfl, rfl, rfl⟩
  · exact ⟨rfl, rfl, rfl⟩
theorem pm_mem {key h : Int32} {c : hh_C} {v : hh_V} : v ∈ (hh_pm key h ms es en c).2.2.2 ↔ v ∈ c.2.2.2 ∧ ¬ (hh_mt key c ∧ hh_ded h (ms v.2.1) (es v.2.1) (en v.2.1)) := by
  by_cases m : hh_mt key c
  · have e : hh_pm key h ms es en c = hh_pc h ms es en c := if_pos (hh_bt.mpr m)
    rw [e]
    show v ∈ c.2.2.2.filter _ ↔ _
    rw [List.mem_filter]
    refine and_congr Iff.rfl ?_
    rw [Bool.not_eq_true']
    constructor
    · intro z y
      rw [hh_bt.mpr y.2] at z
      exact absurd z (by decide)
    · intro z
      cases hq : hh_b (hh_ded h (ms v.2.1) (es v.2.1) (en v.2.1)) with
      | true => exact absurd ⟨m, hh_bt.mp hq⟩ z
      | false => rfl
  · have e : hh_pm key h ms es en c = c := if_neg (hh_bf' m)
    rw [e]
    exact ⟨fun z => ⟨z, fun y => m y.1⟩, fun z => z.1⟩
theorem pm_sub {key h : Int32} {c : hh_C} : (hh_pm key h ms es en c).2.2.2.Sublist c.2.2.2 := by
  unfold hh_pm
  split
  · exact List.filter_sublist
  · exact List.Sublist.refl _
theorem J_sub {key h : Int32} (Cs : List hh_C) : (hh_J (Cs.map (hh_pm key h ms es en))).Sublist (hh_J Cs) := by
  induction Cs with
  | nil => exact List.Sublist.refl _
  | cons c B ih =>
    rw [List.map_cons, J_cons, J_cons]
    exact (pm_sub.map _).append ih
theorem Q_pm {key h : Int32} (Cs : List hh_C) : hh_Q (Cs.map (hh_pm key h ms es en)) = hh_Q Cs := by
  unfold hh_Q
  rw [List.map_map]
  exact List.map_congr_left fun c _ => (pm_1 key h c).2.2
theorem ver_prn {key h : Int32} {tr' ms' es' : Nat → Int32} (V : hh_ver l tr tk tv ms mn es en vc vr vk vv mk mm ek em Cs) (kv : hh_kv (hh_T (Cs.map (hh_pm key h ms es en))) tr ms es tr' ms' es') :
    hh_ver l tr' tk tv ms' mn es' en vc vr vk vv mk mm ek em (Cs.map (hh_pm key h ms es en)) := by
  intro c' hc'
  obtain ⟨c, hc, rfl⟩ := List.mem_map.mp hc'
  obtain ⟨p1, p2, p3⟩ := pm_1 (ms := ms) (es := es) (en := en) key h c
  have keq : ∀ v ∈ (hh_pm key h ms es en c).2.2.2, tr' v.2.1 = tr v.2.1 ∧ ms' v.2.1 = ms v.2.1 ∧ es' v.2.1 = es v.2.1 := fun v hv => kv _ (T_mem.mpr ⟨_, hc', v, hv, rfl⟩)
  obtain ⟨V1, ⟨row, V2⟩, V3⟩ := V c hc
  refine ⟨by rw [p1]; exact V1, ⟨row, fun v hv => ?_⟩, fun v hv => ?_⟩
  · rw [(keq v hv).1]
    exact V2 v (pm_mem.mp hv).1
  · obtain ⟨k1, k2, k3⟩ := keq v hv
    have W := V3 v (pm_mem.mp hv).1
    unfold hh_vr at W ⊢
    rw [p1, p3, k1, k2, k3]
    exact W
theorem y_prn {key h : Int32} {st' : Nat → Int32} (V : hh_ver l tr tk tv ms mn es en vc vr vk vv mk mm ek em Cs) (Y : hh_y Cs st ex kk)
    (hs : ∀ j, j < 32 → (¬ st' j = 0 ↔ ¬ st j = 0 ∧ ¬ ((key = 0 ∨ vk j = key) ∧ hh_ded h (mk j) (ek j) (em j)))) : hh_y (Cs.map (hh_pm key h ms es en)) st' ex kk := by
  refine ⟨Y.1.sublist (J_sub Cs), fun j => ?_, by rw [Q_pm]; exact Y.2.2.1, fun q => by rw [Q_pm]; exact Y.2.2.2.1 q, fun c' hc' => ?_⟩
  · rw [J_mem]
    constructor
    · rintro ⟨c', hc', v, hv, rfl⟩
      obtain ⟨c, hc, rfl⟩ := List.mem_map.mp hc'
      obtain ⟨hv1, hv2⟩ := pm_mem.mp hv
      obtain ⟨a, b⟩ := J_at Y hc hv1
      have W := (V c hc).2.2 v hv1
      refine ⟨a, (hs _ a).mpr ⟨b, fun z => hv2 ⟨?_, (vr_ded W).mp z.2⟩⟩⟩
      rw [W.1.2.1] at z
      exact z.1
    · rintro ⟨hj, hn⟩
      obtain ⟨h1, h2⟩ := (hs j hj).mp hn
      obtain ⟨c, hc, v, hv, rfl⟩ := at_J Y hj h1
      have W := (V c hc).2.2 v hv
      refine ⟨_, List.mem_map.mpr ⟨c, hc, rfl⟩, v, pm_mem.mpr ⟨hv, fun z => h2 ⟨?_, (vr_ded W).mpr z.2⟩⟩, rfl⟩
      rw [W.1.2.1]
      exact z.1
  · obtain ⟨c, hc, rfl⟩ := List.mem_map.mp hc'
    obtain ⟨p1, p2, p3⟩ := pm_1 (ms := ms) (es := es) (en := en) key h c
    rw [p1, p3]
    exact Y.2.2.2.2 c hc
theorem J_ne (Cs : List hh_C) : hh_J (Cs.filter fun c => !c.2.2.2.isEmpty) = hh_J Cs := by
  induction Cs with
  | nil => rfl
  | cons c B ih =>
    rw [List.filter_cons]
    cases hL : c.2.2.2 with
    | nil =>
      rw [J_cons, hL]
      exact ih
    | cons v M =>
      show hh_J (c :: B.filter fun c => !c.2.2.2.isEmpty) = _
      rw [J_cons, J_cons, ih]
theorem ver_ne (V : hh_ver l tr tk tv ms mn es en vc vr vk vv mk mm ek em Cs) : hh_ver l tr tk tv ms mn es en vc vr vk vv mk mm ek em (Cs.filter fun c => !c.2.2.2.isEmpty) :=
  fun c hc => V c (List.mem_filter.mp hc).1
theorem ne_iff {c : hh_C} : (!c.2.2.2.isEmpty) = true ↔ ¬ c.2.2.2 = [] := by
  cases hL : c.2.2.2 with
  | nil => exact ⟨fun z => absurd z (by decide), fun z => absurd rfl z⟩
  | cons v M => exact ⟨fun _ z => (nomatch z), fun _ => rfl⟩
theorem y_ne {ex' : Nat → Int32} (V : hh_ver l tr tk tv ms mn es en vc vr vk vv mk mm ek em Cs) (Y : hh_y Cs st ex kk)
    (hx : ∀ q, q < 32 → (¬ ex' q = 0 ↔ ¬ ex q = 0 ∧ ¬ hh_emp st vc (nI q))) : hh_y (Cs.filter fun c => !c.2.2.2.isEmpty) st ex' kk := by
  refine ⟨by rw [J_ne]; exact Y.1, fun j => by rw [J_ne]; exact Y.2.1 j, ?_, fun q => ?_, fun c hc => Y.2.2.2.2 c (List.mem_filter.mp hc).1⟩
  · exact Y.2.2.1.sublist (List.filter_sublist.map _)
  · rw [Q_mem]
    constructor
    · rintro ⟨c, hc, rfl⟩
      obtain ⟨h1, h2⟩ := List.mem_filter.mp hc
      obtain ⟨a, b⟩ := (Y.2.2.2.1 _).mp (Q_mem.mpr ⟨c, h1, rfl⟩)
      exact ⟨a, (hx _ a).mpr ⟨b, fun z => ne_iff.mp h2 ((law_emp V Y h1).mp z)⟩⟩
    · rintro ⟨hq, hn⟩
      obtain ⟨h1, h2⟩ := (hx q hq).mp hn
      obtain ⟨c, hc, rfl⟩ := Q_mem.mp ((Y.2.2.2.1 q).mpr ⟨hq, h1⟩)
      exact ⟨c, List.mem_filter.mpr ⟨hc, ne_iff.mpr fun z => h2 ((law_emp V Y hc).mpr z)⟩, rfl⟩
theorem law_vac (V : hh_ver l tr tk tv ms mn es en vc vr vk vv mk mm ek em Cs) (Y : hh_y Cs st ex kk) :
    (List.range' 0 32).countP (fun q => hh_b (¬ ex q = 0 ∧ hh_emp st vc (nI q))) = Cs.countP fun c => c.2.2.2.isEmpty := by
  rw [cnt_L Y.2.2.1 Y.2.2.2.1, cnt_Q]
  refine List.countP_congr fun c hc => ?_
  rw [hh_bt, law_emp V Y hc, List.isEmpty_iff]
end
end
section
theorem F_lt {Cs : List hh_C} {F G : List Nat} {sd lu iz : Int32} {tn tf ls lt lf ik ir : Nat → Int32} (H : hh_hp Cs F G sd lu iz tn tf ls lt lf ik ir) {i : Nat} (h : i ∈ F) : i < 32 :=
  List.mem_range.mp (H.2.2.2.2.2.2.2.1.mem_iff.mp (List.mem_append_right _ h))
theorem sd_T {Cs : List hh_C} {F G : List Nat} {sd lu iz : Int32} {tn tf ls lt lf ik ir : Nat → Int32} (H : hh_hp Cs F G sd lu iz tn tf ls lt lf ik ir) : sd = nI (hh_T Cs).length ∧ (hh_T Cs).length ≤ 32 := by
  obtain ⟨l1, _⟩ := sk_len H.2.2.2.2.2
  obtain ⟨S, e1, e2, _⟩ := H.2.2.2.2.2.1
  rw [e1, show S = (hh_T Cs).length from by omega]
  exact ⟨rfl, by omega⟩
theorem act_n {s : Nat} {ac : Nat → Int32} {t : Nat} (ht : t < s) (h : ¬ ac t = 0) : hh_act s ac (nI t) := ⟨t, ht, rfl, h⟩
theorem i_vc_begin {k : Nat} {u : SX} {v : SY} (I : i_Rel k u v) (hk : k + 5 ≤ 2563) (v1 : Int32) : wpX_begin (fun r u' => wpY_begin (fun r' v' => r' = r ∧ i_Rel (k + 5) u' v') v v1) u v1 := by
  refine i_el (P := fun u v => wpX_begin (fun r u' => wpY_begin (fun r' v' => r' = r ∧ i_Rel (k + 5) u' v') v v1) u v1) ?_ I
  intro u0 u1 u2 u3 u4 u5 u6 u7 sc vl cl ck lr sd lu iz ac sn tr tk tv ms mn es en tn tf ls lt lf ik ir st vc vr vk vv mk mm ek em ex kk s V C c l Cs F G N T H fr Ve M Y
  have R : i_Rel (k + 5) (u0, u1, u2, u3, u4, u5, u6, u7, sc, vl, cl, ck, lr, sd, lu, iz, ac, sn, tr, tk, tv, ms, mn, es, en, tn, tf, ls, lt, lf, ik, ir) (sc, vl, cl, ck, lr, ac, sn, st, vc, vr, vk, vv, mk, mm, ek, em, ex, kk) := i_in (num_up N (by omega)) T H fr Ve M Y
  have s8 := N.2.2.1
  have es1 : sc = nI s := N.1
  subst es1
  by_cases h0 : v1 < 0
  · exact br_t h0 (br_t h0 ⟨rfl, R⟩)
  · obtain ⟨t, ht, rfl⟩ := nI_of h0
    by_cases h1 : t < s
    · have ht8 : t < 8 := by omega
      have l1 : nI t < nI s := nI_lt h1 (by omega)
      have l2 : ¬ nI s ≤ nI t := nI_ge h1 (by omega)
      have l8 : nI t < 8 := nI_lt (b := 8) ht8 (by decide)
      unfold wpX_begin wpY_begin
      dsimp only
      rw [hb_c8 ht8, hb_vb1]
      have ii := hb_i8 ht8
      refine br_f h0 (br_t l1 ⟨ii, br_c (fun e => ⟨ii, nm_e ⟨ii, nm_e (br_f h0 (br_f l2 (br_t l8 ⟨ii, br_t e ⟨ii, nm_e ⟨ii, nm_e ⟨rfl, ?_⟩⟩⟩⟩)))⟩⟩) fun e => br_f h0 (br_f l2 (br_t l8 ⟨ii, br_f e ⟨rfl, R⟩⟩))⟩)
      refine i_in (num_up N (by omega)) ⟨fun t' a b => ?_, fun t' a => ?_⟩ H fr Ve (mv_beg M ht8 e _) Y
      · rw [pk_un (by omega)]; exact T.1 t' a b
      · by_cases z : t' = t
        · rw [z, pk_us, N.2.2.2.2.2.2.2.1]; exact Int32.le_refl _
        · rw [pk_un z]; exact T.2 t' a
    · exact br_f h0 (br_f (nI_nlt (by omega) (by omega)) (br_f h0 (br_t (nI_le (by omega) (by omega)) ⟨rfl, R⟩)))
theorem i_vc_commit {k : Nat} {u : SX} {v : SY} (I : i_Rel k u v) (hk : k + 5 ≤ 2563) (v1 : Int32) : wpX_commit (fun r u' => wpY_commit (fun r' v' => r' = r ∧ i_Rel (k + 5) u' v') v v1) u v1 := by
  refine i_el (P := fun u v => wpX_commit (fun r u' => wpY_commit (fun r' v' => r' = r ∧ i_Rel (k + 5) u' v') v v1) u v1) ?_ I
  intro u0 u1 u2 u3 u4 u5 u6 u7 sc vl cl ck lr sd lu iz ac sn tr tk tv ms mn es en tn tf ls lt lf ik ir st vc vr vk vv mk mm ek em ex kk s V C c l Cs F G N T H fr Ve M Y
  have R : i_Rel (k + 5) (u0, u1, u2, u3, u4, u5, u6, u7, sc, vl, cl, ck, lr, sd, lu, iz, ac, sn, tr, tk, tv, ms, mn, es, en, tn, tf, ls, lt, lf, ik, ir) (sc, vl, cl, ck, lr, ac, sn, st, vc, vr, vk, vv, mk, mm, ek, em, ex, kk) := i_in (num_up N (by omega)) T H fr Ve M Y
  obtain ⟨N1, N2, N3, N4, N5, N6, N7, N8, N9, N10, N11⟩ := N
  have ec : ck + 1 = nI (c + 1) := by rw [N8]; exact nI_1 c
  unfold wpX_commit
  dsimp only
  refine xl_act N1 N3 (fun ha => br_f hb_d10 ?_) fun hn => br_t rfl ?_
  · obtain ⟨t, ht, rfl, hac⟩ := ha
    have ht8 : t < 8 := by omega
    refine nm_r ec ⟨33, xl_com ht8 (fun ms' mn' es' en' x1 x2 => ?_) 32 0 ms mn es en rfl hh_ci0 hh_ci0⟩
    unfold wpY_commit
    dsimp only
    refine yl_act N1 N3 (fun _ => br_f hb_d10 (nm_r ec ⟨33, yl_com ht8 (fun mk' mm' ek' em' y1 y2 => ⟨rfl, ?_⟩) 32 0 mk mm ek em rfl ⟨fun k h => absurd h (Nat.not_lt_zero k), fun k _ => ⟨rfl, rfl⟩⟩ ⟨fun k h => absurd h (Nat.not_lt_zero k), fun k _ => ⟨rfl, rfl⟩⟩⟩)) fun z => absurd (act_n ht hac) z
    have up : nI c ≤ nI (c + 1) := nI_le (by omega) (by omega)
    refine i_in (c := c + 1) ⟨N1, N2, N3, N4, N5, N6, N7, rfl, by omega, N10, by omega⟩ ⟨fun t' a b => ?_, fun t' a => Int32.le_trans (T.2 t' a) up⟩ H (fun i hi => cm_0 (x1.1 i (F_lt H hi)) (fr i hi)) (ver_com H Y Ve x1 x2 y1 y2) (mv_com M ht8 (Int32.le_trans (T.2 t ht8) up) x1 x2) Y
    rw [pk_un (by omega)]; exact T.1 t' a b
  · unfold wpY_commit
    dsimp only
    exact yl_act N1 N3 (fun z => absurd z hn) fun _ => br_t rfl ⟨rfl, R⟩
theorem i_vc_abort {k : Nat} {u : SX} {v : SY} (I : i_Rel k u v) (hk : k + 5 ≤ 2563) (v1 : Int32) : wpX_abort (fun r u' => wpY_abort (fun r' v' => r' = r ∧ i_Rel (k + 5) u' v') v v1) u v1 := by
  refine i_el (P := fun u v => wpX_abort (fun r u' => wpY_abort (fun r' v' => r' = r ∧ i_Rel (k + 5) u' v') v v1) u v1) ?_ I
  intro u0 u1 u2 u3 u4 u5 u6 u7 sc vl cl ck lr sd lu iz ac sn tr tk tv ms mn es en tn tf ls lt lf ik ir st vc vr vk vv mk mm ek em ex kk s V C c l Cs F G N T H fr Ve M Y
  have R : i_Rel (k + 5) (u0, u1, u2, u3, u4, u5, u6, u7, sc, vl, cl, ck, lr, sd, lu, iz, ac, sn, tr, tk, tv, ms, mn, es, en, tn, tf, ls, lt, lf, ik, ir) (sc, vl, cl, ck, lr, ac, sn, st, vc, vr, vk, vv, mk, mm, ek, em, ex, kk) := i_in (num_up N (by omega)) T H fr Ve M Y
  have s8 := N.2.2.1
  unfold wpX_abort
  dsimp only
  refine xl_act N.1 N.2.2.1 (fun ha => br_f hb_d10 ?_) fun hn => br_t rfl ?_
  · obtain ⟨t, ht, rfl, hac⟩ := ha
    have ht8 : t < 8 := by omega
    refine ⟨33, xl_abo ht8 (fun ms' es' x1 x2 => ?_) 32 0 ms es rfl hh_cj0 hh_cj0⟩
    unfold wpY_abort
    dsimp only
    refine yl_act N.1 N.2.2.1 (fun _ => br_f hb_d10 ⟨33, yl_abo ht8 (fun mk' ek' y1 => ⟨rfl, ?_⟩) 32 0 mk ek rfl ⟨fun k h => absurd h (Nat.not_lt_zero k), fun k _ => ⟨rfl, rfl⟩⟩⟩) fun z => absurd (act_n ht hac) z
    refine i_in (num_up N (by omega)) ⟨fun t' a b => ?_, T.2⟩ H (fun i hi => cg_0 (x1.1 i (F_lt H hi)) (fr i hi)) (ver_abo H Y Ve x1 x2 y1) (mv_abo M x1 x2) Y
    rw [pk_un (by omega)]; exact T.1 t' a b
  · unfold wpY_abort
    dsimp only
    exact yl_act N.1 N.2.2.1 (fun z => absurd z hn) fun _ => br_t rfl ⟨rfl, R⟩
theorem i_vc_prune {k : Nat} {u : SX} {v : SY} (I : i_Rel k u v) (hk : k + 5 ≤ 2563) (v1 : Int32) : wpX_prune (fun r u' => wpY_prune (fun r' v' => r' = r ∧ i_Rel (k + 5) u' v') v v1) u v1 := by
  refine i_el (P := fun u v => wpX_prune (fun r u' => wpY_prune (fun r' v' => r' = r ∧ i_Rel (k + 5) u' v') v v1) u v1) ?_ I
  intro u0 u1 u2 u3 u4 u5 u6 u7 sc vl cl ck lr sd lu iz ac sn tr tk tv ms mn es en tn tf ls lt lf ik ir st vc vr vk vv mk mm ek em ex kk s V C c l Cs F G N T H fr Ve M Y
  refine xl_prune N.1 N.2.2.1 T.1 H fr fun h hh F' G' sd' lu' tr' ms' es' tn' tf' ls' lt' lf' q1 q2 q3 => ?_
  refine ⟨33, yl_pru (fun t ht => by rw [N.2.2.2.2.2.2.2.1]; exact T.2 t ht) hh (fun st' hs => ⟨?_, ?_⟩) 32 0 0 st rfl (by rw [Nat.zero_add]) (fun j hj => absurd hj (Nat.not_lt_zero j)) fun _ _ => rfl⟩
  · rw [law_cnt Ve Y (q' := fun v => hh_ded h (ms v.2.1) (es v.2.1) (en v.2.1)) fun c hc v hv => vr_ded ((Ve c hc).2.2 v hv)]
  · refine i_in (num_up N (by omega)) T q1 q3 (ver_prn Ve q2) (mv_sub M fun i hi => ?_) (y_prn Ve Y hs)
    rcases sk_all q1.2.2.2.2.2 hi with z | z
    · exact Or.inl (q2 i z)
    · exact Or.inr (q3 i z)
theorem i_vc_vacuum {k : Nat} {u : SX} {v : SY} (I : i_Rel k u v) (hk : k + 5 ≤ 2563) : wpX_vacuum (fun r u' => wpY_vacuum (fun r' v' => r' = r ∧ i_Rel (k + 5) u' v') v) u := by
  refine i_el (P := fun u v => wpX_vacuum (fun r u' => wpY_vacuum (fun r' v' => r' = r ∧ i_Rel (k + 5) u' v') v) u) ?_ I
  intro u0 u1 u2 u3 u4 u5 u6 u7 sc vl cl ck lr sd lu iz ac sn tr tk tv ms mn es en tn tf ls lt lf ik ir st vc vr vk vv mk mm ek em ex kk s V C c l Cs F G N T H fr Ve M Y
  refine xl_vacuum N.1 N.2.2.1 T.1 H fr fun h hh F' G' sd' lu' tr' ms' es' tn' tf' ls' lt' lf' ik' ir' q1 q2 q3 => ?_
  unfold wpY_vacuum
  dsimp only
  refine ⟨33, yl_pru (fun t ht => by rw [N.2.2.2.2.2.2.2.1]; exact T.2 t ht) hh (fun st' hs => ?_) 32 0 0 st rfl (by rw [Nat.zero_add]) (fun j hj => absurd hj (Nat.not_lt_zero j)) fun _ _ => rfl⟩
  have V' := ver_prn Ve q2
  have Y' := y_prn (ms := ms) (es := es) (en := en) Ve Y hs
  refine ⟨33, yl_vac (fun ex' hx => ⟨?_, ?_⟩) 32 0 0 ex rfl (by rw [Nat.zero_add]) (fun j hj => absurd hj (Nat.not_lt_zero j)) fun _ _ => rfl⟩
  · rw [law_vac V' Y']
  · refine i_in (num_up N (by omega)) T q1 q3 (ver_ne V') (mv_sub M fun i hi => ?_) (y_ne V' Y' hx)
    rcases sk_all q1.2.2.2.2.2 hi with z | z
    · refine Or.inl (q2 i ?_)
      obtain ⟨c, hc, w⟩ := T_mem.mp z
      exact T_mem.mpr ⟨c, (List.mem_filter.mp hc).1, w⟩
    · exact Or.inr (q3 i z)
end
section
section
variable {sc vl cl ck lr : Int32} {ac sn st vc vr vk vv mk mm ek em ex kk : Nat → Int32}
theorem yl_v00 {l : Nat} {Cs : List hh_C} {tr tk tv ms mn es en : Nat → Int32} (hc : ∀ t, t < 8 → sn t ≤ ck) (V : hh_ver l tr tk tv ms mn es en vc vr vk vv mk mm ek em Cs) (Yy : hh_y Cs st ex kk) {post : Int32 → Prop} (hp : post (nI (hh_T Cs).length)) : wpY_versions post (sc, vl, cl, ck, lr, ac, sn, st, vc, vr, vk, vv, mk, mm, ek, em, ex, kk) 0 0 := by
  refine ⟨33, yl_ver5 (h := 0) hc (fun z => absurd rfl z) 32 0 0 rfl ?_⟩
  rw [law_cnt V Yy (q' := fun v => (0 : Int32) = 0 ∨ hh_ded 0 (ms v.2.1) (es v.2.1) (en v.2.1)) fun c hc v hv => or_congr Iff.rfl (vr_ded ((V c hc).2.2 v hv)), su_T, Nat.zero_add]
  exact hp
theorem yl_c00 {l : Nat} {Cs : List hh_C} {tr tk tv ms mn es en : Nat → Int32} (V : hh_ver l tr tk tv ms mn es en vc vr vk vv mk mm ek em Cs) (Yy : hh_y Cs st ex kk) {post : Int32 → Prop} (hp : post (nI Cs.length)) : wpY_chains post (sc, vl, cl, ck, lr, ac, sn, st, vc, vr, vk, vv, mk, mm, ek, em, ex, kk) 0 0 := by
  refine ⟨33, yl_chn5 32 0 0 rfl ?_⟩
  rw [law_chn V Yy, su_C, Nat.zero_add]
  exact hp
end
section
variable {u0 u1 u2 u3 u4 u5 u6 u7 sc vl cl ck lr sd lu iz : Int32} {ac sn tr tk tv ms mn es en tn tf ls lt lf ik ir : Nat → Int32}
theorem xl_wc {i : Nat} (hi : i < 32) {post : Int32 → Prop} (h1 : es i = 1 → post (-3)) (h2 : es i = 2 → post (-4)) (h0 : ¬ es i = 1 → ¬ es i = 2 → post 0) : wpX_writeCheck post (u0, u1, u2, u3, u4, u5, u6, u7, sc, vl, cl, ck, lr, sd, lu, iz, ac, sn, tr, tk, tv, ms, mn, es, en, tn, tf, ls, lt, lf, ik, ir) (nI i) := by
  unfold wpX_writeCheck
  dsimp only
  rw [hb_c32 hi]
  exact br_t (nI_pos' (by omega)) ⟨hb_i32 hi, br_c h1 fun n1 => ⟨hb_i32 hi, br_c h2 fun n2 => h0 n1 n2⟩⟩
end
theorem fr_new {F F' : List Nat} {ms : Nat → Int32} {i : Nat} (fr : hh_fr F ms) (e : F = i :: F') (nd : F.Nodup) : hh_fr F' (upd ms i 1) := by
  subst e
  intro k hk
  have hne : k ≠ i := fun z => (List.nodup_cons.mp nd).1 (z ▸ hk)
  rw [pk_un hne]
  exact fr k (List.mem_cons_of_mem _ hk)
theorem F_nd {Cs : List hh_C} {F G : List Nat} {sd lu iz : Int32} {tn tf ls lt lf ik ir : Nat → Int32} (H : hh_hp Cs F G sd lu iz tn tf ls lt lf ik ir) : F.Nodup := (List.nodup_append.mp (sk_nd H.2.2.2.2.2).1).2.1
theorem pop_hp {Cs : List hh_C} {F G : List Nat} {sd lu iz : Int32} {tn tf ls lt lf ik ir : Nat → Int32} (H : hh_hp Cs F G sd lu iz tn tf ls lt lf ik ir) (h : (hh_T Cs).length < 32) :
    ∃ S U i p F' G', S < 32 ∧ U < 64 ∧ i < 32 ∧ p < 64 ∧ sd = nI S ∧ lu = nI U ∧ tf S = nI i ∧ lf U = nI p ∧ F = i :: F' ∧ i ∉ hh_T Cs ∧ p ∉ hh_P Cs ∧ hh_sk (i :: hh_T Cs) (p :: hh_P Cs) F' G' (nI (S + 1)) (nI (U + 1)) tf lf := by
  have hP : (hh_P Cs).length < 64 := by
    have := P_len Cs
    have := H.2.1
    omega
  obtain ⟨S, U, i, p, F', G', _, a1, a2, a3, a4, a5, a6, a7, a8, a9, _, a10, a11, a12⟩ := sk_pop H.2.2.2.2.2 h hP
  exact ⟨S, U, i, p, F', G', a1, a2, a3, a4, a5, a6, a7, a8, a9, a10, a11, a12⟩
theorem leg_1 {x y : Int32} (h : hh_leg x y) : 1 ≤ x := Int32.not_lt.mp h.1
theorem i_vc_insert {k : Nat} {u : SX} {v : SY} (I : i_Rel k u v) (hk : k + 5 ≤ 2563) (v1 : Int32) (v2 : Int32) (v3 : Int32) : wpX_insert (fun r u' => wpY_insert (fun r' v' => r' = r ∧ i_Rel (k + 5) u' v') v v1 v2 v3) u v1 v2 v3 := by
  refine i_el (P := fun u v => wpX_insert (fun r u' => wpY_insert (fun r' v' => r' = r ∧ i_Rel (k + 5) u' v') v v1 v2 v3) u v1 v2 v3) ?_ I
  intro u0 u1 u2 u3 u4 u5 u6 u7 sc vl cl ck lr sd lu iz ac sn tr tk tv ms mn es en tn tf ls lt lf ik ir st vc vr vk vv mk mm ek em ex kk s V C c l Cs F G N T H fr Ve M Y
  have R : i_Rel (k + 5) (u0, u1, u2, u3, u4, u5, u6, u7, sc, vl, cl, ck, lr, sd, lu, iz, ac, sn, tr, tk, tv, ms, mn, es, en, tn, tf, ls, lt, lf, ik, ir) (sc, vl, cl, ck, lr, ac, sn, st, vc, vr, vk, vv, mk, mm, ek, em, ex, kk) := i_in (num_up N (by omega)) T H fr Ve M Y
  obtain ⟨N1, N2, N3, N4, N5, N6, N7, N8, N9, N10, N11⟩ := N
  obtain ⟨eS, lS⟩ := sd_T H
  have eZ := H.1
  have lZ := H.2.1
  have el : lr + 1 = nI (l + 1) := by rw [N10]; exact nI_1 l
  have hc : ∀ t, t < 8 → sn t ≤ ck := fun t ht => by rw [N8]; exact T.2 t ht
  unfold wpX_insert
  dsimp only
  refine xl_act N1 N3 (fun ha => br_f hb_d10 ?_) fun hn => br_t rfl ?_
  · obtain ⟨t, ht, rfl, hac⟩ := ha
    have ht8 : t < 8 := by omega
    refine xl_leg (fun hle => br_f hb_d10 ?_) fun hle => br_t rfl ?_
    · have yy : ∀ post : Int32 → SY → Prop, (sd < vl → iz < cl → wpY_newChain (fun r_82 u => match u with
          | (sc, vl, cl, ck, lr, ac, sn, st, vc, vr, vk, vv, mk, mm, ek, em, ex, kk) => wpY_store (fun u => match u with
            | (sc, vl, cl, ck, lr, ac, sn, st, vc, vr, vk, vv, mk, mm, ek, em, ex, kk) => post lr (sc, vl, cl, ck, lr, ac, sn, st, vc, vr, vk, vv, mk, mm, ek, em, ex, kk)) (sc, vl, cl, ck, lr, ac, sn, st, vc, vr, vk, vv, mk, mm, ek, em, ex, kk) (nI t) r_82 lr v2 v3) (sc, vl, cl, ck, nI (l + 1), ac, sn, st, vc, vr, vk, vv, mk, mm, ek, em, ex, kk) v2) → (sd < vl → ¬ iz < cl → post (-7) (sc, vl, cl, ck, lr, ac, sn, st, vc, vr, vk, vv, mk, mm, ek, em, ex, kk)) → (¬ sd < vl → post (-6) (sc, vl, cl, ck, lr, ac, sn, st, vc, vr, vk, vv, mk, mm, ek, em, ex, kk)) → wpY_insert post (sc, vl, cl, ck, lr, ac, sn, st, vc, vr, vk, vv, mk, mm, ek, em, ex, kk) (nI t) v2 v3 := by
        intro post p1 p2 p3
        unfold wpY_insert
        dsimp only
        refine yl_act N1 N3 (fun _ => br_f hb_d10 (yl_leg (fun _ => br_f hb_d10 (yl_v00 hc Ve Y ?_)) fun z => absurd hle z)) fun z => absurd (act_n ht hac) z
        rw [← eS]
        refine br_c (fun q1 => yl_c00 Ve Y ?_) p3
        rw [← eZ]
        exact br_c (fun q2 => nm_r el (p1 q1 q2)) (p2 q1)
      refine br_c (fun q1 => br_c (fun q2 => nm_r el ?_) fun q2 => yy _ (fun _ z => absurd z q2) (fun _ _ => ⟨rfl, R⟩) fun z => absurd q1 z) fun q1 => yy _ (fun z => absurd z q1) (fun z => absurd z q1) fun _ => ⟨rfl, R⟩
      have q1' := q1
      have q2' := q2
      rw [eS, N4, nI_ltI (by omega) (by omega)] at q1'
      rw [eZ, N6, nI_ltI (by omega) (by omega)] at q2'
      obtain ⟨S, U, i, p, F', G', a1, a2, a3, a4, a5, a6, a7, a8, a9, a10, a11, a12⟩ := pop_hp H (by omega)
      refine xl_sto a1 a2 a3 a4 a5 a6 a7 a8 ?_
      refine xl_add (Cs := Cs) eZ (by omega) H.2.2.1 H.2.2.2.1 fun r ik' ir' hr hb hin => ?_
      refine yy _ (fun _ _ => ?_) (fun _ z => absurd q2 z) fun z => absurd q1 z
      refine yl_new (free_ex Y (by omega)) fun q hq xq => ?_
      refine yl_sto (free_st Y (by rw [JT_len]; omega)) fun j hj sj => ⟨rfl, ?_⟩
      have nj : j ∉ hh_J Cs := fun z => ((Y.2.1 j).mp z).2 sj
      have up : nI l ≤ nI (l + 1) := nI_le (by omega) (by omega)
      refine i_in (l := l + 1) ⟨N1, N2, N3, N4, N5, N6, N7, N8, by omega, rfl, by omega⟩ T (hp_new (q := q) (j := j) H (by omega) a10 a11 a12 hr hb hin) (fr_new fr a9 (F_nd H))
        (ver_new a10 nj up (nI_le (a := 1) (by omega) (by omega)) (Int32.le_refl _) (leg_1 hle) Ve) (mv_new M ht8 hac fun w hw hl er => ?_) (y_new Y hj sj hq xq)
      obtain ⟨c2, hc2, v, hv, rfl⟩ := at_T H fr hw (liv_0 hl)
      have := ((Ve c2 hc2).2.2 v hv).2.2.2.2
      rw [er, nI_leI (by omega) (by omega)] at this
      omega
    · unfold wpY_insert
      dsimp only
      exact yl_act N1 N3 (fun _ => br_f hb_d10 (yl_leg (fun z => absurd z hle) fun _ => br_t rfl ⟨rfl, R⟩)) fun z => absurd (act_n ht hac) z
  · unfold wpY_insert
    dsimp only
    exact yl_act N1 N3 (fun z => absurd z hn) fun _ => br_t rfl ⟨rfl, R⟩
theorem i_vc_remove {k : Nat} {u : SX} {v : SY} (I : i_Rel k u v) (hk : k + 5 ≤ 2563) (v1 : Int32) (v2 : Int32) : wpX_remove (fun r u' => wpY_remove (fun r' v' => r' = r ∧ i_Rel (k + 5) u' v') v v1 v2) u v1 v2 := by
  refine i_el (P := fun u v => wpX_remove (fun r u' => wpY_remove (fun r' v' => r' = r ∧ i_Rel (k + 5) u' v') v v1 v2) u v1 v2) ?_ I
  intro u0 u1 u2 u3 u4 u5 u6 u7 sc vl cl ck lr sd lu iz ac sn tr tk tv ms mn es en tn tf ls lt lf ik ir st vc vr vk vv mk mm ek em ex kk s V C c l Cs F G N T H fr Ve M Y
  have R : i_Rel (k + 5) (u0, u1, u2, u3, u4, u5, u6, u7, sc, vl, cl, ck, lr, sd, lu, iz, ac, sn, tr, tk, tv, ms, mn, es, en, tn, tf, ls, lt, lf, ik, ir) (sc, vl, cl, ck, lr, ac, sn, st, vc, vr, vk, vv, mk, mm, ek, em, ex, kk) := i_in (num_up N (by omega)) T H fr Ve M Y
  have s8 := N.2.2.1
  unfold wpX_remove
  dsimp only
  refine xl_act N.1 N.2.2.1 (fun ha => br_f hb_d10 ?_) fun hn => br_t rfl ?_
  · obtain ⟨t, ht, rfl, hac⟩ := ha
    have ht8 : t < 8 := by omega
    refine xl_visTup ht8 (mv_e3 M) (fun i hi ei vi => ?_) fun z => ?_
    · have yy : ∀ post : Int32 → SY → Prop, (∀ c ∈ Cs, ∀ v ∈ c.2.2.2, v.2.1 = i → (es i = 1 → post (-3) (sc, vl, cl, ck, lr, ac, sn, st, vc, vr, vk, vv, mk, mm, ek, em, ex, kk)) ∧ (es i = 2 → post (-4) (sc, vl, cl, ck, lr, ac, sn, st, vc, vr, vk, vv, mk, mm, ek, em, ex, kk)) ∧ (¬ es i = 1 → ¬ es i = 2 → post 0 (sc, vl, cl, ck, lr, ac, sn, st, vc, vr, vk, vv, mk, mm, upd ek v.2.2 1, upd em v.2.2 (nI t), ex, kk))) → wpY_remove post (sc, vl, cl, ck, lr, ac, sn, st, vc, vr, vk, vv, mk, mm, ek, em, ex, kk) (nI t) v2 := by
        intro post pp
        unfold wpY_remove
        dsimp only
        refine yl_act N.1 N.2.2.1 (fun _ => br_f hb_d10 (yl_seen N.1 N.2.2.1 ht hac (fun j hj hs ej vj => ?_) fun w => ?_)) fun z => absurd (act_n ht hac) z
        · obtain ⟨c, hc, v, hv, ev, rfl⟩ := law_seen H fr Ve M Y ht8 hi ei vi hj hs ej vj
          obtain ⟨p1, p2, p3⟩ := pp c hc v hv ev
          have W := (Ve c hc).2.2 v hv
          rw [hb_c32 hj, (W.2.1.2.2 (by rw [ev]; exact vis_liv vi)).1, ev]
          exact br_t (nI_pos' (by omega)) ⟨hb_i32 hj, br_c p1 fun n1 => ⟨hb_i32 hj, br_c p2 fun n2 => ⟨hb_i32 hj, nm_e ⟨hb_i32 hj, nm_e (p3 n1 n2)⟩⟩⟩⟩
        · obtain ⟨j, p, q, r, s⟩ := law_some H fr Ve Y hi ei vi
          exact absurd s (w j p q r)
      refine xl_wc hi (fun e1 => br_f (by decide) (yy _ fun c hc v hv ev => ⟨fun _ => ⟨rfl, R⟩, fun e2 => ?_, fun n1 => absurd e1 n1⟩)) (fun e2 => br_f (by decide) (yy _ fun c hc v hv ev => ⟨fun e1 => ?_, fun _ => ⟨rfl, R⟩, fun _ n2 => absurd e2 n2⟩)) fun n1 n2 => br_t rfl (xl_end hi (yy _ fun c hc v hv ev => ⟨fun z => absurd z n1, fun z => absurd z n2, fun _ _ => ⟨rfl, ?_⟩⟩))
      · rw [e1] at e2; exact absurd e2 hb_d12
      · rw [e1] at e2; exact absurd e2 hb_d12
      · subst ev
        have e0 : es v.2.1 = 0 := by
          rcases mv_e3 M _ hi (vis_liv vi) with y | y | y
          · exact y
          · exact absurd y n1
          · exact absurd y n2
        exact i_in (num_up N (by omega)) T H fr (ver_end H Y Ve hc hv (nI t)) (mv_end M hi vi e0) Y
    · refine br_f hb_0n1 (br_f (by decide) ?_)
      unfold wpY_remove
      dsimp only
      refine yl_act N.1 N.2.2.1 (fun _ => br_f hb_d10 (yl_seen N.1 N.2.2.1 ht hac (fun j hj hs ej vj => ?_) fun w => br_f hb_0n1 ⟨rfl, R⟩)) fun z => absurd (act_n ht hac) z
      obtain ⟨i, p, q, r⟩ := law_none H Ve Y hj hs ej vj
      exact absurd r (z i p q)
  · unfold wpY_remove
    dsimp only
    exact yl_act N.1 N.2.2.1 (fun z => absurd z hn) fun _ => br_t rfl ⟨rfl, R⟩
end
section
theorem lnk_all {l : Nat} {Cs : List hh_C} {F G F' G' : List Nat} {sd lu iz sd' lu' : Int32} {tr tk tv ms mn es en tn tf ls lt lf ik ir st vc vr vk vv mk mm ek em ex kk : Nat → Int32} {i p j : Nat} {row key val T : Int32} {c0 : hh_C} {o : hh_V}
    (H : hh_hp Cs F G sd lu iz tn tf ls lt lf ik ir) (V : hh_ver l tr tk tv ms mn es en vc vr vk vv mk mm ek em Cs) (Y : hh_y Cs st ex kk) (hc : c0 ∈ Cs) (ho : o ∈ c0.2.2.2) (hi : i ∉ hh_T Cs) (hp : p ∉ hh_P Cs)
    (hsk : hh_sk (i :: hh_T Cs) (p :: hh_P Cs) F' G' sd' lu' tf lf) (hj : j < 32) (sj : st j = 0) (e1 : c0.1 = key) (e2 : tr o.2.1 = row) :
    ∃ Cs', hh_hp Cs' F' G' sd' lu' iz (upd (upd (upd tn i (-1)) i (upd tn i (-1) o.2.1)) o.2.1 (nI p)) tf (upd ls p 1) (upd lt p (nI i)) lf ik ir
      ∧ hh_ver l (upd tr i row) (upd tk i key) (upd tv i val) (upd ms i 1) (upd mn i T) (upd es i 0) en (upd vc j (nI c0.2.2.1)) (upd vr j row) (upd vk j key) (upd vv j val) (upd mk j 1) (upd mm j T) (upd ek j 0) (upd em j 0) Cs'
      ∧ hh_y Cs' (upd st j 1) ex kk := by
  have nj : j ∉ hh_J Cs := fun z => ((Y.2.1 j).mp z).2 sj
  obtain ⟨A, B, rfl⟩ := List.append_of_mem hc
  obtain ⟨k0, r, q, L⟩ := c0
  obtain ⟨L1, L2, eL⟩ := List.append_of_mem ho
  have e1' : k0 = key := e1
  have eL' : L = L1 ++ o :: L2 := eL
  subst e1' eL'
  exact ⟨_, hp_lnk (j := j) H hi hp hsk, ver_lnk hi nj e2 V, y_lnk Y hj sj⟩
section
variable {sc vl cl ck lr : Int32} {ac sn st vc vr vk vv mk mm ek em ex kk : Nat → Int32}
theorem y110s {t j : Nat} {row key val : Int32} (hj : j < 32) (e : key = vk j) {post : Int32 → SY → Prop} (h : wpY_store (fun u => match u with
    | (sc, vl, cl, ck, lr, ac, sn, st, vc, vr, vk, vv, mk, mm, ek, em, ex, kk) => post 0 (sc, vl, cl, ck, lr, ac, sn, st, vc, vr, vk, vv, mk, mm, ek, em, ex, kk)) (sc, vl, cl, ck, lr, ac, sn, st, vc, vr, vk, vv, mk, mm, upd ek j 1, upd em j (nI t), ex, kk) (nI t) (vc j) row key val) : wY_update_110 post (nI t) row key val (nI j) sc vl cl ck lr ac sn st vc vr vk vv mk mm ek em ex kk := by
  unfold wY_update_110 wY_update_153
  rw [hb_c32 hj]
  have ii := hb_i32 hj
  exact ⟨ii, nm_e ⟨ii, nm_e ⟨ii, nm_e ⟨ii, br_t e h⟩⟩⟩⟩
theorem y110n {t j : Nat} {row key val : Int32} (hj : j < 32) (e : ¬ key = vk j) {post : Int32 → SY → Prop} (h : wpY_newChain (fun r u => match u with
    | (sc, vl, cl, ck, lr, ac, sn, st, vc, vr, vk, vv, mk, mm, ek, em, ex, kk) => wpY_store (fun u => match u with
      | (sc, vl, cl, ck, lr, ac, sn, st, vc, vr, vk, vv, mk, mm, ek, em, ex, kk) => post 0 (sc, vl, cl, ck, lr, ac, sn, st, vc, vr, vk, vv, mk, mm, ek, em, ex, kk)) (sc, vl, cl, ck, lr, ac, sn, st, vc, vr, vk, vv, mk, mm, ek, em, ex, kk) (nI t) r row key val) (sc, vl, cl, ck, lr, ac, sn, st, vc, vr, vk, vv, mk, mm, upd ek j 1, upd em j (nI t), ex, kk) key) : wY_update_110 post (nI t) row key val (nI j) sc vl cl ck lr ac sn st vc vr vk vv mk mm ek em ex kk := by
  unfold wY_update_110 wY_update_153
  rw [hb_c32 hj]
  have ii := hb_i32 hj
  exact ⟨ii, nm_e ⟨ii, nm_e ⟨ii, nm_e ⟨ii, br_f e h⟩⟩⟩⟩
end
theorem i_vc_update {k : Nat} {u : SX} {v : SY} (I : i_Rel k u v) (hk : k + 5 ≤ 2563) (v1 : Int32) (v2 : Int32) (v3 : Int32) (v4 : Int32) : wpX_update (fun r u' => wpY_update (fun r' v' => r' = r ∧ i_Rel (k + 5) u' v') v v1 v2 v3 v4) u v1 v2 v3 v4 := by
  refine i_el (P := fun u v => wpX_update (fun r u' => wpY_update (fun r' v' => r' = r ∧ i_Rel (k + 5) u' v') v v1 v2 v3 v4) u v1 v2 v3 v4) ?_ I
  intro u0 u1 u2 u3 u4 u5 u6 u7 sc vl cl ck lr sd lu iz ac sn tr tk tv ms mn es en tn tf ls lt lf ik ir st vc vr vk vv mk mm ek em ex kk s V C c l Cs F G N T H fr Ve M Y
  have R : i_Rel (k + 5) (u0, u1, u2, u3, u4, u5, u6, u7, sc, vl, cl, ck, lr, sd, lu, iz, ac, sn, tr, tk, tv, ms, mn, es, en, tn, tf, ls, lt, lf, ik, ir) (sc, vl, cl, ck, lr, ac, sn, st, vc, vr, vk, vv, mk, mm, ek, em, ex, kk) := i_in (num_up N (by omega)) T H fr Ve M Y
  have N' := num_up N (show k ≤ k + 5 by omega)
  obtain ⟨N1, N2, N3, N4, N5, N6, N7, N8, N9, N10, N11⟩ := N
  obtain ⟨eS, lS⟩ := sd_T H
  have eZ := H.1
  have lZ := H.2.1
  have hck : ∀ t, t < 8 → sn t ≤ ck := fun t ht => by rw [N8]; exact T.2 t ht
  unfold wpX_update
  dsimp only
  refine xl_act N1 N3 (fun ha => br_f hb_d10 ?_) fun hn => br_t rfl ?_
  · obtain ⟨t, ht, rfl, hac⟩ := ha
    have ht8 : t < 8 := by omega
    refine xl_leg (fun hle => br_f hb_d10 ?_) fun hle => br_t rfl ?_
    · refine xl_visTup ht8 (mv_e3 M) (fun i hi ei vi => ?_) fun z => ?_
      · obtain ⟨c0, hc, o, ho, rfl⟩ := at_T H fr hi (liv_0 (vis_liv vi))
        have W := (Ve c0 hc).2.2 o ho
        have hl := vis_liv vi
        obtain ⟨hj, hsj⟩ := J_at Y hc ho
        have yy : ∀ post : Int32 → SY → Prop, (es o.2.1 = 1 → post (-3) (sc, vl, cl, ck, lr, ac, sn, st, vc, vr, vk, vv, mk, mm, ek, em, ex, kk)) → (es o.2.1 = 2 → post (-4) (sc, vl, cl, ck, lr, ac, sn, st, vc, vr, vk, vv, mk, mm, ek, em, ex, kk)) → (¬ es o.2.1 = 1 → ¬ es o.2.1 = 2 → ¬ sd < vl → post (-6) (sc, vl, cl, ck, lr, ac, sn, st, vc, vr, vk, vv, mk, mm, ek, em, ex, kk)) →
            (¬ es o.2.1 = 1 → ¬ es o.2.1 = 2 → sd < vl → c0.1 = v3 → wY_update_110 post (nI t) v2 v3 v4 (nI o.2.2) sc vl cl ck lr ac sn st vc vr vk vv mk mm ek em ex kk) →
            (¬ es o.2.1 = 1 → ¬ es o.2.1 = 2 → sd < vl → ¬ c0.1 = v3 → (iz < cl → wY_update_110 post (nI t) v2 v3 v4 (nI o.2.2) sc vl cl ck lr ac sn st vc vr vk vv mk mm ek em ex kk) ∧ (¬ iz < cl → post (-7) (sc, vl, cl, ck, lr, ac, sn, st, vc, vr, vk, vv, mk, mm, ek, em, ex, kk))) →
            wpY_update post (sc, vl, cl, ck, lr, ac, sn, st, vc, vr, vk, vv, mk, mm, ek, em, ex, kk) (nI t) v2 v3 v4 := by
          intro post p1 p2 p3 p4 p5
          unfold wpY_update
          dsimp only
          refine yl_act N1 N3 (fun _ => br_f hb_d10 (yl_leg (fun _ => br_f hb_d10 (yl_seen N1 N3 ht hac (fun j hj2 hs ej vj => ?_) fun w => ?_)) fun z => absurd hle z)) fun z => absurd (act_n ht hac) z
          · obtain ⟨c, hc2, v, hv, ev, rfl⟩ := law_seen H fr Ve M Y ht8 hi ei vi hj2 hs ej vj
            have ev2 : v = o := T_inj H hc2 hv hc ho ev
            subst ev2
            rw [hb_c32 hj, (W.2.1.2.2 hl).1, W.1.2.1]
            refine br_t (nI_pos' (by omega)) ⟨hb_i32 hj, br_c p1 fun n1 => ⟨hb_i32 hj, br_c p2 fun n2 => yl_v00 hck Ve Y ?_⟩⟩
            rw [← eS]
            refine br_c (fun q1 => ⟨hb_i32 hj, br_c (fun e => p4 n1 n2 q1 e.symm) fun e => yl_c00 Ve Y ?_⟩) (p3 n1 n2)
            rw [← eZ]
            exact p5 n1 n2 q1 fun y => e y.symm
          · obtain ⟨j, p, q, r, s⟩ := law_some H fr Ve Y hi ei vi
            exact absurd s (w j p q r)
        refine xl_wc hi (fun e1 => br_f (by decide) ?_) (fun e2 => br_f (by decide) ?_) fun n1 n2 => br_t rfl (br_c (fun q1 => ⟨hb_i32 hi, ?_⟩) fun q1 => ?_)
        · exact yy _ (fun _ => ⟨rfl, R⟩) (fun e2 => by rw [e1] at e2; exact absurd e2 hb_d12) (fun n1 => absurd e1 n1) (fun n1 => absurd e1 n1) fun n1 => absurd e1 n1
        · exact yy _ (fun e1 => by rw [e1] at e2; exact absurd e2 hb_d12) (fun _ => ⟨rfl, R⟩) (fun _ n2 => absurd e2 n2) (fun _ n2 => absurd e2 n2) fun _ n2 => absurd e2 n2
        · have e0 : es o.2.1 = 0 := by
            rcases mv_e3 M _ hi hl with y | y | y
            · exact y
            · exact absurd y n1
            · exact absurd y n2
          have q1' := q1
          rw [eS, N4, nI_ltI (by omega) (by omega)] at q1'
          have V1 := ver_end H Y Ve hc ho (nI t)
          have M1 := mv_end M hi vi e0
          have hrow : ∀ w, w < 32 → hh_liv (ms w) → tr w = v2 → hh_bf sn (upd es o.2.1 1 w) (upd en o.2.1 (nI t) w) 1 (nI t) := fun w hw hlw ew => row_end M ht8 hi vi e0 w hw hlw (ew.trans ei.symm)
          obtain ⟨S, U, i, p, F', G', a1, a2, a3, a4, a5, a6, a7, a8, a9, a10, a11, a12⟩ := pop_hp H (by omega)
          rw [hb_c32 hi, W.1.1]
          refine br_c (fun ek1 => ?_) fun ek1 => ?_
          · unfold wX_update_77 wX_update_98
            refine br_f hb_d10 (xl_end hi (xl_sto a1 a2 a3 a4 a5 a6 a7 a8 (br_f hb_d10 (xl_lnk hi a4 a3 pk_us ?_))))
            refine yy _ (fun z => absurd z n1) (fun z => absurd z n2) (fun _ _ z => absurd q1 z) (fun _ _ _ _ => ?_) fun _ _ _ z => absurd ek1 z
            refine y110s hj (by rw [W.1.2.1]; exact ek1.symm) (yl_sto (free_st Y (by rw [JT_len]; omega)) fun j hj2 sj => ⟨rfl, ?_⟩)
            rw [W.1.2.2.1]
            obtain ⟨Cs', b1, b2, b3⟩ := lnk_all (val := v4) (T := nI t) H V1 Y hc ho a10 a11 a12 hj2 sj ek1 ei
            exact i_in N' T b1 (fr_new fr a9 (F_nd H)) b2 (mv_new M1 ht8 hac hrow) b3
          · unfold wX_update_77 wX_update_98
            refine br_t rfl (br_c (fun q2 => ?_) fun q2 => ?_)
            · have q2' := q2
              rw [eZ, N6, nI_ltI (by omega) (by omega)] at q2'
              refine xl_end hi (xl_sto a1 a2 a3 a4 a5 a6 a7 a8 (br_t rfl (xl_add (Cs := Cs) eZ (by omega) H.2.2.1 H.2.2.2.1 fun r ik' ir' hr hb hin => ?_)))
              refine yy _ (fun z => absurd z n1) (fun z => absurd z n2) (fun _ _ z => absurd q1 z) (fun _ _ _ z => absurd z ek1) fun _ _ _ _ => ⟨fun _ => ?_, fun z => absurd q2 z⟩
              refine y110n hj (by rw [W.1.2.1]; exact fun z => ek1 z.symm) (yl_new (free_ex Y (by omega)) fun q hq xq => yl_sto (free_st Y (by rw [JT_len]; omega)) fun j hj2 sj => ⟨rfl, ?_⟩)
              have nj : j ∉ hh_J Cs := fun z => ((Y.2.1 j).mp z).2 sj
              refine i_in N' T (hp_new (q := q) (j := j) H (by omega) a10 a11 a12 hr hb hin) (fr_new fr a9 (F_nd H)) (ver_new a10 nj (Int32.le_refl _) ?_ ?_ (leg_1 hle) V1) (mv_new M1 ht8 hac hrow) (y_new Y hj2 sj hq xq)
              · rw [← ei]; exact W.2.2.2.1
              · rw [← ei]; exact W.2.2.2.2
            · exact yy _ (fun z => absurd z n1) (fun z => absurd z n2) (fun _ _ z => absurd q1 z) (fun _ _ _ z => absurd z ek1) fun _ _ _ _ => ⟨fun z => absurd z q2, fun _ => ⟨rfl, R⟩⟩
        · exact yy _ (fun z => absurd z n1) (fun z => absurd z n2) (fun _ _ _ => ⟨rfl, R⟩) (fun _ _ z => absurd z q1) fun _ _ z => absurd z q1
      · refine br_f hb_0n1 (br_f (by decide) ?_)
        unfold wpY_update
        dsimp only
        refine yl_act N1 N3 (fun _ => br_f hb_d10 (yl_leg (fun _ => br_f hb_d10 (yl_seen N1 N3 ht hac (fun j hj hs ej vj => ?_) fun w => br_f hb_0n1 ⟨rfl, R⟩)) fun z => absurd hle z)) fun z => absurd (act_n ht hac) z
        obtain ⟨i, p, q, r⟩ := law_none H Ve Y hj hs ej vj
        exact absurd r (z i p q)
    · unfold wpY_update
      dsimp only
      exact yl_act N1 N3 (fun _ => br_f hb_d10 (yl_leg (fun z => absurd z hle) fun _ => br_t rfl ⟨rfl, R⟩)) fun z => absurd (act_n ht hac) z
  · unfold wpY_update
    dsimp only
    exact yl_act N1 N3 (fun z => absurd z hn) fun _ => br_t rfl ⟨rfl, R⟩
end
section
def hh_cl (a b x : Int32) : Int32 := if a ≤ x then (if x ≤ b then x else b) else a
theorem cl_br {A : Int32 → Prop} {a b x : Int32} (h : A (hh_cl a b x)) : (a ≤ x → ((x ≤ b → A x) ∧ (¬ x ≤ b → A b))) ∧ (¬ a ≤ x → A a) := by
  unfold hh_cl at h
  refine br_c (fun h1 => ?_) fun h1 => ?_
  · rw [if_pos h1] at h
    refine br_c (fun h2 => ?_) fun h2 => ?_
    · rw [if_pos h2] at h; exact h
    · rw [if_neg h2] at h; exact h
  · rw [if_neg h1] at h; exact h
theorem cl_rng {a b : Nat} (x : Int32) (hab : a ≤ b) (hb : b < 2 ^ 31) : ∃ n, hh_cl (nI a) (nI b) x = nI n ∧ a ≤ n ∧ n ≤ b := by
  unfold hh_cl
  by_cases h1 : nI a ≤ x
  · rw [if_pos h1]
    by_cases h2 : x ≤ nI b
    · rw [if_pos h2]
      have h0 : ¬ x < 0 := fun z => nI_pos (n := a) (by omega) (Int32.lt_of_le_of_lt h1 z)
      obtain ⟨n, hn, rfl⟩ := nI_of h0
      rw [nI_leI (by omega) hn] at h1
      rw [nI_leI hn hb] at h2
      exact ⟨n, rfl, h1, h2⟩
    · rw [if_neg h2]
      exact ⟨b, rfl, hab, Nat.le_refl _⟩
  · rw [if_neg h1]
    exact ⟨a, rfl, Nat.le_refl _, hab⟩
theorem st_rng {f : Nat → Int32} : ∀ n s, (∀ j, s ≤ j → j < s + n → f j = nI j) → hh_st f s (List.range' s n) := by
  intro n
  induction n with
  | zero => intro s _; exact trivial
  | succ n ih =>
    intro s h
    rw [List.range'_succ]
    exact ⟨h s (by omega) (by omega), ih (s + 1) fun j h1 h2 => h j (by omega) (by omega)⟩
section
variable {u0 u1 u2 u3 u4 u5 u6 u7 sc vl cl ck lr sd lu iz : Int32} {ac sn tr tk tv ms mn es en tn tf ls lt lf ik ir : Nat → Int32}
theorem xi_236 {post : SX → Prop} (hp : ∀ lf', (∀ j, j < 64 → lf' j = nI j) → post (u0, u1, u2, u3, u4, u5, u6, u7, sc, vl, cl, ck, lr, sd, lu, iz, ac, sn, tr, tk, tv, ms, mn, es, en, tn, tf, ls, lt, lf', ik, ir)) : ∀ d i lf1, i + d = 64 → (∀ j, j < i → lf1 j = nI j) → wX_init_236 post u0 u1 u2 u3 u4 u5 u6 u7 sc vl cl ck lr sd lu iz (d + 1) (nI i) ac sn tr tk tv ms mn es en tn tf ls lt lf1 ik ir := by
  intro d
  induction d with
  | zero =>
    intro i lf1 hi h
    obtain rfl : i = 64 := by omega
    exact br_t (nI_le (a := 64) (b := 64) (by omega) (by decide)) (hp lf1 h)
  | succ d ih =>
    intro i lf1 hi h
    have hi' : i < 64 := by omega
    rw [wX_init_236]
    dsimp only
    rw [hb_c64 hi', nI_1 i]
    refine br_f (nI_ge (b := 64) hi' (by decide)) ⟨hb_i64 hi', nm_e (nm_e (ih (i + 1) _ (by omega) fun j hj => ?_))⟩
    by_cases z : j = i
    · rw [z, pk_us]
    · rw [pk_un z]; exact h j (by omega)
theorem xi_211 {post : SX → Prop} (hp : ∀ tf' lf', (∀ j, j < 32 → tf' j = nI j) → (∀ j, j < 64 → lf' j = nI j) → post (u0, u1, u2, u3, u4, u5, u6, u7, sc, vl, cl, ck, lr, sd, lu, iz, ac, sn, tr, tk, tv, ms, mn, es, en, tn, tf', ls, lt, lf', ik, ir)) : ∀ d i tf1, i + d = 32 → (∀ j, j < i → tf1 j = nI j) → wX_init_211 post u0 u1 u2 u3 u4 u5 u6 u7 sc vl cl ck lr sd lu iz (d + 1) (nI i) ac sn tr tk tv ms mn es en tn tf1 ls lt lf ik ir := by
  intro d
  induction d with
  | zero =>
    intro i tf1 hi h
    obtain rfl : i = 32 := by omega
    exact br_t hb_e32 ⟨65, xi_236 (fun lf' h2 => hp tf1 lf' h h2) 64 0 lf rfl fun j hj => absurd hj (Nat.not_lt_zero j)⟩
  | succ d ih =>
    intro i tf1 hi h
    have hi' : i < 32 := by omega
    rw [wX_init_211]
    dsimp only
    rw [hb_c32 hi', nI_1 i]
    refine br_f (hb_g32 hi') ⟨hb_i32 hi', nm_e (nm_e (ih (i + 1) _ (by omega) fun j hj => ?_))⟩
    by_cases z : j = i
    · rw [z, pk_us]
    · rw [pk_un z]; exact h j (by omega)
end
theorem i_new {s V C : Nat} {u0 u1 u2 u3 u4 u5 u6 u7 : Int32} {tf lf : Nat → Int32} (s1 : 1 ≤ s) (s8 : s ≤ 8) (hV : V ≤ 32) (hC : C ≤ 32) (h1 : ∀ j, j < 32 → tf j = nI j) (h2 : ∀ j, j < 64 → lf j = nI j) :
    i_Rel 3 (u0, u1, u2, u3, u4, u5, u6, u7, nI s, nI V, nI C, 0, 0, 0, 0, 0, (fun _ => 0), (fun _ => 0), (fun _ => 0), (fun _ => 0), (fun _ => 0), (fun _ => 0), (fun _ => 0), (fun _ => 0), (fun _ => 0), (fun _ => 0), tf, (fun _ => 0), (fun _ => 0), lf, (fun _ => 0), (fun _ => 0))
      (nI s, nI V, nI C, 0, 0, (fun _ => 0), (fun _ => 0), (fun _ => 0), (fun _ => 0), (fun _ => 0), (fun _ => 0), (fun _ => 0), (fun _ => 0), (fun _ => 0), (fun _ => 0), (fun _ => 0), (fun _ => 0), (fun _ => 0)) := by
  refine i_in (s := s) (V := V) (C := C) (c := 0) (l := 0) (Cs := []) (F := List.range' 0 32) (G := List.range' 0 64) ⟨rfl, s1, s8, rfl, hV, rfl, hC, nI_0.symm, by omega, nI_0.symm, by omega⟩ ⟨fun _ _ _ => rfl, fun _ _ => by rw [nI_0]; exact Int32.le_refl _⟩
    ⟨nI_0.symm, by simp, fun p c h => by rw [List.getElem?_nil] at h; exact absurd h (by simp), List.Pairwise.nil, fun c h => absurd h List.not_mem_nil, ⟨0, nI_0.symm, by simp, st_rng 32 0 fun j _ h => h1 j (by omega)⟩, ⟨0, nI_0.symm, by simp, st_rng 64 0 fun j _ h => h2 j (by omega)⟩, ?_, ?_⟩
    (fun _ _ => rfl) (fun c h => absurd h List.not_mem_nil) ⟨fun i _ => ⟨fun e => absurd e hb_d01, fun e => absurd e hb_d02⟩, fun i k _ _ _ h => ?_⟩ ⟨List.nodup_nil, fun j => ⟨fun h => absurd h List.not_mem_nil, fun h => absurd rfl h.2⟩, List.nodup_nil, fun j => ⟨fun h => absurd h List.not_mem_nil, fun h => absurd rfl h.2⟩, fun c h => absurd h List.not_mem_nil⟩
  · rw [List.range_eq_range']; exact List.Perm.refl _
  · rw [List.range_eq_range']; exact List.Perm.refl _
  · exact absurd rfl (liv_0 h)
theorem xl_clamp {post : Int32 → Prop} {u : SX} {x a b : Int32} (h : post (hh_cl a b x)) : wpX_clamp post u x a b := by
  obtain ⟨u0, u1, u2, u3, u4, u5, u6, u7, sc, vl, cl, ck, lr, sd, lu, iz, ac, sn, tr, tk, tv, ms, mn, es, en, tn, tf, ls, lt, lf, ik, ir⟩ := u
  exact cl_br (A := post) h
section
variable {sc vl cl ck lr : Int32} {ac sn st vc vr vk vv mk mm ek em ex kk : Nat → Int32}
theorem y_i1 {post : SY → Prop} {p0 p1 p2 : Int32} (h : wY_init_140 post p1 p2 (hh_cl 1 8 p0) 0 0 0 0 0 (fun _ => 0) (fun _ => 0) (fun _ => 0) (fun _ => 0) (fun _ => 0) (fun _ => 0) (fun _ => 0) (fun _ => 0) (fun _ => 0) (fun _ => 0) (fun _ => 0) (fun _ => 0) (fun _ => 0)) : wpY_init post p0 p1 p2 :=
  cl_br (A := fun z => wY_init_140 post p1 p2 z 0 0 0 0 0 (fun _ => 0) (fun _ => 0) (fun _ => 0) (fun _ => 0) (fun _ => 0) (fun _ => 0) (fun _ => 0) (fun _ => 0) (fun _ => 0) (fun _ => 0) (fun _ => 0) (fun _ => 0) (fun _ => 0)) h
theorem y_i2 {post : SY → Prop} {x2 x3 z0 : Int32} (h : wY_init_165 post x3 (hh_cl 4 32 x2) z0 vl cl ck lr ac sn st vc vr vk vv mk mm ek em ex kk) : wY_init_140 post x2 x3 z0 sc vl cl ck lr ac sn st vc vr vk vv mk mm ek em ex kk :=
  cl_br (A := fun z => wY_init_165 post x3 z z0 vl cl ck lr ac sn st vc vr vk vv mk mm ek em ex kk) h
theorem y_i3 {post : SY → Prop} {x3 z0 : Int32} (h : post (sc, z0, hh_cl 4 32 x3, ck, lr, ac, sn, st, vc, vr, vk, vv, mk, mm, ek, em, ex, kk)) : wY_init_165 post x3 z0 sc vl cl ck lr ac sn st vc vr vk vv mk mm ek em ex kk :=
  cl_br (A := fun z => post (sc, z0, z, ck, lr, ac, sn, st, vc, vr, vk, vv, mk, mm, ek, em, ex, kk)) h
end
theorem i_vc0 (k0 : Int32) (k1 : Int32) (k2 : Int32) : wpX_init (fun u => wpY_init (fun v => i_Rel 3 u v) k0 k1 k2) k0 k1 k2 := by
  obtain ⟨s, es, s1, s8⟩ := cl_rng (a := 1) (b := 8) k0 (by omega) (by omega)
  obtain ⟨V, eV, V1, V8⟩ := cl_rng (a := 4) (b := 32) k1 (by omega) (by omega)
  obtain ⟨C, eC, C1, C8⟩ := cl_rng (a := 4) (b := 32) k2 (by omega) (by omega)
  have es' : hh_cl 1 8 k0 = nI s := es
  have eV' : hh_cl 4 32 k1 = nI V := eV
  have eC' : hh_cl 4 32 k2 = nI C := eC
  unfold wpX_init
  refine xl_clamp (xl_clamp (xl_clamp ?_))
  rw [es', eV', eC']
  refine ⟨33, xi_211 (fun tf' lf' h1 h2 => ?_) 32 0 _ rfl fun j hj => absurd hj (Nat.not_lt_zero j)⟩
  refine y_i1 (y_i2 (y_i3 ?_))
  rw [es', eV', eC']
  exact i_new s1 s8 V8 C8 h1 h2
end
