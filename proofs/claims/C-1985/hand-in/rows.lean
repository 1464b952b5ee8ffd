section
theorem pk_us {f : Nat → Int32} {k : Nat} {x : Int32} : upd f k x k = x := if_pos rfl
theorem pk_un {f : Nat → Int32} {k j : Nat} {x : Int32} (h : j ≠ k) : upd f k x j = f j := if_neg h
theorem pk_uLs {f : Nat → Int64} {k : Nat} {x : Int64} : vp_updL f k x k = x := if_pos rfl
theorem pk_uLn {f : Nat → Int64} {k j : Nat} {x : Int64} (h : j ≠ k) : vp_updL f k x j = f j := if_neg h
theorem pk_sub {a b : Nat} (h : b ≤ a) : nI a - nI b = nI (a - b) := by
  obtain ⟨c, rfl⟩ : ∃ c, a = c + b := ⟨a - b, by omega⟩
  rw [← nI_add, Int32.add_sub_cancel, Nat.add_sub_cancel]
theorem pk_m1 (n : Nat) : nI (n + 1) + (-1) = nI n := by
  rw [← nI_1, Int32.add_assoc, show (1 : Int32) + (-1) = 0 from rfl, Int32.add_zero]
theorem pk_mul (a b : Nat) : nI a * nI b = nI (a * b) := (Int32.ofNat_mul a b).symm
theorem pk_div {a d : Nat} (ha : a < 2 ^ 31) (h0 : 0 < d) (hd : d < 2 ^ 31) : nI a / nI d = nI (a / d) := by
  apply Int32.toInt_inj.mp
  rw [lg_idiv_nonneg (by rw [nI_toInt ha]; omega) (by rw [nI_toInt hd]; omega), nI_toInt ha, nI_toInt hd, nI_toInt (Nat.lt_of_le_of_lt (Nat.div_le_self a d) ha)]
  first | rfl | exact (Int.natCast_ediv _ _).symm
theorem pk_ix (x : Int32) {n : Nat} (hn : n < 2 ^ 31) : x < 0 ∨ nI n ≤ x ∨ ∃ j : Nat, j < n ∧ x = nI j := by
  by_cases h : x < 0
  · exact Or.inl h
  · obtain ⟨j, hj, rfl⟩ := nI_of h
    by_cases h2 : j < n
    · exact Or.inr (Or.inr ⟨j, h2, rfl⟩)
    · exact Or.inr (Or.inl (nI_le (by omega) hj))
theorem pk_le {x y : Int32} {A B : Prop} (a b : Nat) (f : a ≤ b → A) (g : b < a → B) (hx : x = nI a := by rfl) (hy : y = nI b := by rfl) (ha : a < 2 ^ 31 := by omega) (hb : b < 2 ^ 31 := by omega) : (x ≤ y → A) ∧ (¬ x ≤ y → B) := by
  subst hx hy
  rw [nI_leI ha hb]
  exact ⟨f, fun z => g (by omega)⟩
theorem pk_lt {x y : Int32} {A B : Prop} (a b : Nat) (f : a < b → A) (g : b ≤ a → B) (hx : x = nI a := by rfl) (hy : y = nI b := by rfl) (ha : a < 2 ^ 31 := by omega) (hb : b < 2 ^ 31 := by omega) : (x < y → A) ∧ (¬ x < y → B) := by
  subst hx hy
  rw [nI_ltI ha hb]
  exact ⟨f, fun z => g (by omega)⟩
theorem pk_eq {x y : Int32} {A B : Prop} (a b : Nat) (f : a = b → A) (g : a ≠ b → B) (hx : x = nI a := by rfl) (hy : y = nI b := by rfl) (ha : a < 2 ^ 31 := by omega) (hb : b < 2 ^ 31 := by omega) : (x = y → A) ∧ (¬ x = y → B) := by
  subst hx hy
  rw [nI_eq ha hb]
  exact ⟨f, g⟩
theorem pk_in {x : Int32} (n N : Nat) (h : n < N) (hx : x = nI n := by rfl) (hN : N < 2 ^ 31 := by omega) : vp_in x N := by
  subst hx
  exact vp_in_nI h hN
theorem pk_cl {x : Int32} (n : Nat) (hx : x = nI n := by rfl) (h : n < 2 ^ 31 := by omega) : x.toNatClampNeg = n := by
  subst hx
  exact nI_clamp h
theorem ts_nf {x : Bool} (h : ¬ x = false) : x = true := by cases x <;> first | rfl | exact absurd rfl h
theorem ts_nt {x : Bool} (h : ¬ x = true) : x = false := by cases x <;> first | rfl | exact absurd rfl h
theorem ts_bit {w : Int64} {s : UInt64} {j : Nat} (hj : j < 64) (hs : s.toNat = j) : ((w.toUInt64 >>> s).toInt64 &&& 1) = 0 ↔ w.toBitVec.getLsbD j = false := by
  have e : (w.toUInt64 >>> s).toInt64.toBitVec = w.toBitVec >>> j := by
    apply BitVec.eq_of_toNat_eq
    show (w.toUInt64 >>> s).toNat = _
    rw [UInt64.toNat_shiftRight, hs, Nat.mod_eq_of_lt hj, BitVec.toNat_ushiftRight]
    rfl
  rw [← Int64.toBitVec_inj, Int64.toBitVec_and, e]
  show w.toBitVec >>> j &&& 1#64 = 0#64 ↔ _
  constructor
  · intro h
    have t := congrArg (fun x => x.getLsbD 0) h
    simpa using t
  · intro h
    apply BitVec.eq_of_getLsbD_eq
    intro i hi
    cases i with
    | zero => simp [h]
    | succ i => simp
theorem wb_tb (n : Nat) : (lN n).toBitVec = BitVec.ofNat 64 n := rfl
theorem wb_inj {a b : Int64} (h : a.toBitVec = b.toBitVec) : a = b := Int64.toBitVec_inj.mp h
theorem wb_c : ∀ k, k < 64 → ((nI k).toInt64 &&& 63) = lN k := by decide +kernel
theorem wb_cu : ∀ k, k < 64 → ((nI k).toInt64.toUInt64 &&& Int64.toUInt64 63) = UInt64.ofNat k := by decide +kernel
end
section
/-! the abstract picture: arrays of naturals, messages as functions on an optional value, a key's path through the levels -/
def bb_enc (g : Nat → Nat) : Nat → Int32 := fun n => nI (g n)
def bb_up (g : Nat → Nat) (i v : Nat) : Nat → Nat := fun j => if j = i then v else g j
theorem bb_ups (g : Nat → Nat) (i v : Nat) : bb_up g i v i = v := if_pos rfl
theorem bb_upn {g : Nat → Nat} {i v j : Nat} (h : j ≠ i) : bb_up g i v j = g j := if_neg h
theorem bb_upe (g : Nat → Nat) (i v j : Nat) : bb_up g i v j = if j = i then v else g j := rfl
theorem bb_eu (g : Nat → Nat) (i v : Nat) : upd (bb_enc g) i (nI v) = bb_enc (bb_up g i v) := by
  funext j
  show (if j = i then nI v else nI (g j)) = nI (if j = i then v else g j)
  by_cases h : j = i
  · rw [if_pos h, if_pos h]
  · rw [if_neg h, if_neg h]
theorem bb_ea (g : Nat → Nat) (n : Nat) : bb_enc g n = nI (g n) := rfl
def bb_b (P : Int64) (k : Nat) : Bool := P.toBitVec.getLsbD k
def bb_lf (P : Int64) (vals : Nat → Int32) (k : Nat) : Option Int32 := if bb_b P k = true then some (vals k) else none
def bb_sp (kd : Int32) (b : Bool) : Bool := if kd = 1 then false else (b || (decide (kd = 0) || (decide (kd = 2) || decide (kd = 5))))
def bb_nv (kd : Int32) (b : Bool) (x v : Int32) : Int32 :=
  if kd = 0 then v else if kd = 1 then 0 else if kd = 2 then (if b = true then x + v else v) else if kd = 3 then (if b = true then x + v else 0) else if kd = 4 then (if b = true then (if x ≤ v then v else x) else 0) else (if b = true then x else v)
def bb_act (kd v : Int32) (o : Option Int32) : Option Int32 := if bb_sp kd o.isSome = true then some (bb_nv kd o.isSome (o.getD 0) v) else none
def bb_st (so fi la nu : Nat → Int32) (k a : Nat) (o : Option Int32) : Option Int32 := if fi a ≤ nI k ∧ nI k ≤ la a then bb_act (so a) (nu a) o else o
def bb_fo (so fi la nu : Nat → Int32) (k b : Nat) : Nat → Option Int32 → Option Int32
  | 0, o => o
  | m + 1, o => bb_st so fi la nu k (b + m) (bb_fo so fi la nu k b m o)
def bb_fn (ms : Nat → Nat) (so fi la nu : Nat → Int32) (n k : Nat) (o : Option Int32) : Option Int32 := bb_fo so fi la nu k (48 * n) (ms n) o
def bb_sv (own : Nat → Nat → Nat) (F : Nat → Nat → Option Int32 → Option Int32) (f : Nat → Option Int32) (k : Nat) : Nat → Option Int32
  | 0 => f k
  | l + 1 => F (own l k) k (bb_sv own F f k l)
def bb_pz (own : Nat → Nat → Nat) (ms : Nat → Nat) (k : Nat) : Nat → Nat
  | 0 => 0
  | l + 1 => bb_pz own ms k l + ms (own l k)
def bb_cs (so fi la nu so' fi' la' nu' : Nat → Int32) (n : Nat) : Prop :=
  ∀ j, j < 48 → so' (48 * n + j) = so (48 * n + j) ∧ fi' (48 * n + j) = fi (48 * n + j) ∧ la' (48 * n + j) = la (48 * n + j) ∧ nu' (48 * n + j) = nu (48 * n + j)
theorem bb_cs_rfl {so fi la nu : Nat → Int32} {n : Nat} : bb_cs so fi la nu so fi la nu n := fun _ _ => ⟨rfl, rfl, rfl, rfl⟩
theorem bb_cs_trans {s1 f1 l1 u1 s2 f2 l2 u2 s3 f3 l3 u3 : Nat → Int32} {n : Nat} (h : bb_cs s1 f1 l1 u1 s2 f2 l2 u2 n) (g : bb_cs s2 f2 l2 u2 s3 f3 l3 u3 n) : bb_cs s1 f1 l1 u1 s3 f3 l3 u3 n := by
  intro j hj
  obtain ⟨a, b, c, d⟩ := h j hj
  obtain ⟨a', b', c', d'⟩ := g j hj
  exact ⟨a'.trans a, b'.trans b, c'.trans c, d'.trans d⟩
theorem bb_fo_cs {so fi la nu so' fi' la' nu' : Nat → Int32} {k b b' : Nat} {o : Option Int32} : ∀ m : Nat, (∀ j, j < m → so' (b' + j) = so (b + j) ∧ fi' (b' + j) = fi (b + j) ∧ la' (b' + j) = la (b + j) ∧ nu' (b' + j) = nu (b + j)) → bb_fo so' fi' la' nu' k b' m o = bb_fo so fi la nu k b m o := by
  intro m
  induction m with
  | zero => intro _; rfl
  | succ m ih =>
    intro h
    obtain ⟨e1, e2, e3, e4⟩ := h m (by omega)
    show bb_st so' fi' la' nu' k (b' + m) (bb_fo so' fi' la' nu' k b' m o) = bb_st so fi la nu k (b + m) (bb_fo so fi la nu k b m o)
    rw [ih (fun j hj => h j (by omega))]
    unfold bb_st
    rw [e1, e2, e3, e4]
theorem bb_fn_cs {ms ms' : Nat → Nat} {so fi la nu so' fi' la' nu' : Nat → Int32} {n k : Nat} {o : Option Int32} (h : bb_cs so fi la nu so' fi' la' nu' n) (e : ms' n = ms n) (hm : ms n ≤ 48) : bb_fn ms' so' fi' la' nu' n k o = bb_fn ms so fi la nu n k o := by
  unfold bb_fn
  rw [e]
  exact bb_fo_cs (ms n) (fun j hj => h j (by omega))
/-- a message behind the others -/
theorem bb_app {ms : Nat → Nat} {so fi la nu : Nat → Int32} {y : Nat} {kd a b v : Int32} (k : Nat) (o : Option Int32) : bb_fn (bb_up ms y (ms y + 1)) (upd so (48 * y + ms y) kd) (upd fi (48 * y + ms y) a) (upd la (48 * y + ms y) b) (upd nu (48 * y + ms y) v) y k o = if a ≤ nI k ∧ nI k ≤ b then bb_act kd v (bb_fn ms so fi la nu y k o) else bb_fn ms so fi la nu y k o := by
  unfold bb_fn
  rw [bb_ups]
  show bb_st _ _ _ _ k (48 * y + ms y) (bb_fo _ _ _ _ k (48 * y) (ms y) o) = _
  have e : bb_fo (upd so (48 * y + ms y) kd) (upd fi (48 * y + ms y) a) (upd la (48 * y + ms y) b) (upd nu (48 * y + ms y) v) k (48 * y) (ms y) o = bb_fo so fi la nu k (48 * y) (ms y) o :=
    bb_fo_cs (ms y) (fun j hj => ⟨pk_un (by omega), pk_un (by omega), pk_un (by omega), pk_un (by omega)⟩)
  rw [e]
  unfold bb_st
  rw [pk_us, pk_us, pk_us, pk_us]
theorem bb_app_cs {so fi la nu : Nat → Int32} {y n m : Nat} {kd a b v : Int32} (hm : m < 48) (h : n ≠ y) : bb_cs so fi la nu (upd so (48 * y + m) kd) (upd fi (48 * y + m) a) (upd la (48 * y + m) b) (upd nu (48 * y + m) v) n :=
  fun j hj => ⟨pk_un (by omega), pk_un (by omega), pk_un (by omega), pk_un (by omega)⟩
theorem bb_sv_congr {own own' : Nat → Nat → Nat} {F F' : Nat → Nat → Option Int32 → Option Int32} {f f' : Nat → Option Int32} {k : Nat} : ∀ L : Nat, (∀ l, l < L → ∀ o, F' (own' l k) k o = F (own l k) k o) → f' k = f k → bb_sv own' F' f' k L = bb_sv own F f k L := by
  intro L
  induction L with
  | zero => intro _ h; exact h
  | succ L ih =>
    intro h g
    show F' (own' L k) k (bb_sv own' F' f' k L) = F (own L k) k (bb_sv own F f k L)
    rw [ih (fun l hl => h l (by omega)) g, h L (by omega)]
theorem bb_pz_congr {own own' : Nat → Nat → Nat} {ms ms' : Nat → Nat} {k : Nat} : ∀ L : Nat, (∀ l, l < L → ms' (own' l k) = ms (own l k)) → bb_pz own' ms' k L = bb_pz own ms k L := by
  intro L
  induction L with
  | zero => intro _; rfl
  | succ L ih =>
    intro h
    show bb_pz own' ms' k L + ms' (own' L k) = bb_pz own ms k L + ms (own L k)
    rw [ih (fun l hl => h l (by omega)), h L (by omega)]
theorem bb_pz_one {own : Nat → Nat → Nat} {ms : Nat → Nat} {k : Nat} : ∀ L l : Nat, l < L → ms (own l k) ≤ bb_pz own ms k L := by
  intro L
  induction L with
  | zero => intro l h; omega
  | succ L ih =>
    intro l h
    show _ ≤ bb_pz own ms k L + ms (own L k)
    by_cases e : l = L
    · subst e; omega
    · have := ih l (by omega); omega
theorem bb_pz_two {own : Nat → Nat → Nat} {ms : Nat → Nat} {k : Nat} : ∀ L l : Nat, l + 1 < L → ms (own l k) + ms (own (l + 1) k) ≤ bb_pz own ms k L := by
  intro L
  induction L with
  | zero => intro l h; omega
  | succ L ih =>
    intro l h
    show _ ≤ bb_pz own ms k L + ms (own L k)
    by_cases e : l + 1 = L
    · subst e; have := bb_pz_one (own := own) (ms := ms) (k := k) (l + 1) l (by omega); omega
    · have := ih l (by omega); omega
theorem bb_pz_le {own : Nat → Nat → Nat} {ms : Nat → Nat} {k b : Nat} : ∀ L : Nat, (∀ l, l < L → ms (own l k) ≤ b) → bb_pz own ms k L ≤ b * L := by
  intro L
  induction L with
  | zero => intro _; exact Nat.zero_le _
  | succ L ih =>
    intro h
    show bb_pz own ms k L + ms (own L k) ≤ b * (L + 1)
    have := ih (fun l hl => h l (by omega))
    have := h L (by omega)
    rw [Nat.mul_succ]
    omega
/-- a node's messages go on to what lies below it: the key's value stays -/
theorem bb_sv_flush {own : Nat → Nat → Nat} {F F' : Nat → Nat → Option Int32 → Option Int32} {f f' : Nat → Option Int32} {k x l0 L : Nat} (hl : l0 < L) (hinj : ∀ l, l < L → own l k = x → l = l0)
    (hx : own l0 k = x → ∀ o, F' x k o = o)
    (h0 : own l0 k = x → l0 = 0 → f' k = F x k (f k))
    (h1 : own l0 k = x → ∀ l, l0 = l + 1 → f' k = f k ∧ ∀ o, F' (own l k) k o = F x k (F (own l k) k o))
    (hn : own l0 k ≠ x → f' k = f k)
    (ho : ∀ l, l < L → own l k ≠ x → (own l0 k = x → l + 1 ≠ l0) → ∀ o, F' (own l k) k o = F (own l k) k o) :
    bb_sv own F' f' k L = bb_sv own F f k L := by
  by_cases e : own l0 k = x
  · have B : bb_sv own F' f' k l0 = F x k (bb_sv own F f k l0) := by
      cases l0 with
      | zero => exact h0 e rfl
      | succ l =>
        obtain ⟨a, b⟩ := h1 e l rfl
        have A : bb_sv own F' f' k l = bb_sv own F f k l := by
          apply bb_sv_congr l _ a
          intro j hj o
          exact ho j (by omega) (fun z => by have := hinj j (by omega) z; omega) (fun _ => by omega) o
        show F' (own l k) k (bb_sv own F' f' k l) = F x k (F (own l k) k (bb_sv own F f k l))
        rw [A, b]
    have C : bb_sv own F' f' k (l0 + 1) = bb_sv own F f k (l0 + 1) := by
      show F' (own l0 k) k (bb_sv own F' f' k l0) = F (own l0 k) k (bb_sv own F f k l0)
      rw [B, e, hx e]
    have D : ∀ d, l0 + 1 + d ≤ L → bb_sv own F' f' k (l0 + 1 + d) = bb_sv own F f k (l0 + 1 + d) := by
      intro d
      induction d with
      | zero => intro _; exact C
      | succ d ih =>
        intro hd
        show F' (own (l0 + 1 + d) k) k (bb_sv own F' f' k (l0 + 1 + d)) = F (own (l0 + 1 + d) k) k (bb_sv own F f k (l0 + 1 + d))
        rw [ih (by omega)]
        exact ho (l0 + 1 + d) (by omega) (fun z => by have := hinj (l0 + 1 + d) (by omega) z; omega) (fun _ => by omega) _
    have := D (L - (l0 + 1)) (by omega)
    rw [show l0 + 1 + (L - (l0 + 1)) = L from by omega] at this
    exact this
  · exact bb_sv_congr L (fun l hl' o => ho l hl' (fun z => e (by rw [← hinj l hl' z]; exact z)) (fun z => absurd z e) o) (hn e)
theorem bb_pz_flush {own : Nat → Nat → Nat} {ms ms' : Nat → Nat} {k x l0 L : Nat} (hl : l0 < L) (hinj : ∀ l, l < L → own l k = x → l = l0)
    (hx : ms' x = 0)
    (h1 : own l0 k = x → ∀ l, l0 = l + 1 → ms' (own l k) ≤ ms (own l k) + ms x)
    (ho : ∀ l, l < L → own l k ≠ x → (own l0 k = x → l + 1 ≠ l0) → ms' (own l k) = ms (own l k)) :
    bb_pz own ms' k L ≤ bb_pz own ms k L := by
  by_cases e : own l0 k = x
  · have B : bb_pz own ms' k l0 ≤ bb_pz own ms k l0 + ms x := by
      cases l0 with
      | zero => exact Nat.zero_le _
      | succ l =>
        have b := h1 e l rfl
        have A : bb_pz own ms' k l = bb_pz own ms k l := by
          apply bb_pz_congr l
          intro j hj
          exact ho j (by omega) (fun z => by have := hinj j (by omega) z; omega) (fun _ => by omega)
        show bb_pz own ms' k l + ms' (own l k) ≤ bb_pz own ms k l + ms (own l k) + ms x
        omega
    have C : bb_pz own ms' k (l0 + 1) ≤ bb_pz own ms k (l0 + 1) := by
      show bb_pz own ms' k l0 + ms' (own l0 k) ≤ bb_pz own ms k l0 + ms (own l0 k)
      rw [e, hx]
      omega
    have D : ∀ d, l0 + 1 + d ≤ L → bb_pz own ms' k (l0 + 1 + d) ≤ bb_pz own ms k (l0 + 1 + d) := by
      intro d
      induction d with
      | zero => intro _; exact C
      | succ d ih =>
        intro hd
        show bb_pz own ms' k (l0 + 1 + d) + ms' (own (l0 + 1 + d) k) ≤ bb_pz own ms k (l0 + 1 + d) + ms (own (l0 + 1 + d) k)
        have := ih (by omega)
        have := ho (l0 + 1 + d) (by omega) (fun z => by have := hinj (l0 + 1 + d) (by omega) z; omega) (fun _ => by omega)
        omega
    have := D (L - (l0 + 1)) (by omega)
    rw [show l0 + 1 + (L - (l0 + 1)) = L from by omega] at this
    exact this
  · rw [bb_pz_congr L (fun l hl' => ho l hl' (fun z => e (by rw [← hinj l hl' z]; exact z)) (fun z => absurd z e))]
    exact Nat.le_refl _
/-- one to one into a smaller range isn't possible -/
theorem bb_pigeon : ∀ (a b : Nat) (f : Nat → Nat), (∀ i, i < a → f i < b) → (∀ i j, i < a → j < a → f i = f j → i = j) → a ≤ b := by
  intro a
  induction a with
  | zero => intro b f _ _; exact Nat.zero_le _
  | succ a ih =>
    intro b f h g
    have hb := h a (by omega)
    have := ih (b - 1) (fun i => if f a < f i then f i - 1 else f i) (fun i hi => by
      have h1 := h i (by omega)
      have h2 : f i ≠ f a := fun z => by have := g i a (by omega) (by omega) z; omega
      split <;> omega) (fun i j hi hj e => by
      have h2 : f i ≠ f a := fun z => by have := g i a (by omega) (by omega) z; omega
      have h3 : f j ≠ f a := fun z => by have := g j a (by omega) (by omega) z; omega
      apply g i j (by omega) (by omega)
      split at e <;> split at e <;> omega)
    omega
end
section
/-! the tree: nodes by their levels, the keys they stand for, their children -/
def bb_ce (hi c cl : Nat → Nat) (n i : Nat) : Nat := if i + 1 < c n then cl (5 * n + i + 1) else hi n
def bb_T (ok : Nat → Prop) (R top : Nat) (lv : Nat → Nat) (par : Nat → Int32) (lo hi c cl cn : Nat → Nat) (own : Nat → Nat → Nat) : Prop :=
  (ok R ∧ lv R = top ∧ lo R = 0 ∧ hi R = 64 ∧ par R = -1) ∧
  (∀ n, ok n → lv n ≤ top ∧ hi n ≤ 64 ∧ 1 ≤ c n ∧ c n ≤ 5 ∧ cl (5 * n) = lo n) ∧
  (∀ n, ok n → ∀ k, lo n ≤ k → k < hi n → own (lv n) k = n) ∧
  (∀ l, l ≤ top → ∀ k, k < 64 → ok (own l k) ∧ lv (own l k) = l ∧ lo (own l k) ≤ k ∧ k < hi (own l k)) ∧
  (∀ l, l < top → ∀ k, k < 64 → par (own l k) = nI (own (l + 1) k)) ∧
  (∀ n, ok n → ∀ i, i < c n → cl (5 * n + i) < bb_ce hi c cl n i) ∧
  (∀ n, ok n → 0 < lv n → ∀ i, i < c n → ok (cn (5 * n + i)) ∧ lv (cn (5 * n + i)) + 1 = lv n ∧ lo (cn (5 * n + i)) = cl (5 * n + i) ∧ hi (cn (5 * n + i)) = bb_ce hi c cl n i) ∧
  (∀ n, ok n → lv n = 0 → ∀ i, i < c n → cl (5 * n + i) + 4 ≤ bb_ce hi c cl n i)
def bb_two (ok : Nat → Prop) (R top : Nat) (c : Nat → Nat) : Prop := (∀ n, ok n → n ≠ R → 2 ≤ c n) ∧ (0 < top → 2 ≤ c R)
section
variable {ok : Nat → Prop} {R top : Nat} {lv : Nat → Nat} {par : Nat → Int32} {lo hi c cl cn : Nat → Nat} {own : Nat → Nat → Nat}
theorem bb_ce_t {n i : Nat} (h : i + 1 < c n) : bb_ce hi c cl n i = cl (5 * n + i + 1) := if_pos h
theorem bb_ce_f {n i : Nat} (h : ¬ i + 1 < c n) : bb_ce hi c cl n i = hi n := if_neg h
theorem bb_mono1 {n : Nat} (h : ∀ i, i < c n → cl (5 * n + i) < bb_ce hi c cl n i) : ∀ d i, i + d < c n → cl (5 * n + i) ≤ cl (5 * n + (i + d)) := by
  intro d
  induction d with
  | zero => intro i _; exact Nat.le_refl _
  | succ d ih =>
    intro i hi'
    have h1 := ih i (by omega)
    have h2 := h (i + d) (by omega)
    rw [bb_ce_t (by omega)] at h2
    have e2 : 5 * n + (i + (d + 1)) = 5 * n + (i + d) + 1 := by omega
    rw [e2]
    omega
theorem bb_cej {n : Nat} (h : ∀ i, i < c n → cl (5 * n + i) < bb_ce hi c cl n i) {i j : Nat} (hij : i < j) (hj : j < c n) : bb_ce hi c cl n i ≤ cl (5 * n + j) := by
  rw [bb_ce_t (by omega)]
  have := bb_mono1 h (j - (i + 1)) (i + 1) (by omega)
  rw [show i + 1 + (j - (i + 1)) = j from by omega] at this
  exact this
theorem bb_ceh {n : Nat} (h : ∀ i, i < c n → cl (5 * n + i) < bb_ce hi c cl n i) {i : Nat} (hi' : i < c n) : bb_ce hi c cl n i ≤ hi n := by
  by_cases g : i + 1 < c n
  · have h1 := bb_cej h (i := i) (j := c n - 1) (by omega) (by omega)
    have h2 := h (c n - 1) (by omega)
    rw [bb_ce_f (by omega)] at h2
    omega
  · rw [bb_ce_f g]; exact Nat.le_refl _
theorem bb_cl0 {n : Nat} (h : ∀ i, i < c n → cl (5 * n + i) < bb_ce hi c cl n i) {i : Nat} (hi' : i < c n) : cl (5 * n) ≤ cl (5 * n + i) := by
  have := bb_mono1 h i 0 (by omega)
  rw [show 0 + i = i from by omega] at this
  exact this
theorem bb_find {n k : Nat} (h1 : 1 ≤ c n) (h0 : cl (5 * n) ≤ k) (hk : k < hi n) : ∃ i, i < c n ∧ cl (5 * n + i) ≤ k ∧ k < bb_ce hi c cl n i := by
  have A : ∀ d i, i + d + 1 = c n → cl (5 * n + i) ≤ k → ∃ j, j < c n ∧ cl (5 * n + j) ≤ k ∧ k < bb_ce hi c cl n j := by
    intro d
    induction d with
    | zero => intro i hi' hc; exact ⟨i, by omega, hc, by rw [bb_ce_f (by omega)]; exact hk⟩
    | succ d ih =>
      intro i hi' hc
      by_cases g : cl (5 * n + (i + 1)) ≤ k
      · exact ih (i + 1) (by omega) g
      · refine ⟨i, by omega, hc, ?_⟩
        rw [bb_ce_t (by omega)]
        exact Nat.lt_of_not_le g
  exact A (c n - 1) 0 (by omega) h0
theorem bb_T_lo (h : bb_T ok R top lv par lo hi c cl cn own) {n : Nat} (hn : ok n) : lo n < hi n := by
  obtain ⟨_, _, h1, _, e⟩ := h.2.1 n hn
  have hc := h.2.2.2.2.2.1 n hn
  have a : cl (5 * n) < bb_ce hi c cl n 0 := hc 0 (by omega)
  have b := bb_ceh hc (i := 0) (by omega)
  omega
theorem bb_T_in (h : bb_T ok R top lv par lo hi c cl cn own) {n i : Nat} (hn : ok n) (hi' : i < c n) : lo n ≤ cl (5 * n + i) ∧ cl (5 * n + i) < bb_ce hi c cl n i ∧ bb_ce hi c cl n i ≤ hi n := by
  obtain ⟨_, _, h1, _, e⟩ := h.2.1 n hn
  have hc := h.2.2.2.2.2.1 n hn
  have a := bb_cl0 hc hi'
  have b := bb_ceh hc hi'
  exact ⟨by omega, hc i hi', b⟩
theorem bb_T_find (h : bb_T ok R top lv par lo hi c cl cn own) {n k : Nat} (hn : ok n) (h1 : lo n ≤ k) (h2 : k < hi n) : ∃ i, i < c n ∧ cl (5 * n + i) ≤ k ∧ k < bb_ce hi c cl n i := by
  obtain ⟨_, _, g1, _, e⟩ := h.2.1 n hn
  exact bb_find g1 (by omega) h2
/-- the child that a key lies in is the key's node one level below -/
theorem bb_T_cown (h : bb_T ok R top lv par lo hi c cl cn own) {n i k l : Nat} (hn : ok n) (hl : lv n = l + 1) (hi' : i < c n) (h1 : cl (5 * n + i) ≤ k) (h2 : k < bb_ce hi c cl n i) : own l k = cn (5 * n + i) := by
  obtain ⟨a, b, d, e⟩ := h.2.2.2.2.2.2.1 n hn (by omega) i hi'
  have := h.2.2.1 _ a k (by omega) (by omega)
  rw [show lv (cn (5 * n + i)) = l from by omega] at this
  exact this
theorem bb_T_nown (h : bb_T ok R top lv par lo hi c cl cn own) {n i k : Nat} (hn : ok n) (hi' : i < c n) (h1 : cl (5 * n + i) ≤ k) (h2 : k < bb_ce hi c cl n i) : own (lv n) k = n := by
  obtain ⟨a, b, d⟩ := bb_T_in h hn hi'
  exact h.2.2.1 n hn k (by omega) (by omega)
/-- a node has one parent -/
theorem bb_T_up (h : bb_T ok R top lv par lo hi c cl cn own) {n m i j : Nat} (hn : ok n) (hm : ok m) (ln : 0 < lv n) (lm : 0 < lv m) (hi' : i < c n) (hj : j < c m) (e : cn (5 * n + i) = cn (5 * m + j)) : n = m := by
  obtain ⟨a1, a2, a3, a4⟩ := h.2.2.2.2.2.2.1 n hn ln i hi'
  obtain ⟨b1, b2, b3, b4⟩ := h.2.2.2.2.2.2.1 m hm lm j hj
  have ci := (bb_T_in h hn hi').2.1
  have n1 := bb_T_nown h hn hi' (Nat.le_refl _) ci
  have m1 := bb_T_nown h hm hj (k := cl (5 * n + i)) (by rw [← b3, ← e, a3]; exact Nat.le_refl _) (by rw [← b4, ← e, a4]; exact ci)
  rw [← a2, e, b2] at n1
  exact n1.symm.trans m1
theorem bb_T_cinj (h : bb_T ok R top lv par lo hi c cl cn own) {n i j : Nat} (hn : ok n) (ln : 0 < lv n) (hi' : i < c n) (hj : j < c n) (e : cn (5 * n + i) = cn (5 * n + j)) : i = j := by
  obtain ⟨a1, a2, a3, a4⟩ := h.2.2.2.2.2.2.1 n hn ln i hi'
  obtain ⟨b1, b2, b3, b4⟩ := h.2.2.2.2.2.2.1 n hn ln j hj
  have hc := h.2.2.2.2.2.1 n hn
  have e2 : cl (5 * n + i) = cl (5 * n + j) := by rw [← a3, ← b3, e]
  rcases Nat.lt_trichotomy i j with g | g | g
  · have := bb_cej hc g hj; have := hc i hi'; omega
  · exact g
  · have := bb_cej hc g hi'; have := hc j hj; omega
theorem bb_T_cneR (h : bb_T ok R top lv par lo hi c cl cn own) {n i : Nat} (hn : ok n) (ln : 0 < lv n) (hi' : i < c n) : cn (5 * n + i) ≠ R := by
  obtain ⟨a1, a2, a3, a4⟩ := h.2.2.2.2.2.2.1 n hn ln i hi'
  have b := (h.2.1 n hn).1
  have d := h.1.2.1
  intro z
  rw [z] at a2
  omega
theorem bb_T_Rown (h : bb_T ok R top lv par lo hi c cl cn own) {k : Nat} (hk : k < 64) : own top k = R := by
  obtain ⟨a, b, d, e, _⟩ := h.1
  have := h.2.2.1 R a k (by omega) (by omega)
  rw [b] at this
  exact this
theorem bb_T_ov (h : bb_T ok R top lv par lo hi c cl cn own) {i j : Nat} (hi' : ok i) (hj : ok j) (e : lv i = lv j) (h1 : lo i ≤ lo j) (h2 : lo j < hi i) : i = j := by
  have a := h.2.2.1 i hi' (lo j) h1 h2
  have b := h.2.2.1 j hj (lo j) (Nat.le_refl _) (bb_T_lo h hj)
  rw [e] at a
  exact a.symm.trans b
theorem bb_width (h : bb_T ok R top lv par lo hi c cl cn own) (h2 : bb_two ok R top c) : ∀ l n, ok n → lv n = l → (n ≠ R ∨ 0 < top) → lo n + 8 * 2 ^ l ≤ hi n := by
  intro l
  induction l with
  | zero =>
    intro n hn hl hr
    have hc : 2 ≤ c n := by
      by_cases g : n = R
      · rw [g]; exact h2.2 (by omega)
      · exact h2.1 n hn g
    have z := (h.2.1 n hn).2.2.2.2
    have a0 : cl (5 * n) + 4 ≤ bb_ce hi c cl n 0 := h.2.2.2.2.2.2.2 n hn hl 0 (by omega)
    have a1 := h.2.2.2.2.2.2.2 n hn hl 1 (by omega)
    have e0 := bb_cej (h.2.2.2.2.2.1 n hn) (i := 0) (j := 1) (by omega) (by omega)
    have u := bb_ceh (h.2.2.2.2.2.1 n hn) (i := 1) (by omega)
    show lo n + 8 ≤ hi n
    omega
  | succ l ih =>
    intro n hn hl hr
    have hc : 2 ≤ c n := by
      by_cases g : n = R
      · rw [g]; exact h2.2 (by omega)
      · exact h2.1 n hn g
    have z := (h.2.1 n hn).2.2.2.2
    obtain ⟨a1, a2, a3, a4⟩ := h.2.2.2.2.2.2.1 n hn (by omega) 0 (by omega)
    obtain ⟨b1, b2, b3, b4⟩ := h.2.2.2.2.2.2.1 n hn (by omega) 1 (by omega)
    have w0 := ih _ a1 (by omega) (Or.inl (bb_T_cneR h hn (by omega) (by omega)))
    have w1 := ih _ b1 (by omega) (Or.inl (bb_T_cneR h hn (by omega) (by omega)))
    have e0 := bb_cej (h.2.2.2.2.2.1 n hn) (i := 0) (j := 1) (by omega) (by omega)
    have u := bb_ceh (h.2.2.2.2.2.1 n hn) (i := 1) (by omega)
    have z' : lo (cn (5 * n + 0)) = lo n := by rw [a3]; exact z
    rw [Nat.pow_succ]
    generalize 2 ^ l = p at w0 w1
    omega
theorem bb_top3 (h : bb_T ok R top lv par lo hi c cl cn own) (h2 : bb_two ok R top c) : top ≤ 3 := by
  by_cases g : 0 < top
  · have w := bb_width h h2 top R h.1.1 h.1.2.1 (Or.inr g)
    have e := h.1.2.2.2.1
    by_cases g2 : top ≤ 3
    · exact g2
    · have := Nat.pow_le_pow_right (n := 2) (by omega) (show 4 ≤ top from by omega)
      generalize 2 ^ top = p at this w
      omega
  · omega
end
section
variable {N R top : Nat} {lv : Nat → Nat} {par : Nat → Int32} {lo hi c cl cn : Nat → Nat} {own : Nat → Nat → Nat}
def bb_cd (l a : Nat) : Nat := if l = 0 then 7 + a / 8 else if l = 1 then 3 + a / 16 else if l = 2 then 1 + a / 32 else a / 64
theorem bb_cd0 (a : Nat) : bb_cd 0 a = 7 + a / 8 := rfl
theorem bb_cd1 (a : Nat) : bb_cd 1 a = 3 + a / 16 := rfl
theorem bb_cd2 (a : Nat) : bb_cd 2 a = 1 + a / 32 := rfl
theorem bb_cd3 (a : Nat) : bb_cd 3 a = a / 64 := rfl
/-- what code, level and lowest key say of each other -/
theorem bb_cdf {l a b : Nat} (h3 : l ≤ 3) (h64 : b ≤ 64) (w : a + 8 * 2 ^ l ≤ b) :
    (l = 0 ∧ a + 8 ≤ b ∧ bb_cd l a = 7 + a / 8 ∧ 7 ≤ bb_cd l a ∧ bb_cd l a < 15) ∨ (l = 1 ∧ a + 16 ≤ b ∧ bb_cd l a = 3 + a / 16 ∧ 3 ≤ bb_cd l a ∧ bb_cd l a < 7) ∨
    (l = 2 ∧ a + 32 ≤ b ∧ bb_cd l a = 1 + a / 32 ∧ 1 ≤ bb_cd l a ∧ bb_cd l a < 3) ∨ (l = 3 ∧ a + 64 ≤ b ∧ bb_cd l a = a / 64 ∧ bb_cd l a < 1) := by
  rcases (show l = 0 ∨ l = 1 ∨ l = 2 ∨ l = 3 from by omega) with e | e | e | e
  · subst e; have w' : a + 8 ≤ b := w; rw [bb_cd0]; omega
  · subst e; have w' : a + 16 ≤ b := w; rw [bb_cd1]; omega
  · subst e; have w' : a + 32 ≤ b := w; rw [bb_cd2]; omega
  · subst e; have w' : a + 64 ≤ b := w; rw [bb_cd3]; omega
theorem bb_N15 (h : bb_T (fun n => n < N) R top lv par lo hi c cl cn own) (h2 : bb_two (fun n => n < N) R top c) : N ≤ 15 := by
  have t3 := bb_top3 h h2
  by_cases g : 0 < top
  · refine bb_pigeon N 15 (fun n => bb_cd (lv n) (lo n)) ?_ ?_
    · intro n hn
      have w := bb_width h h2 (lv n) n hn rfl (Or.inr g)
      have l3 := (h.2.1 n hn).1
      have h64 := (h.2.1 n hn).2.1
      have := bb_cdf (by omega) h64 w
      show bb_cd (lv n) (lo n) < 15
      omega
    · intro i j hi' hj e
      have e : bb_cd (lv i) (lo i) = bb_cd (lv j) (lo j) := e
      have w := bb_width h h2 (lv i) i hi' rfl (Or.inr g)
      have w' := bb_width h h2 (lv j) j hj rfl (Or.inr g)
      have l3 := (h.2.1 i hi').1
      have h64 := (h.2.1 i hi').2.1
      have l3' := (h.2.1 j hj).1
      have h64' := (h.2.1 j hj).2.1
      have f := bb_cdf (show lv i ≤ 3 by omega) h64 w
      have f' := bb_cdf (show lv j ≤ 3 by omega) h64' w'
      have q := bb_T_ov h hi' hj
      have q' := bb_T_ov h hj hi'
      clear w w'
      by_cases gl : lo i ≤ lo j
      · exact q (by omega) gl (by omega)
      · exact (q' (by omega) (by omega) (by omega)).symm
  · have hR := h.1.1
    have hl := h.1.2
    have A : ∀ n, n < N → n = R := by
      intro n hn
      have a := (h.2.1 n hn)
      have b := bb_T_lo h hn
      exact (bb_T_ov h hR hn (by omega) (by omega) (by omega)).symm
    by_cases g2 : N ≤ 1
    · omega
    · have a := A 0 (by omega)
      have b := A 1 (by omega)
      omega
end
end
section
/-! the tree is kept: a leaf parted, a root grown, a node parted -/
def bb_ins (a p m : Nat) (c cl c' cl' : Nat → Nat) : Prop :=
  c' a = c a + 1 ∧ (∀ j, j < p → cl' (5 * a + j) = cl (5 * a + j)) ∧ cl' (5 * a + p) = m ∧ (∀ j, p < j → j ≤ c a → cl' (5 * a + j) = cl (5 * a + (j - 1)))
theorem bb_ins_ce {a p m : Nat} {hi hi' c cl c' cl' : Nat → Nat} (h : bb_ins a p m c cl c' cl') (e : hi' a = hi a) (p1 : 1 ≤ p) (pc : p ≤ c a) :
    (∀ j, j + 1 < p → bb_ce hi' c' cl' a j = bb_ce hi c cl a j) ∧ bb_ce hi' c' cl' a (p - 1) = m ∧ (∀ j, p ≤ j → j ≤ c a → bb_ce hi' c' cl' a j = bb_ce hi c cl a (j - 1)) := by
  obtain ⟨h1, h2, h3, h4⟩ := h
  refine ⟨?_, ?_, ?_⟩
  · intro j hj
    rw [bb_ce_t (by omega), bb_ce_t (by omega)]
    exact h2 (j + 1) hj
  · rw [bb_ce_t (by omega), show 5 * a + (p - 1) + 1 = 5 * a + p from by omega]
    exact h3
  · intro j hj hc
    by_cases g : j < c a
    · rw [bb_ce_t (by omega), bb_ce_t (by omega), show 5 * a + (j - 1) + 1 = 5 * a + (j + 1 - 1) from by omega]
      exact h4 (j + 1) (by omega) (by omega)
    · rw [bb_ce_f (by omega), bb_ce_f (by omega), e]
theorem bb_ce_same {n : Nat} {hi hi' c cl c' cl' : Nat → Nat} (e : c' n = c n) (eh : hi' n = hi n) (g : ∀ j, j < c n → cl' (5 * n + j) = cl (5 * n + j)) (j : Nat) : bb_ce hi' c' cl' n j = bb_ce hi c cl n j := by
  by_cases q : j + 1 < c n
  · rw [bb_ce_t (by omega), bb_ce_t q]
    exact g (j + 1) q
  · rw [bb_ce_f (by omega), bb_ce_f q, eh]
section
variable {ok : Nat → Prop} {R top : Nat} {lv : Nat → Nat} {par : Nat → Int32} {lo hi c cl cn : Nat → Nat} {own : Nat → Nat → Nat}
theorem bb_T_leaf (h : bb_T ok R top lv par lo hi c cl cn own) {x i m : Nat} {c' cl' cn' : Nat → Nat} (hx : ok x) (lx : lv x = 0) (hi' : i < c x) (c4 : c x ≤ 4) (m1 : cl (5 * x + i) + 4 ≤ m) (m2 : m + 4 ≤ bb_ce hi c cl x i)
    (hin : bb_ins x (i + 1) m c cl c' cl') (hc : ∀ n, n ≠ x → c' n = c n) (hcl : ∀ n, n ≠ x → ∀ j, j < 5 → cl' (5 * n + j) = cl (5 * n + j)) (hcn : ∀ n, n ≠ x → ∀ j, j < 5 → cn' (5 * n + j) = cn (5 * n + j)) :
    bb_T ok R top lv par lo hi c' cl' cn' own := by
  obtain ⟨t1, t2, t3, t4, t5, t6, t7, t8⟩ := h
  obtain ⟨q1, q2, q3⟩ := bb_ins_ce (hi := hi) (hi' := hi) hin rfl (by omega) (by omega)
  obtain ⟨i1, i2, i3, i4⟩ := hin
  have q2' : bb_ce hi c' cl' x i = m := q2
  have sm : ∀ n, ok n → n ≠ x → ∀ j, bb_ce hi c' cl' n j = bb_ce hi c cl n j := fun n hn ne j =>
    bb_ce_same (hc n ne) rfl (fun j hj => hcl n ne j (by have := (t2 n hn).2.2.2.1; omega)) j
  refine ⟨t1, ?_, t3, t4, t5, ?_, ?_, ?_⟩
  · intro n hn
    obtain ⟨a1, a2, a3, a4, a5⟩ := t2 n hn
    by_cases g : n = x
    · subst g
      exact ⟨a1, a2, by omega, by omega, (i2 0 (by omega)).trans a5⟩
    · rw [hc n g]
      exact ⟨a1, a2, a3, a4, (hcl n g 0 (by omega)).trans a5⟩
  · intro n hn j hj
    by_cases g : n = x
    · subst g
      rcases Nat.lt_trichotomy j i with z | z | z
      · rw [i2 j (by omega), q1 j (by omega)]; exact t6 n hn j (by omega)
      · subst z; rw [i2 j (by omega), q2']; omega
      · rw [q3 j (by omega) (by omega)]
        by_cases z2 : j = i + 1
        · subst z2; rw [i3, show i + 1 - 1 = i from by omega]; omega
        · rw [i4 j (by omega) (by omega)]; exact t6 n hn (j - 1) (by omega)
    · rw [hc n g] at hj
      rw [sm n hn g, hcl n g j (by have := (t2 n hn).2.2.2.1; omega)]
      exact t6 n hn j hj
  · intro n hn l0 j hj
    have g : n ≠ x := fun z => by rw [z] at l0; omega
    rw [hc n g] at hj
    have j5 : j < 5 := by have := (t2 n hn).2.2.2.1; omega
    rw [sm n hn g, hcl n g j j5, hcn n g j j5]
    exact t7 n hn l0 j hj
  · intro n hn l0 j hj
    by_cases g : n = x
    · subst g
      rcases Nat.lt_trichotomy j i with z | z | z
      · rw [i2 j (by omega), q1 j (by omega)]; exact t8 n hn l0 j (by omega)
      · subst z; rw [i2 j (by omega), q2']; omega
      · rw [q3 j (by omega) (by omega)]
        by_cases z2 : j = i + 1
        · subst z2; rw [i3, show i + 1 - 1 = i from by omega]; omega
        · rw [i4 j (by omega) (by omega)]; exact t8 n hn l0 (j - 1) (by omega)
    · rw [hc n g] at hj
      rw [sm n hn g, hcl n g j (by have := (t2 n hn).2.2.2.1; omega)]
      exact t8 n hn l0 j hj
theorem bb_T_grow (h : bb_T ok R top lv par lo hi c cl cn own) {t : Nat} (ht : ¬ ok t) :
    bb_T (fun n => ok n ∨ n = t) t (top + 1) (bb_up lv t (top + 1)) (upd (upd par t (-1)) R (nI t)) (bb_up lo t 0) (bb_up hi t 64) (bb_up c t 1) (bb_up cl (5 * t) 0) (bb_up cn (5 * t) R) (fun l k => if l = top + 1 then t else own l k) := by
  obtain ⟨⟨r1, r2, r3, r4, r5⟩, t2, t3, t4, t5, t6, t7, t8⟩ := h
  have ne : ∀ n, ok n → n ≠ t := fun n hn z => ht (z ▸ hn)
  have tR : t ≠ R := fun z => ne R r1 z.symm
  have sm : ∀ n, ok n → ∀ j, bb_ce (bb_up hi t 64) (bb_up c t 1) (bb_up cl (5 * t) 0) n j = bb_ce hi c cl n j := fun n hn j =>
    bb_ce_same (bb_upn (ne n hn)) (bb_upn (ne n hn)) (fun j hj => bb_upn (by have := (t2 n hn).2.2.2.1; have := ne n hn; omega)) j
  have smt : bb_ce (bb_up hi t 64) (bb_up c t 1) (bb_up cl (5 * t) 0) t 0 = 64 := by
    rw [bb_ce_f (by rw [bb_ups]; omega), bb_ups]
  refine ⟨⟨Or.inr rfl, bb_ups _ _ _, bb_ups _ _ _, bb_ups _ _ _, (pk_un tR).trans pk_us⟩, ?_, ?_, ?_, ?_, ?_, ?_, ?_⟩
  · intro n hn
    rcases hn with hn | hn
    · obtain ⟨a1, a2, a3, a4, a5⟩ := t2 n hn
      have z := ne n hn
      rw [bb_upn z, bb_upn z, bb_upn z, bb_upn z, bb_upn (show 5 * n ≠ 5 * t by omega)]
      exact ⟨by omega, a2, a3, a4, a5⟩
    · subst hn
      rw [bb_ups, bb_ups, bb_ups, bb_ups, bb_ups]
      omega
  · intro n hn k h1 h2
    rcases hn with hn | hn
    · have z := ne n hn
      rw [bb_upn z] at h1 h2
      rw [bb_upn z]
      have := (t2 n hn).1
      show (if lv n = top + 1 then t else own (lv n) k) = n
      rw [if_neg (by omega)]
      exact t3 n hn k h1 h2
    · subst hn
      rw [bb_ups]
      exact if_pos rfl
  · intro l hl k hk
    show (ok (if l = top + 1 then t else own l k) ∨ (if l = top + 1 then t else own l k) = t) ∧ bb_up lv t (top + 1) (if l = top + 1 then t else own l k) = l ∧ bb_up lo t 0 (if l = top + 1 then t else own l k) ≤ k ∧ k < bb_up hi t 64 (if l = top + 1 then t else own l k)
    by_cases g : l = top + 1
    · rw [if_pos g, bb_ups, bb_ups, bb_ups]
      exact ⟨Or.inr rfl, g.symm, by omega, hk⟩
    · rw [if_neg g]
      obtain ⟨a1, a2, a3, a4⟩ := t4 l (by omega) k hk
      have z := ne _ a1
      rw [bb_upn z, bb_upn z, bb_upn z]
      exact ⟨Or.inl a1, a2, a3, a4⟩
  · intro l hl k hk
    show upd (upd par t (-1)) R (nI t) (if l = top + 1 then t else own l k) = nI (if l + 1 = top + 1 then t else own (l + 1) k)
    rw [if_neg (by omega)]
    obtain ⟨a1, a2, a3, a4⟩ := t4 l (by omega) k hk
    have z := ne _ a1
    by_cases g : l = top
    · rw [if_pos (by omega)]
      have e : own l k = R := by
        have := t3 R r1 k (by omega) (by omega)
        rw [g, ← r2]
        exact this
      rw [e, pk_us]
    · rw [if_neg (by omega)]
      have zr : own l k ≠ R := fun q => by rw [q] at a2; omega
      rw [pk_un zr, pk_un z]
      exact t5 l (by omega) k hk
  · intro n hn i hi'
    rcases hn with hn | hn
    · have z := ne n hn
      rw [bb_upn z] at hi'
      rw [sm n hn, bb_upn (by have := (t2 n hn).2.2.2.1; omega)]
      exact t6 n hn i hi'
    · subst hn
      rw [bb_ups] at hi'
      have i0 : i = 0 := by omega
      subst i0
      rw [smt, show bb_up cl (5 * n) 0 (5 * n + 0) = 0 from bb_ups _ _ _]
      omega
  · intro n hn l0 i hi'
    rcases hn with hn | hn
    · have z := ne n hn
      rw [bb_upn z] at hi' l0
      have w : 5 * n + i ≠ 5 * t := by have := (t2 n hn).2.2.2.1; omega
      obtain ⟨a1, a2, a3, a4⟩ := t7 n hn l0 i hi'
      have z2 := ne _ a1
      rw [sm n hn, bb_upn w, bb_upn w, bb_upn z, bb_upn z2, bb_upn z2, bb_upn z2]
      exact ⟨Or.inl a1, a2, a3, a4⟩
    · subst hn
      rw [bb_ups] at hi'
      have i0 : i = 0 := by omega
      subst i0
      rw [smt, show bb_up cl (5 * n) 0 (5 * n + 0) = 0 from bb_ups _ _ _, show bb_up cn (5 * n) R (5 * n + 0) = R from bb_ups _ _ _, bb_ups, bb_upn tR.symm, bb_upn tR.symm, bb_upn tR.symm]
      exact ⟨Or.inl r1, by omega, r3, r4⟩
  · intro n hn l0 i hi'
    rcases hn with hn | hn
    · have z := ne n hn
      rw [bb_upn z] at hi' l0
      have w : 5 * n + i ≠ 5 * t := by have := (t2 n hn).2.2.2.1; omega
      rw [sm n hn, bb_upn w]
      exact t8 n hn l0 i hi'
    · subst hn
      rw [bb_ups] at l0
      omega
end
end
section
section
variable {ok : Nat → Prop} {R top : Nat} {lv : Nat → Nat} {par : Nat → Int32} {lo hi c cl cn : Nat → Nat} {own : Nat → Nat → Nat}
/-- what parting node x (five children, child p of a) into x and f makes of the arrays -/
def bb_spl (x f a p : Nat) (lv : Nat → Nat) (par : Nat → Int32) (lo hi c cl cn : Nat → Nat) (lv' : Nat → Nat) (par' : Nat → Int32) (lo' hi' c' cl' cn' : Nat → Nat) : Prop :=
  (lv' f = lv x ∧ ∀ n, n ≠ f → lv' n = lv n) ∧
  (lo' f = cl (5 * x + 3) ∧ ∀ n, n ≠ f → lo' n = lo n) ∧
  (hi' f = hi x ∧ hi' x = cl (5 * x + 3) ∧ ∀ n, n ≠ f → n ≠ x → hi' n = hi n) ∧
  (c' f = 2 ∧ c' x = 3 ∧ ∀ n, n ≠ f → n ≠ x → n ≠ a → c' n = c n) ∧
  (cl' (5 * f) = cl (5 * x + 3) ∧ cl' (5 * f + 1) = cl (5 * x + 4) ∧ (∀ n, n ≠ f → n ≠ a → ∀ j, j < 5 → cl' (5 * n + j) = cl (5 * n + j)) ∧ bb_ins a (p + 1) (cl (5 * x + 3)) c cl c' cl') ∧
  (cn' (5 * f) = cn (5 * x + 3) ∧ cn' (5 * f + 1) = cn (5 * x + 4) ∧ (∀ n, n ≠ f → n ≠ a → ∀ j, j < 5 → cn' (5 * n + j) = cn (5 * n + j)) ∧
    (∀ j, j < p + 1 → cn' (5 * a + j) = cn (5 * a + j)) ∧ cn' (5 * a + (p + 1)) = f ∧ (∀ j, p + 1 < j → j ≤ c a → cn' (5 * a + j) = cn (5 * a + (j - 1)))) ∧
  (par' f = nI a ∧ (0 < lv x → par' (cn (5 * x + 3)) = nI f ∧ par' (cn (5 * x + 4)) = nI f ∧ ∀ n, n ≠ f → n ≠ cn (5 * x + 3) → n ≠ cn (5 * x + 4) → par' n = par n) ∧ (lv x = 0 → ∀ n, n ≠ f → par' n = par n))
theorem bb_T_split (h : bb_T ok R top lv par lo hi c cl cn own) {x f a p : Nat} {lv' : Nat → Nat} {par' : Nat → Int32} {lo' hi' c' cl' cn' : Nat → Nat} (hx : ok x) (hf : ¬ ok f) (ha : ok a) (la : lv a = lv x + 1) (hp : p < c a) (hpx : cn (5 * a + p) = x) (c5 : c x = 5) (c4 : c a ≤ 4)
    (hs : bb_spl x f a p lv par lo hi c cl cn lv' par' lo' hi' c' cl' cn') :
    bb_T (fun n => ok n ∨ n = f) R top lv' par' lo' hi' c' cl' cn' (fun l k => if l = lv x ∧ cl (5 * x + 3) ≤ k ∧ k < hi x then f else own l k) := by
  have hT := h
  obtain ⟨⟨r1, r2, r3, r4, r5⟩, t2, t3, t4, t5, t6, t7, t8⟩ := h
  obtain ⟨⟨lv1, lv2⟩, ⟨lo1, lo2⟩, ⟨hi1, hi2, hi3⟩, ⟨c1, c2, c3⟩, ⟨cl1, cl2, cl3, cins⟩, ⟨cn1, cn2, cn3, cn4, cn5, cn6⟩, ⟨pa1, pa2, pa3⟩⟩ := hs
  have ne : ∀ n, ok n → n ≠ f := fun n hn z => hf (z ▸ hn)
  have xf := ne x hx
  have af := ne a ha
  have ax : a ≠ x := fun z => by rw [z] at la; omega
  have fx : f ≠ x := xf.symm
  have fa : f ≠ a := af.symm
  have xa : x ≠ a := ax.symm
  have ga := (t2 a ha).1
  have xR : x ≠ R := fun z => by rw [z] at la; omega
  have ex3 : bb_ce hi c cl x 3 = cl (5 * x + 4) := bb_ce_t (by omega)
  have ex4 : bb_ce hi c cl x 4 = hi x := bb_ce_f (by omega)
  have ex2 : bb_ce hi c cl x 2 = cl (5 * x + 3) := bb_ce_t (by omega)
  obtain ⟨px1, px2, px3, px4⟩ := t7 a ha (by omega) p hp
  rw [hpx] at px1 px2 px3 px4
  obtain ⟨ina1, ina2, ina3⟩ := bb_T_in hT ha hp
  have in3 := bb_T_in hT hx (i := 3) (by omega)
  have in4 := bb_T_in hT hx (i := 4) (by omega)
  have in0 := bb_T_in hT hx (i := 0) (by omega)
  have in03 := bb_cej (t6 x hx) (i := 0) (j := 3) (by omega) (by omega)
  have q3lt : cl (5 * x + 3) < cl (5 * x + 4) := by have := t6 x hx 3 (by omega); rw [ex3] at this; exact this
  have q4lt : cl (5 * x + 4) < hi x := by have := t6 x hx 4 (by omega); rw [ex4] at this; exact this
  have xlo : lo x < cl (5 * x + 3) := by have := (t2 x hx).2.2.2.2; have : cl (5 * x) < bb_ce hi c cl x 0 := t6 x hx 0 (by omega); omega
  have smx : ∀ j, j < 3 → bb_ce hi' c' cl' x j = bb_ce hi c cl x j := by
    intro j hj
    by_cases g : j = 2
    · subst g; rw [bb_ce_f (by omega), ex2, hi2]
    · rw [bb_ce_t (by omega), bb_ce_t (by omega)]
      exact cl3 x xf xa (j + 1) (by omega)
  have smf0 : bb_ce hi' c' cl' f 0 = cl (5 * x + 4) := by rw [bb_ce_t (by omega)]; exact cl2
  have smf1 : bb_ce hi' c' cl' f 1 = hi x := by rw [bb_ce_f (by omega), hi1]
  obtain ⟨sa1, sa2, sa3⟩ := bb_ins_ce (hi := hi) (hi' := hi') cins (hi3 a af ax) (by omega) (by omega)
  have sa2' : bb_ce hi' c' cl' a p = cl (5 * x + 3) := sa2
  obtain ⟨ii1, ii2, ii3, ii4⟩ := cins
  have sm : ∀ n, ok n → n ≠ x → n ≠ a → ∀ j, bb_ce hi' c' cl' n j = bb_ce hi c cl n j := fun n hn nx na j =>
    bb_ce_same (c3 n (ne n hn) nx na) (hi3 n (ne n hn) nx) (fun j hj => cl3 n (ne n hn) na j (by have := (t2 n hn).2.2.2.1; omega)) j
  have chx : ∀ i, i < 5 → 0 < lv x → cn (5 * x + i) ≠ x := fun i hi' l0 z => by
    obtain ⟨a1, a2, _, _⟩ := t7 x hx l0 i (by omega)
    rw [z] at a2
    omega
  refine ⟨⟨Or.inl r1, ?_, ?_, ?_, ?_⟩, ?_, ?_, ?_, ?_, ?_, ?_, ?_⟩
  · rw [lv2 R (ne R r1)]; exact r2
  · rw [lo2 R (ne R r1)]; exact r3
  · rw [hi3 R (ne R r1) xR.symm]; exact r4
  · by_cases l0 : 0 < lv x
    · rw [(pa2 l0).2.2 R (ne R r1) (bb_T_cneR hT hx l0 (by omega)).symm (bb_T_cneR hT hx l0 (by omega)).symm]; exact r5
    · rw [pa3 (by omega) R (ne R r1)]; exact r5
  · intro n hn
    rcases hn with hn | hn
    · obtain ⟨a1, a2, a3, a4, a5⟩ := t2 n hn
      have nf := ne n hn
      rw [lv2 n nf, lo2 n nf]
      by_cases gx : n = x
      · subst gx
        rw [hi2, c2]
        exact ⟨a1, by omega, by omega, by omega, (cl3 n nf xa 0 (by omega)).trans a5⟩
      · rw [hi3 n nf gx]
        by_cases ga : n = a
        · subst ga
          exact ⟨a1, a2, by omega, by omega, (ii2 0 (by omega)).trans a5⟩
        · rw [c3 n nf gx ga]
          exact ⟨a1, a2, a3, a4, (cl3 n nf ga 0 (by omega)).trans a5⟩
    · subst hn
      rw [lv1, hi1, c1, cl1, lo1]
      exact ⟨(t2 x hx).1, (t2 x hx).2.1, by omega, by omega, rfl⟩
  · intro n hn k h1 h2
    rcases hn with hn | hn
    · have nf := ne n hn
      rw [lo2 n nf] at h1
      rw [lv2 n nf]
      show (if lv n = lv x ∧ cl (5 * x + 3) ≤ k ∧ k < hi x then f else own (lv n) k) = n
      by_cases gx : n = x
      · subst gx
        rw [hi2] at h2
        rw [if_neg (by omega)]
        exact t3 n hn k h1 (by omega)
      · rw [hi3 n nf gx] at h2
        have o1 := t3 n hn k h1 h2
        rw [if_neg]
        · exact o1
        · intro z
          have o2 := t3 x hx k (by omega) (by omega)
          rw [← z.1] at o2
          exact gx (o1.symm.trans o2)
    · subst hn
      rw [lo1] at h1
      rw [hi1] at h2
      rw [lv1]
      exact if_pos ⟨rfl, h1, h2⟩
  · intro l hl k hk
    show (ok (if l = lv x ∧ cl (5 * x + 3) ≤ k ∧ k < hi x then f else own l k) ∨ (if l = lv x ∧ cl (5 * x + 3) ≤ k ∧ k < hi x then f else own l k) = f) ∧ lv' (if l = lv x ∧ cl (5 * x + 3) ≤ k ∧ k < hi x then f else own l k) = l ∧ lo' (if l = lv x ∧ cl (5 * x + 3) ≤ k ∧ k < hi x then f else own l k) ≤ k ∧ k < hi' (if l = lv x ∧ cl (5 * x + 3) ≤ k ∧ k < hi x then f else own l k)
    by_cases g : l = lv x ∧ cl (5 * x + 3) ≤ k ∧ k < hi x
    · rw [if_pos g, lv1, lo1, hi1]
      exact ⟨Or.inr rfl, g.1.symm, g.2.1, g.2.2⟩
    · rw [if_neg g]
      obtain ⟨a1, a2, a3, a4⟩ := t4 l (by omega) k hk
      have nf := ne _ a1
      rw [lv2 _ nf, lo2 _ nf]
      refine ⟨Or.inl a1, a2, a3, ?_⟩
      by_cases gx : own l k = x
      · rw [gx] at a2 a4
        rw [gx, hi2]
        omega
      · rw [hi3 _ nf gx]; exact a4
  · intro l hl k hk
    show par' (if l = lv x ∧ cl (5 * x + 3) ≤ k ∧ k < hi x then f else own l k) = nI (if l + 1 = lv x ∧ cl (5 * x + 3) ≤ k ∧ k < hi x then f else own (l + 1) k)
    by_cases g : l = lv x ∧ cl (5 * x + 3) ≤ k ∧ k < hi x
    · rw [if_pos g, if_neg (by omega), pa1]
      have o2 := t3 a ha k (by omega) (by omega)
      rw [la, ← g.1] at o2
      rw [o2]
    · rw [if_neg g]
      obtain ⟨a1, a2, a3, a4⟩ := t4 l (by omega) k hk
      have nf := ne _ a1
      by_cases g2 : l + 1 = lv x ∧ cl (5 * x + 3) ≤ k ∧ k < hi x
      · rw [if_pos g2]
        obtain ⟨w1, w2, w3⟩ := pa2 (by omega)
        by_cases gk : k < cl (5 * x + 4)
        · rw [bb_T_cown hT hx g2.1.symm (i := 3) (by omega) g2.2.1 (by omega)]
          exact w1
        · rw [bb_T_cown hT hx g2.1.symm (i := 4) (by omega) (by omega) (by omega)]
          exact w2
      · rw [if_neg g2]
        by_cases l0 : 0 < lv x
        · obtain ⟨w1, w2, w3⟩ := pa2 l0
          have b3 := t7 x hx l0 3 (by omega)
          have b4 := t7 x hx l0 4 (by omega)
          rw [w3 _ nf, t5 l (by omega) k hk]
          · intro z
            rw [← z] at b3
            omega
          · intro z
            rw [← z] at b4
            omega
        · rw [pa3 (by omega) _ nf]
          exact t5 l (by omega) k hk
  · intro n hn i hi'
    rcases hn with hn | hn
    · have nf := ne n hn
      have n5 := (t2 n hn).2.2.2.1
      by_cases gx : n = x
      · subst gx
        rw [c2] at hi'
        rw [smx i (by omega), cl3 n nf xa i (by omega)]
        exact t6 n hn i (by omega)
      · by_cases ga : n = a
        · subst ga
          rcases Nat.lt_trichotomy i p with z | z | z
          · rw [ii2 i (by omega), sa1 i (by omega)]; exact t6 n hn i (by omega)
          · subst z; rw [ii2 i (by omega), sa2']; omega
          · rw [sa3 i (by omega) (by omega)]
            by_cases z2 : i = p + 1
            · subst z2; rw [ii3, show p + 1 - 1 = p from by omega]; omega
            · rw [ii4 i (by omega) (by omega)]; exact t6 n hn (i - 1) (by omega)
        · rw [c3 n nf gx ga] at hi'
          rw [sm n hn gx ga, cl3 n nf ga i (by omega)]
          exact t6 n hn i hi'
    · subst hn
      rw [c1] at hi'
      rcases (show i = 0 ∨ i = 1 from by omega) with z | z
      · subst z; rw [smf0, show cl' (5 * n + 0) = cl (5 * x + 3) from cl1]; exact q3lt
      · subst z; rw [smf1, cl2]; exact q4lt
  · intro n hn l0 i hi'
    rcases hn with hn | hn
    · have nf := ne n hn
      have n5 := (t2 n hn).2.2.2.1
      rw [lv2 n nf] at l0
      by_cases gx : n = x
      · subst gx
        rw [c2] at hi'
        obtain ⟨b1, b2, b3, b4⟩ := t7 n hn l0 i (by omega)
        have bf := ne _ b1
        rw [smx i (by omega), cl3 n nf xa i (by omega), cn3 n nf xa i (by omega), lv2 _ bf, lv2 _ nf, lo2 _ bf, hi3 _ bf (chx i (by omega) l0)]
        exact ⟨Or.inl b1, b2, b3, b4⟩
      · by_cases ga : n = a
        · subst ga
          rcases Nat.lt_trichotomy i p with z | z | z
          · obtain ⟨b1, b2, b3, b4⟩ := t7 n hn l0 i (by omega)
            have bf := ne _ b1
            have bx : cn (5 * n + i) ≠ x := fun q => by have := bb_T_cinj hT hn l0 (i := i) (j := p) (by omega) hp (by rw [q, hpx]); omega
            rw [ii2 i (by omega), sa1 i (by omega), cn4 i (by omega), lv2 _ bf, lv2 _ nf, lo2 _ bf, hi3 _ bf bx]
            exact ⟨Or.inl b1, b2, b3, b4⟩
          · subst z
            rw [ii2 i (by omega), sa2', cn4 i (by omega), hpx, lv2 _ xf, lv2 _ nf, lo2 _ xf, hi2]
            exact ⟨Or.inl hx, by omega, px3, rfl⟩
          · rw [sa3 i (by omega) (by omega)]
            by_cases z2 : i = p + 1
            · subst z2
              rw [ii3, cn5, show p + 1 - 1 = p from by omega, lv1, lv2 _ nf, lo1, hi1]
              exact ⟨Or.inr rfl, by omega, rfl, px4⟩
            · obtain ⟨b1, b2, b3, b4⟩ := t7 n hn l0 (i - 1) (by omega)
              have bf := ne _ b1
              have bx : cn (5 * n + (i - 1)) ≠ x := fun q => by have := bb_T_cinj hT hn l0 (i := i - 1) (j := p) (by omega) hp (by rw [q, hpx]); omega
              rw [ii4 i (by omega) (by omega), cn6 i (by omega) (by omega), lv2 _ bf, lv2 _ nf, lo2 _ bf, hi3 _ bf bx]
              exact ⟨Or.inl b1, b2, b3, b4⟩
        · rw [c3 n nf gx ga] at hi'
          obtain ⟨b1, b2, b3, b4⟩ := t7 n hn l0 i hi'
          have bf := ne _ b1
          have bx : cn (5 * n + i) ≠ x := fun q => ga (bb_T_up hT hn ha l0 (by omega) hi' hp (by rw [q, hpx]))
          rw [sm n hn gx ga, cl3 n nf ga i (by omega), cn3 n nf ga i (by omega), lv2 _ bf, lv2 _ nf, lo2 _ bf, hi3 _ bf bx]
          exact ⟨Or.inl b1, b2, b3, b4⟩
    · subst hn
      rw [c1] at hi'
      rw [lv1] at l0
      obtain ⟨b1, b2, b3, b4⟩ := t7 x hx l0 3 (by omega)
      obtain ⟨d1, d2, d3, d4⟩ := t7 x hx l0 4 (by omega)
      have bf := ne _ b1
      have df := ne _ d1
      rcases (show i = 0 ∨ i = 1 from by omega) with z | z
      · subst z
        rw [smf0, show cl' (5 * n + 0) = cl (5 * x + 3) from cl1, show cn' (5 * n + 0) = cn (5 * x + 3) from cn1, lv1, lv2 _ bf, lo2 _ bf, hi3 _ bf (chx 3 (by omega) l0)]
        exact ⟨Or.inl b1, b2, b3, b4.trans ex3⟩
      · subst z
        rw [smf1, cl2, cn2, lv1, lv2 _ df, lo2 _ df, hi3 _ df (chx 4 (by omega) l0)]
        exact ⟨Or.inl d1, d2, d3, d4.trans ex4⟩
  · intro n hn l0 i hi'
    rcases hn with hn | hn
    · have nf := ne n hn
      have n5 := (t2 n hn).2.2.2.1
      rw [lv2 n nf] at l0
      by_cases gx : n = x
      · subst gx
        rw [c2] at hi'
        rw [smx i (by omega), cl3 n nf xa i (by omega)]
        exact t8 n hn l0 i (by omega)
      · by_cases ga : n = a
        · subst ga; omega
        · rw [c3 n nf gx ga] at hi'
          rw [sm n hn gx ga, cl3 n nf ga i (by omega)]
          exact t8 n hn l0 i hi'
    · subst hn
      rw [c1] at hi'
      rw [lv1] at l0
      have b3 := t8 x hx l0 3 (by omega)
      have b4 := t8 x hx l0 4 (by omega)
      rcases (show i = 0 ∨ i = 1 from by omega) with z | z
      · subst z; rw [smf0, show cl' (5 * n + 0) = cl (5 * x + 3) from cl1]; omega
      · subst z; rw [smf1, cl2]; omega
end
end
section
/-! small walks: bits, comparisons, a message at a key -/
def bb_bi (b : Bool) : Int32 := if b = true then 1 else 0
theorem bb_bi_br {b : Bool} {A B : Prop} (f : b = false → A) (g : b = true → B) : (bb_bi b = 0 → A) ∧ (¬ bb_bi b = 0 → B) := by
  cases b
  · exact br_t rfl (f rfl)
  · exact br_f (by decide) (g rfl)
theorem bb_bit1 {w : Int64} {s : UInt64} {j : Nat} (hj : j < 64) (hs : s.toNat = j) : ((w.toUInt64 >>> s).toInt64 &&& 1) = 1 ↔ w.toBitVec.getLsbD j = true := by
  have e : (w.toUInt64 >>> s).toInt64.toBitVec = w.toBitVec >>> j := by
    apply BitVec.eq_of_toNat_eq
    show (w.toUInt64 >>> s).toNat = _
    rw [UInt64.toNat_shiftRight, hs, Nat.mod_eq_of_lt hj, BitVec.toNat_ushiftRight]
    rfl
  rw [← Int64.toBitVec_inj, Int64.toBitVec_and, e]
  show w.toBitVec >>> j &&& 1#64 = 1#64 ↔ _
  rw [BitVec.and_one_eq_setWidth_ofBool_getLsbD, BitVec.getLsbD_ushiftRight, Nat.add_zero]
  cases hb : w.toBitVec.getLsbD j
  · exact ⟨fun z => absurd z (by decide), fun z => absurd z (by decide)⟩
  · exact ⟨fun _ => rfl, fun _ => by decide⟩
theorem bb_cnt {k : Nat} (hk : k < 64) : ((nI k).toInt64.toUInt64 &&& Int64.toUInt64 63).toNat = k := by
  rw [wb_cu k hk]
  exact Nat.mod_eq_of_lt (by omega)
theorem bb_bit {post : Int32 → Prop} {P : Int64} {k : Nat} (hk : k < 64) (h : post (bb_bi (bb_b P k))) : wpX_bit post P (nI k) := by
  unfold wpX_bit
  rw [bb_bit1 hk (bb_cnt hk)]
  change post (bb_bi (P.toBitVec.getLsbD k)) at h
  cases e : P.toBitVec.getLsbD k
  · rw [e] at h
    exact br_f (by decide) h
  · rw [e] at h
    exact br_t rfl h
theorem bb_sh : ∀ k, k < 64 → ((1 : Int64) <<< ((nI k).toInt64 &&& 63)).toBitVec = BitVec.twoPow 64 k := by decide +kernel
theorem bb_b_or {P : Int64} {k j : Nat} (hk : k < 64) (hj : j < 64) : bb_b (P ||| ((1 : Int64) <<< ((nI k).toInt64 &&& 63))) j = if j = k then true else bb_b P j := by
  unfold bb_b
  rw [Int64.toBitVec_or, bb_sh k hk, BitVec.getLsbD_or, BitVec.getLsbD_twoPow]
  by_cases e : j = k
  · subst e; simp [hj]
  · have e' : ¬ k = j := fun z => e z.symm
    simp [e, e']
theorem bb_b_and {P : Int64} {k j : Nat} (hk : k < 64) (hj : j < 64) : bb_b (P &&& (((1 : Int64) <<< ((nI k).toInt64 &&& 63)) ^^^ (-1))) j = if j = k then false else bb_b P j := by
  unfold bb_b
  have ha : (-1 : Int64).toBitVec = BitVec.allOnes 64 := by decide
  rw [Int64.toBitVec_and, Int64.toBitVec_xor, bb_sh k hk, ha, BitVec.getLsbD_and, BitVec.getLsbD_xor, BitVec.getLsbD_twoPow, BitVec.getLsbD_allOnes]
  by_cases e : j = k
  · subst e; simp [hj]
  · have e' : ¬ k = j := fun z => e z.symm
    simp [e, e', hj]
def bb_mx (a b : Int32) : Int32 := if a ≤ b then b else a
def bb_mn (a b : Int32) : Int32 := if b ≤ a then b else a
theorem bb_greater {post : Int32 → Prop} {a b : Int32} (h : post (bb_mx a b)) : wpX_greater post a b := by
  unfold wpX_greater
  unfold bb_mx at h
  by_cases g : a ≤ b
  · rw [if_pos g] at h; exact br_t g h
  · rw [if_neg g] at h; exact br_f g h
theorem bb_lesser {post : Int32 → Prop} {a b : Int32} (h : post (bb_mn a b)) : wpX_lesser post a b := by
  unfold wpX_lesser
  unfold bb_mn at h
  by_cases g : b ≤ a
  · rw [if_pos g] at h; exact br_t g h
  · rw [if_neg g] at h; exact br_f g h
theorem bb_mx_le {a b z : Int32} : bb_mx a b ≤ z ↔ a ≤ z ∧ b ≤ z := by
  unfold bb_mx
  by_cases g : a ≤ b
  · rw [if_pos g]
    rw [Int32.le_iff_toInt_le] at *
    rw [Int32.le_iff_toInt_le]
    omega
  · rw [if_neg g]
    rw [Int32.le_iff_toInt_le] at *
    rw [Int32.le_iff_toInt_le]
    omega
theorem bb_le_mn {a b z : Int32} : z ≤ bb_mn a b ↔ z ≤ a ∧ z ≤ b := by
  unfold bb_mn
  by_cases g : b ≤ a
  · rw [if_pos g]
    rw [Int32.le_iff_toInt_le] at *
    rw [Int32.le_iff_toInt_le]
    omega
  · rw [if_neg g]
    rw [Int32.le_iff_toInt_le] at *
    rw [Int32.le_iff_toInt_le]
    omega
theorem bb_stays {post : Int32 → Prop} {kd : Int32} {b : Bool} (h : post (bb_bi (bb_sp kd b))) : wpX_staysPresent post kd (bb_bi b) := by
  unfold wpX_staysPresent
  unfold bb_sp at h
  by_cases h1 : kd = 1
  · rw [if_pos h1] at h
    exact br_t h1 h
  · rw [if_neg h1] at h
    refine br_f h1 (bb_bi_br (fun e => ?_) (fun e => ?_))
    · subst e
      by_cases h0 : kd = 0
      · rw [decide_eq_true h0] at h
        exact br_t h0 h
      · by_cases h2 : kd = 2
        · rw [decide_eq_false h0, decide_eq_true h2] at h
          exact br_f h0 (br_t h2 h)
        · by_cases h5 : kd = 5
          · rw [decide_eq_false h0, decide_eq_false h2, decide_eq_true h5] at h
            exact br_f h0 (br_f h2 (br_t h5 h))
          · rw [decide_eq_false h0, decide_eq_false h2, decide_eq_false h5] at h
            exact br_f h0 (br_f h2 (br_f h5 h))
    · subst e
      exact h
theorem bb_nv_f (kd x y v : Int32) : bb_nv kd false x v = bb_nv kd false y v := by
  unfold bb_nv
  rw [if_neg (show ¬ false = true by decide), if_neg (show ¬ false = true by decide), if_neg (show ¬ false = true by decide), if_neg (show ¬ false = true by decide)]
  simp
theorem bb_newv {post : Int32 → Prop} {kd x v : Int32} {b : Bool} (h : post (bb_nv kd b x v)) : wpX_newValue post kd (bb_bi b) x v := by
  unfold wpX_newValue
  unfold bb_nv at h
  by_cases h0 : kd = 0
  · rw [if_pos h0] at h
    subst h0
    exact br_f (by decide) (br_f (by decide) (br_t rfl h))
  rw [if_neg h0] at h
  by_cases h1 : kd = 1
  · rw [if_pos h1] at h
    subst h1
    exact br_f (by decide) (br_f (by decide) (br_f h0 (br_t rfl h)))
  rw [if_neg h1] at h
  by_cases h2 : kd = 2
  · rw [if_pos h2] at h
    subst h2
    exact br_f (by decide) (br_f (by decide) (br_f h0 (br_f h1 (br_t rfl (bb_bi_br (fun e => by subst e; exact h) (fun e => by subst e; exact h))))))
  rw [if_neg h2] at h
  by_cases h3 : kd = 3
  · rw [if_pos h3] at h
    subst h3
    exact br_f (by decide) (br_f (by decide) (br_f h0 (br_f h1 (br_f h2 (br_t rfl (bb_bi_br (fun e => by subst e; exact h) (fun e => by subst e; exact h)))))))
  rw [if_neg h3] at h
  by_cases h4 : kd = 4
  · rw [if_pos h4] at h
    subst h4
    exact br_f (by decide) (br_f (by decide) (br_f h0 (br_f h1 (br_f h2 (br_f h3 (br_t rfl (bb_bi_br (fun e => by subst e; exact h) (fun e => by subst e; exact bb_greater h))))))))
  rw [if_neg h4] at h
  by_cases g1 : kd < 0
  · exact br_t g1 (bb_bi_br (fun e => by subst e; exact h) (fun e => by subst e; exact h))
  by_cases g2 : 4 < kd
  · exact br_f g1 (br_t g2 (bb_bi_br (fun e => by subst e; exact h) (fun e => by subst e; exact h)))
  exact br_f g1 (br_f g2 (br_f h0 (br_f h1 (br_f h2 (br_f h3 (br_f h4 trivial))))))
theorem bb_m5 (p : Nat) : (5 : Int32) * nI p = nI (5 * p) := pk_mul 5 p
theorem bb_m48 (p : Nat) : (48 : Int32) * nI p = nI (48 * p) := pk_mul 48 p
theorem bb_m64 (p : Nat) : (64 : Int32) * nI p = nI (64 * p) := pk_mul 64 p
section
variable {P : Int64} {N R : Nat} {W : Int32} {M : Nat} {vals : Nat → Int32} {lv : Nat → Nat} {par : Nat → Int32} {lo hi c cl cn ms : Nat → Nat} {so fi la nu : Nat → Int32} {q : Nat → Nat} {mp : Nat → Int64} {mv : Nat → Int32}
theorem bb_post {post : SX → Prop} {p : Nat} {kd a b v : Int32} (hp : p < 24) (hm : ms p < 48)
    (h : post (P, nI N, nI R, W, nI M, vals, bb_enc lv, par, bb_enc lo, bb_enc hi, bb_enc c, bb_enc cl, bb_enc cn, bb_enc (bb_up ms p (ms p + 1)), (upd so (48 * p + ms p) kd), (upd fi (48 * p + ms p) a), (upd la (48 * p + ms p) b), (upd nu (48 * p + ms p) v), bb_enc q, mp, mv)) :
    wpX_post post (P, nI N, nI R, W, nI M, vals, bb_enc lv, par, bb_enc lo, bb_enc hi, bb_enc c, bb_enc cl, bb_enc cn, bb_enc ms, so, fi, la, nu, bb_enc q, mp, mv) (nI p) kd a b v := by
  have e1 : (nI p).toNatClampNeg = p := nI_clamp (by omega)
  have e2 : 48 * nI p + bb_enc ms p = nI (48 * p + ms p) := by rw [bb_ea, bb_m48, nI_add]
  have e3 : (nI (48 * p + ms p)).toNatClampNeg = 48 * p + ms p := nI_clamp (by omega)
  have i1 : vp_in (nI p) 24 := vp_in_nI hp (by omega)
  have i2 : vp_in (nI (48 * p + ms p)) 1152 := vp_in_nI (by omega) (by omega)
  unfold wpX_post
  dsimp only
  rw [e1]
  refine ⟨i1, nm_r e2 ?_⟩
  rw [e3]
  exact ⟨i2, nm_e ⟨i2, nm_e ⟨i2, nm_e ⟨i2, nm_e ⟨i1, i1, nm_r (by rw [bb_ea, nI_1, bb_eu]) h⟩⟩⟩⟩⟩
theorem bb_childEnd {post : Int32 → Prop} {p i : Nat} (hp : p < 24) (hi' : i < 5) (c5 : c p ≤ 5) (h : post (nI (bb_ce hi c cl p i))) : wpX_childEnd post (P, nI N, nI R, W, nI M, vals, bb_enc lv, par, bb_enc lo, bb_enc hi, bb_enc c, bb_enc cl, bb_enc cn, bb_enc ms, so, fi, la, nu, bb_enc q, mp, mv) (nI p) (nI i) := by
  have e1 : (nI p).toNatClampNeg = p := nI_clamp (by omega)
  have i1 : vp_in (nI p) 24 := vp_in_nI hp (by omega)
  unfold wpX_childEnd
  dsimp only
  rw [e1]
  refine ⟨i1, pk_le (c p) (i + 1) (fun g => ⟨i1, ?_⟩) (fun g => ?_) rfl (nI_1 i)⟩
  · rw [bb_ce_f (by omega)] at h
    exact h
  · rw [bb_ce_t (by omega)] at h
    rw [bb_m5, nI_add, nI_1, nI_clamp (by omega)]
    exact ⟨vp_in_nI (by omega) (by omega), h⟩
theorem bb_childFor_lp {post : Int32 → Prop} {p k : Nat} (hp : p < 24) (c5 : c p ≤ 5) (hcl : ∀ j, j < c p → cl (5 * p + j) < 2 ^ 31) (hk : k < 2 ^ 31)
    (h : ∀ i, i < c p → (i = 0 ∨ cl (5 * p + i) ≤ k) → (∀ j, i < j → j < c p → k < cl (5 * p + j)) → post (nI i)) :
    ∀ n i, i < n → i < c p → (∀ j, i < j → j < c p → k < cl (5 * p + j)) → wX_childFor_9 post (nI p) (nI k) P (nI N) (nI R) W (nI M) vals (bb_enc lv) par (bb_enc lo) (bb_enc hi) (bb_enc c) (bb_enc cl) (bb_enc cn) (bb_enc ms) so fi la nu (bb_enc q) mp mv n (nI i) := by
  intro n
  induction n with
  | zero => intro i h0; omega
  | succ n ih =>
    intro i hin hic hj
    show (nI i ≤ 0 → _) ∧ (¬ nI i ≤ 0 → _)
    refine pk_le i 0 (fun g => ?_) (fun g => ?_)
    · exact h i hic (Or.inl (by omega)) hj
    · rw [bb_m5, nI_add, nI_clamp (by omega)]
      refine ⟨vp_in_nI (by omega) (by omega), pk_le (cl (5 * p + i)) k (fun g2 => ?_) (fun g2 => ?_) rfl rfl (hcl i hic) hk⟩
      · exact h i hic (Or.inr g2) hj
      · refine nm_r (e' := nI (i - 1)) ?_ ?_
        · obtain ⟨d, rfl⟩ : ∃ d, i = d + 1 := ⟨i - 1, by omega⟩
          exact pk_m1 d
        · refine ih (i - 1) (by omega) (by omega) (fun j h1 h2 => ?_)
          by_cases z : j = i
          · rw [z]; exact g2
          · exact hj j (by omega) h2
theorem bb_childFor {post : Int32 → Prop} {p k : Nat} (hp : p < 24) (c1 : 1 ≤ c p) (c5 : c p ≤ 5) (hcl : ∀ j, j < c p → cl (5 * p + j) < 2 ^ 31) (hk : k < 2 ^ 31)
    (h : ∀ i, i < c p → (i = 0 ∨ cl (5 * p + i) ≤ k) → (∀ j, i < j → j < c p → k < cl (5 * p + j)) → post (nI i)) :
    wpX_childFor post (P, nI N, nI R, W, nI M, vals, bb_enc lv, par, bb_enc lo, bb_enc hi, bb_enc c, bb_enc cl, bb_enc cn, bb_enc ms, so, fi, la, nu, bb_enc q, mp, mv) (nI p) (nI k) := by
  have e1 : (nI p).toNatClampNeg = p := nI_clamp (by omega)
  unfold wpX_childFor
  dsimp only
  rw [e1]
  refine ⟨vp_in_nI hp (by omega), nm_r (e' := nI (c p - 1)) (pk_sub c1) ⟨c p, ?_⟩⟩
  exact bb_childFor_lp hp c5 hcl hk h (c p) (c p - 1) (by omega) (by omega) (fun j h1 h2 => by omega)
theorem bb_lf_t {k : Nat} (h : bb_b P k = true) : bb_lf P vals k = some (vals k) := if_pos h
theorem bb_lf_f {k : Nat} (h : bb_b P k = false) : bb_lf P vals k = none := if_neg (by rw [h]; decide)
theorem bb_apply {post : SX → Prop} {k : Nat} {kd v : Int32} (hk : k < 64)
    (h : ∀ P' vals', (∀ j, j < 64 → bb_lf P' vals' j = if j = k then bb_act kd v (bb_lf P vals k) else bb_lf P vals j) → post (P', nI N, nI R, W, nI M, vals', bb_enc lv, par, bb_enc lo, bb_enc hi, bb_enc c, bb_enc cl, bb_enc cn, bb_enc ms, so, fi, la, nu, bb_enc q, mp, mv)) :
    wpX_apply post (P, nI N, nI R, W, nI M, vals, bb_enc lv, par, bb_enc lo, bb_enc hi, bb_enc c, bb_enc cl, bb_enc cn, bb_enc ms, so, fi, la, nu, bb_enc q, mp, mv) (nI k) kd v := by
  have e1 : (nI k).toNatClampNeg = k := nI_clamp (by omega)
  have i1 : vp_in (nI k) 64 := vp_in_nI hk (by omega)
  unfold wpX_apply
  dsimp only
  rw [e1]
  refine bb_bit hk ⟨i1, bb_newv ⟨i1, nm_e (bb_stays (bb_bi_br (fun e => nm_e ?_) (fun e => nm_e ?_)))⟩⟩
  · apply h
    intro j hj
    by_cases z : j = k
    · subst z
      rw [if_pos rfl, bb_lf_f (by rw [bb_b_and hk hj, if_pos rfl])]
      unfold bb_act
      cases hb : bb_b P j
      · rw [bb_lf_f hb, if_neg]
        rw [hb] at e
        show ¬ bb_sp kd false = true
        rw [e]; decide
      · rw [bb_lf_t hb, if_neg]
        rw [hb] at e
        show ¬ bb_sp kd true = true
        rw [e]; decide
    · rw [if_neg z]
      unfold bb_lf
      rw [bb_b_and hk hj, if_neg z, pk_un z]
  · apply h
    intro j hj
    by_cases z : j = k
    · subst z
      rw [if_pos rfl, bb_lf_t (by rw [bb_b_or hk hj, if_pos rfl]), pk_us]
      unfold bb_act
      cases hb : bb_b P j
      · rw [bb_lf_f hb, if_pos]
        · exact congrArg some (bb_nv_f _ _ _ _)
        · rw [hb] at e
          exact e
      · rw [bb_lf_t hb, if_pos]
        · rfl
        · rw [hb] at e
          exact e
    · rw [if_neg z]
      unfold bb_lf
      rw [bb_b_or hk hj, if_neg z, pk_un z]
end
end
section
/-! a message handed to one child -/
theorem bb_clip3 {A B : Int32} {a e k : Nat} (h1 : a < e) (h64 : e ≤ 64) (hk : k < 64) : (bb_mx A (nI a) ≤ nI k ∧ nI k ≤ bb_mn B (nI (e - 1))) ↔ (a ≤ k ∧ k < e) ∧ A ≤ nI k ∧ nI k ≤ B := by
  rw [bb_mx_le, bb_le_mn, nI_leI (show a < 2 ^ 31 by omega) (show k < 2 ^ 31 by omega), nI_leI (show k < 2 ^ 31 by omega) (show e - 1 < 2 ^ 31 by omega)]
  constructor
  · rintro ⟨⟨p, q⟩, r, s⟩
    exact ⟨⟨q, by omega⟩, p, r⟩
  · rintro ⟨⟨p, q⟩, r, s⟩
    exact ⟨⟨r, p⟩, s, by omega⟩
theorem bb_clip1 {A B : Int32} {a e : Nat} (h1 : a < e) (h64 : e ≤ 64) (h : bb_mx A (nI a) ≤ bb_mn B (nI (e - 1))) : ∃ l hh, bb_mx A (nI a) = nI l ∧ bb_mn B (nI (e - 1)) = nI hh ∧ hh < 64 ∧ l ≤ hh := by
  have q1 : nI a ≤ bb_mx A (nI a) := (bb_mx_le.mp (Int32.le_refl _)).2
  have q2 : bb_mn B (nI (e - 1)) ≤ nI (e - 1) := (bb_le_mn.mp (Int32.le_refl _)).2
  have z : (0 : Int32) ≤ nI a := nI_pos' (by omega)
  have q3 : (0 : Int32) ≤ bb_mx A (nI a) := Int32.le_trans z q1
  have q4 : (0 : Int32) ≤ bb_mn B (nI (e - 1)) := Int32.le_trans q3 h
  obtain ⟨hh, g1, g2⟩ := nI_of2 (nI_toInt (n := e - 1) (by omega)) (Int32.not_lt.mpr q4) q2
  obtain ⟨l, g3, g4⟩ := nI_of2 (nI_toInt (n := e - 1) (by omega)) (Int32.not_lt.mpr q3) (Int32.le_trans h q2)
  refine ⟨l, hh, g4, g2, by omega, ?_⟩
  rw [g4, g2, nI_leI (by omega) (by omega)] at h
  exact h
section
variable {P : Int64} {N R : Nat} {W : Int32} {M : Nat} {vals : Nat → Int32} {lv : Nat → Nat} {par : Nat → Int32} {lo hi c cl cn ms : Nat → Nat} {so fi la nu : Nat → Int32} {q : Nat → Nat} {mp : Nat → Int64} {mv : Nat → Int32}
theorem bb_hand_lp {post : SX → Prop} {a l hh : Nat} (ha : a < 1152) (h64 : hh < 64) {f : Nat → Option Int32}
    (H : ∀ P' vals', (∀ j, j < 64 → bb_lf P' vals' j = if l ≤ j ∧ j ≤ hh then bb_act (so a) (nu a) (f j) else f j) → post (P', nI N, nI R, W, nI M, vals', bb_enc lv, par, bb_enc lo, bb_enc hi, bb_enc c, bb_enc cl, bb_enc cn, bb_enc ms, so, fi, la, nu, bb_enc q, mp, mv)) :
    ∀ n k P vals, hh + 1 < n + k → l ≤ k → k ≤ hh + 1 → (∀ j, j < 64 → bb_lf P vals j = if l ≤ j ∧ j < k then bb_act (so a) (nu a) (f j) else f j) → wX_hand_96 post (nI a) (nI hh) n (nI k) P (nI N) (nI R) W (nI M) vals (bb_enc lv) par (bb_enc lo) (bb_enc hi) (bb_enc c) (bb_enc cl) (bb_enc cn) (bb_enc ms) so fi la nu (bb_enc q) mp mv := by
  intro n
  induction n with
  | zero => intro k P vals h1 h2 h3; omega
  | succ n ih =>
    intro k P vals h1 h2 h3 hI
    unfold wX_hand_96
    refine pk_lt hh k (fun g => ?_) (fun g => ?_)
    · refine H P vals (fun j hj => ?_)
      rw [hI j hj]
      by_cases z : l ≤ j ∧ j < k
      · rw [if_pos z, if_pos (by omega)]
      · rw [if_neg z, if_neg (by omega)]
    · have ia : vp_in (nI a) 1152 := vp_in_nI ha (by omega)
      rw [nI_clamp (show a < 2 ^ 31 by omega)]
      refine ⟨ia, ia, bb_apply (by omega) (fun P' vals' g2 => ?_)⟩
      dsimp only
      refine nm_r (nI_1 k) (ih (k + 1) P' vals' (by omega) (by omega) (by omega) (fun j hj => ?_))
      rw [g2 j hj]
      by_cases z : j = k
      · subst z
        rw [if_pos rfl, hI j hj, if_neg (by omega), if_pos (by omega)]
      · rw [if_neg z, hI j hj]
        by_cases w : l ≤ j ∧ j < k
        · rw [if_pos w, if_pos (by omega)]
        · rw [if_neg w, if_neg (by omega)]
theorem bb_hand0 {post : SX → Prop} {x i a : Nat} (hx : x < 24) (hic : i < 5) (c5 : c x ≤ 5) (ha : a < 1152) (l0 : lv x = 0) (hcl : cl (5 * x + i) < bb_ce hi c cl x i) (he : bb_ce hi c cl x i ≤ 64)
    (h : ∀ P' vals', (∀ k, k < 64 → bb_lf P' vals' k = if cl (5 * x + i) ≤ k ∧ k < bb_ce hi c cl x i then bb_st so fi la nu k a (bb_lf P vals k) else bb_lf P vals k) → post (P', nI N, nI R, W, nI M, vals', bb_enc lv, par, bb_enc lo, bb_enc hi, bb_enc c, bb_enc cl, bb_enc cn, bb_enc ms, so, fi, la, nu, bb_enc q, mp, mv)) :
    wpX_hand post (P, nI N, nI R, W, nI M, vals, bb_enc lv, par, bb_enc lo, bb_enc hi, bb_enc c, bb_enc cl, bb_enc cn, bb_enc ms, so, fi, la, nu, bb_enc q, mp, mv) (nI x) (nI i) (nI a) := by
  have ia : vp_in (nI a) 1152 := vp_in_nI ha (by omega)
  have ix : vp_in (nI x) 24 := vp_in_nI hx (by omega)
  unfold wpX_hand
  dsimp only
  rw [nI_clamp (show a < 2 ^ 31 by omega), bb_m5, nI_add, nI_clamp (show 5 * x + i < 2 ^ 31 by omega), nI_clamp (show x < 2 ^ 31 by omega)]
  refine ⟨ia, vp_in_nI (by omega) (by omega), bb_greater (bb_childEnd hx hic c5 ⟨ia, bb_lesser ?_⟩)⟩
  rw [show nI (bb_ce hi c cl x i) - 1 = nI (bb_ce hi c cl x i - 1) from pk_sub (b := 1) (by omega)]
  by_cases g : bb_mx (fi a) (nI (cl (5 * x + i))) ≤ bb_mn (la a) (nI (bb_ce hi c cl x i - 1))
  · obtain ⟨l, hh, e1, e2, e3, e4⟩ := bb_clip1 hcl he g
    refine br_t g ⟨ix, br_t ?_ ⟨hh + 2, ?_⟩⟩
    · rw [bb_ea, l0]; decide
    · show wX_hand_96 post (nI a) (bb_mn (la a) (nI (bb_ce hi c cl x i - 1))) (hh + 2) (bb_mx (fi a) (nI (cl (5 * x + i)))) P (nI N) (nI R) W (nI M) vals (bb_enc lv) par (bb_enc lo) (bb_enc hi) (bb_enc c) (bb_enc cl) (bb_enc cn) (bb_enc ms) so fi la nu (bb_enc q) mp mv
      have c3 := fun k (hk : k < 64) => bb_clip3 (A := fi a) (B := la a) (k := k) hcl he hk
      rw [e1, e2] at c3
      rw [e1, e2]
      refine bb_hand_lp (f := bb_lf P vals) (l := l) ha e3 (fun P' vals' g2 => h P' vals' (fun k hk => ?_)) (hh + 2) l P vals (by omega) (Nat.le_refl _) (by omega) (fun j hj => by rw [if_neg (by omega)])
      rw [g2 k hk]
      have q := c3 k hk
      rw [nI_leI (show l < 2 ^ 31 by omega) (show k < 2 ^ 31 by omega), nI_leI (show k < 2 ^ 31 by omega) (show hh < 2 ^ 31 by omega)] at q
      unfold bb_st
      by_cases z : l ≤ k ∧ k ≤ hh
      · rw [if_pos z, if_pos (q.mp z).1, if_pos (q.mp z).2]
      · rw [if_neg z]
        by_cases w : cl (5 * x + i) ≤ k ∧ k < bb_ce hi c cl x i
        · rw [if_pos w, if_neg (fun w2 => z (q.mpr ⟨w, w2⟩))]
        · rw [if_neg w]
  · refine br_f g (h P vals (fun k hk => ?_))
    unfold bb_st
    by_cases w : cl (5 * x + i) ≤ k ∧ k < bb_ce hi c cl x i
    · rw [if_pos w, if_neg (fun w2 => g ?_)]
      have q := (bb_clip3 (A := fi a) (B := la a) hcl he hk).mpr ⟨w, w2⟩
      exact Int32.le_trans q.1 q.2
    · rw [if_neg w]
theorem bb_hand1 {post : SX → Prop} {x i a : Nat} (hx : x < 24) (hic : i < 5) (c5 : c x ≤ 5) (ha : a < 1152) (l1 : 0 < lv x) (lb : lv x < 2 ^ 31) (hcl : cl (5 * x + i) < bb_ce hi c cl x i) (he : bb_ce hi c cl x i ≤ 64)
    (hy : cn (5 * x + i) < 24) (hm : ms (cn (5 * x + i)) < 48)
    (h : ∀ ms' so' fi' la' nu', ms' (cn (5 * x + i)) ≤ ms (cn (5 * x + i)) + 1 → (∀ n, n ≠ cn (5 * x + i) → ms' n = ms n ∧ bb_cs so fi la nu so' fi' la' nu' n) →
      (∀ k o, k < 64 → cl (5 * x + i) ≤ k → k < bb_ce hi c cl x i → bb_fn ms' so' fi' la' nu' (cn (5 * x + i)) k o = bb_st so fi la nu k a (bb_fn ms so fi la nu (cn (5 * x + i)) k o)) →
      post (P, nI N, nI R, W, nI M, vals, bb_enc lv, par, bb_enc lo, bb_enc hi, bb_enc c, bb_enc cl, bb_enc cn, bb_enc ms', so', fi', la', nu', bb_enc q, mp, mv)) :
    wpX_hand post (P, nI N, nI R, W, nI M, vals, bb_enc lv, par, bb_enc lo, bb_enc hi, bb_enc c, bb_enc cl, bb_enc cn, bb_enc ms, so, fi, la, nu, bb_enc q, mp, mv) (nI x) (nI i) (nI a) := by
  have ia : vp_in (nI a) 1152 := vp_in_nI ha (by omega)
  have ix : vp_in (nI x) 24 := vp_in_nI hx (by omega)
  have i5 : vp_in (nI (5 * x + i)) 120 := vp_in_nI (by omega) (by omega)
  unfold wpX_hand
  dsimp only
  rw [nI_clamp (show a < 2 ^ 31 by omega), bb_m5, nI_add, nI_clamp (show 5 * x + i < 2 ^ 31 by omega), nI_clamp (show x < 2 ^ 31 by omega)]
  refine ⟨ia, i5, bb_greater (bb_childEnd hx hic c5 ⟨ia, bb_lesser ?_⟩)⟩
  rw [show nI (bb_ce hi c cl x i) - 1 = nI (bb_ce hi c cl x i - 1) from pk_sub (b := 1) (by omega)]
  by_cases g : bb_mx (fi a) (nI (cl (5 * x + i))) ≤ bb_mn (la a) (nI (bb_ce hi c cl x i - 1))
  · refine br_t g ⟨ix, br_f ?_ ⟨i5, ia, ia, ?_⟩⟩
    · rw [bb_ea]; exact nI_nle l1 lb
    · refine bb_post hy hm (h _ _ _ _ _ ?_ (fun n hn => ⟨?_, ?_⟩) (fun k o hk k1 k2 => ?_))
      · rw [bb_ups]; exact Nat.le_refl _
      · exact bb_upn hn
      · exact bb_app_cs hm hn
      · rw [bb_app]
        unfold bb_st
        have q := bb_clip3 (A := fi a) (B := la a) hcl he hk
        by_cases w : fi a ≤ nI k ∧ nI k ≤ la a
        · rw [if_pos w, if_pos]
          exact q.mpr ⟨⟨k1, k2⟩, w⟩
        · rw [if_neg w, if_neg]
          exact fun z => w (q.mp z).2
  · refine br_f g (h ms so fi la nu (Nat.le_succ _) (fun n _ => ⟨rfl, bb_cs_rfl⟩) (fun k o hk k1 k2 => ?_))
    unfold bb_st
    rw [if_neg]
    intro w2
    have q := (bb_clip3 (A := fi a) (B := la a) hcl he hk).mpr ⟨⟨k1, k2⟩, w2⟩
    exact g (Int32.le_trans q.1 q.2)
end
end
section
/-! a node's messages all go on -/
section
variable {P : Int64} {N R : Nat} {W : Int32} {M : Nat} {vals : Nat → Int32} {lv : Nat → Nat} {par : Nat → Int32} {lo hi c cl cn ms : Nat → Nat} {so fi la nu : Nat → Int32} {q : Nat → Nat} {mp : Nat → Int64} {mv : Nat → Int32}
theorem bb_flush_law {post : SX → Prop} {x MM : Nat} (I : Nat → Nat → Int64 → (Nat → Int32) → (Nat → Nat) → (Nat → Int32) → (Nat → Int32) → (Nat → Int32) → (Nat → Int32) → Prop)
    (hx : x < 24) (c5 : c x ≤ 5) (hM : MM ≤ 48)
    (hms : ∀ m i P vals ms so fi la nu, I m i P vals ms so fi la nu → ms x = MM)
    (hstep : ∀ (ps : SX → Prop) m i P vals ms so fi la nu, m < MM → i < c x → I m i P vals ms so fi la nu → (∀ P' vals' ms' so' fi' la' nu', I m (i + 1) P' vals' ms' so' fi' la' nu' → ps (P', nI N, nI R, W, nI M, vals', bb_enc lv, par, bb_enc lo, bb_enc hi, bb_enc c, bb_enc cl, bb_enc cn, bb_enc ms', so', fi', la', nu', bb_enc q, mp, mv)) → wpX_hand ps (P, nI N, nI R, W, nI M, vals, bb_enc lv, par, bb_enc lo, bb_enc hi, bb_enc c, bb_enc cl, bb_enc cn, bb_enc ms, so, fi, la, nu, bb_enc q, mp, mv) (nI x) (nI i) (nI (48 * x + m)))
    (hnext : ∀ m P vals ms so fi la nu, I m (c x) P vals ms so fi la nu → I (m + 1) 0 P vals ms so fi la nu)
    (hend : ∀ P vals ms so fi la nu, I MM 0 P vals ms so fi la nu → post (P, nI N, nI R, W, nI M, vals, bb_enc lv, par, bb_enc lo, bb_enc hi, bb_enc c, bb_enc cl, bb_enc cn, bb_enc (bb_up ms x 0), so, fi, la, nu, bb_enc q, mp, mv))
    (h0 : I 0 0 P vals ms so fi la nu) : wpX_flush post (P, nI N, nI R, W, nI M, vals, bb_enc lv, par, bb_enc lo, bb_enc hi, bb_enc c, bb_enc cl, bb_enc cn, bb_enc ms, so, fi, la, nu, bb_enc q, mp, mv) (nI x) := by
  have e1 : (nI x).toNatClampNeg = x := nI_clamp (by omega)
  have ix : vp_in (nI x) 24 := vp_in_nI hx (by omega)
  have inner : ∀ m, m < MM → ∀ J : Int32 → Int64 → Int32 → Int32 → Int32 → Int32 → (Nat → Int32) → (Nat → Int32) → (Nat → Int32) → (Nat → Int32) → (Nat → Int32) → (Nat → Int32) → (Nat → Int32) → (Nat → Int32) → (Nat → Int32) → (Nat → Int32) → (Nat → Int32) → (Nat → Int32) → (Nat → Int32) → (Nat → Int32) → (Nat → Int64) → (Nat → Int32) → Prop,
      (∀ P vals ms so fi la nu, I (m + 1) 0 P vals ms so fi la nu → J (nI (m + 1)) P (nI N) (nI R) W (nI M) vals (bb_enc lv) par (bb_enc lo) (bb_enc hi) (bb_enc c) (bb_enc cl) (bb_enc cn) (bb_enc ms) so fi la nu (bb_enc q) mp mv) →
      ∀ n i P vals ms so fi la nu, c x < n + i → i ≤ c x → I m i P vals ms so fi la nu → wX_flush_14 post J (nI x) (nI m) n (nI i) P (nI N) (nI R) W (nI M) vals (bb_enc lv) par (bb_enc lo) (bb_enc hi) (bb_enc c) (bb_enc cl) (bb_enc cn) (bb_enc ms) so fi la nu (bb_enc q) mp mv := by
    intro m hm J hJ n
    induction n with
    | zero => intro i P vals ms so fi la nu h1 h2; omega
    | succ n ih =>
      intro i P vals ms so fi la nu h1 h2 hI
      unfold wX_flush_14
      rw [e1]
      refine ⟨ix, pk_le (c x) i (fun g => ?_) (fun g => ?_)⟩
      · have e : i = c x := by omega
        subst e
        exact nm_r (nI_1 m) (hJ _ _ _ _ _ _ _ (hnext _ _ _ _ _ _ _ _ hI))
      · rw [bb_m48, nI_add]
        refine hstep _ m i P vals ms so fi la nu hm g hI (fun P' vals' ms' so' fi' la' nu' hI' => ?_)
        dsimp only
        exact nm_r (nI_1 i) (ih (i + 1) P' vals' ms' so' fi' la' nu' (by omega) (by omega) hI')
  have outer : ∀ n m P vals ms so fi la nu, MM < n + m → m ≤ MM → I m 0 P vals ms so fi la nu → wX_flush_2 post (nI x) n (nI m) P (nI N) (nI R) W (nI M) vals (bb_enc lv) par (bb_enc lo) (bb_enc hi) (bb_enc c) (bb_enc cl) (bb_enc cn) (bb_enc ms) so fi la nu (bb_enc q) mp mv := by
    intro n
    induction n with
    | zero => intro m P vals ms so fi la nu h1 h2; omega
    | succ n ih =>
      intro m P vals ms so fi la nu h1 h2 hI
      have em := hms _ _ _ _ _ _ _ _ _ hI
      unfold wX_flush_2
      rw [e1]
      refine ⟨ix, pk_le (ms x) m (fun g => ?_) (fun g => ?_)⟩
      · have e : m = MM := by omega
        subst e
        exact ⟨ix, nm_r (bb_eu ms x 0) (hend _ _ _ _ _ _ _ hI)⟩
      · refine ⟨c x + 1, ?_⟩
        refine inner m (by omega) _ ?_ (c x + 1) 0 P vals ms so fi la nu (by omega) (by omega) hI
        intro P vals ms so fi la nu hI'
        exact ih (m + 1) P vals ms so fi la nu (by omega) (by omega) hI'
  unfold wpX_flush
  exact ⟨MM + 1, outer (MM + 1) 0 P vals ms so fi la nu (by omega) (by omega) h0⟩
def bb_FS (N x top : Nat) (lv c cn : Nat → Nat) (own : Nat → Nat → Nat) (P : Int64) (vals : Nat → Int32) (ms : Nat → Nat) (so fi la nu : Nat → Int32) (P' : Int64) (vals' : Nat → Int32) (ms' : Nat → Nat) (so' fi' la' nu' : Nat → Int32) : Prop :=
  ms' x = 0 ∧ (∀ n, n < N → n ≠ x → (lv x = 0 ∨ ∀ i, i < c x → n ≠ cn (5 * x + i)) → ms' n = ms n) ∧
  (∀ k, k < 64 → bb_sv own (bb_fn ms' so' fi' la' nu') (bb_lf P' vals') k (top + 1) = bb_sv own (bb_fn ms so fi la nu) (bb_lf P vals) k (top + 1)) ∧
  (∀ k, k < 64 → bb_pz own ms' k (top + 1) ≤ bb_pz own ms k (top + 1))
theorem bb_T_dis {ok : Nat → Prop} {top : Nat} {own : Nat → Nat → Nat} (h : bb_T ok R top lv par lo hi c cl cn own) {n i j k : Nat} (hn : ok n) (hi' : i < c n) (hj : j < c n) (a1 : cl (5 * n + i) ≤ k) (a2 : k < bb_ce hi c cl n i) (b1 : cl (5 * n + j) ≤ k) (b2 : k < bb_ce hi c cl n j) : i = j := by
  have hc := h.2.2.2.2.2.1 n hn
  rcases Nat.lt_trichotomy i j with g | g | g
  · have := bb_cej hc g hj; omega
  · exact g
  · have := bb_cej hc g hi'; omega
theorem bb_flush0 {post : SX → Prop} {x top : Nat} {own : Nat → Nat → Nat} (hT : bb_T (fun n => n < N) R top lv par lo hi c cl cn own) (hN : N ≤ 24) (hx : x < N) (hz : ∀ k, k < 64 → bb_pz own ms k (top + 1) ≤ 40) (l0 : lv x = 0)
    (h : ∀ P' vals' ms' so' fi' la' nu', bb_FS N x top lv c cn own P vals ms so fi la nu P' vals' ms' so' fi' la' nu' → post (P', nI N, nI R, W, nI M, vals', bb_enc lv, par, bb_enc lo, bb_enc hi, bb_enc c, bb_enc cl, bb_enc cn, bb_enc ms', so', fi', la', nu', bb_enc q, mp, mv)) : wpX_flush post (P, nI N, nI R, W, nI M, vals, bb_enc lv, par, bb_enc lo, bb_enc hi, bb_enc c, bb_enc cl, bb_enc cn, bb_enc ms, so, fi, la, nu, bb_enc q, mp, mv) (nI x) := by
  obtain ⟨n1, n2, n3, n4, n5⟩ := hT.2.1 x hx
  have xlo := bb_T_lo hT hx
  have hlo : own (lv x) (lo x) = x := hT.2.2.1 x hx (lo x) (Nat.le_refl _) xlo
  have mx : ms x ≤ 40 := by
    have := hz (lo x) (by omega)
    have q := bb_pz_one (own := own) (ms := ms) (k := lo x) (top + 1) (lv x) (by omega)
    rw [hlo] at q
    omega
  refine bb_flush_law (MM := ms x) (fun m i P' vals' ms' so' fi' la' nu' => (ms' = ms ∧ so' = so ∧ fi' = fi ∧ la' = la ∧ nu' = nu) ∧
      (∀ k, k < 64 → ∀ j, j < c x → cl (5 * x + j) ≤ k → k < bb_ce hi c cl x j → bb_lf P' vals' k = bb_fo so fi la nu k (48 * x) (m + if j < i then 1 else 0) (bb_lf P vals k)) ∧
      (∀ k, k < 64 → ¬ (lo x ≤ k ∧ k < hi x) → bb_lf P' vals' k = bb_lf P vals k)) (by omega) n4 (by omega) ?_ ?_ ?_ ?_ ?_
  · intro m i P' vals' ms' so' fi' la' nu' hI
    rw [hI.1.1]
  · intro ps m i P' vals' ms' so' fi' la' nu' hm hi' hI hps
    obtain ⟨⟨e1, e2, e3, e4, e5⟩, h1, h2⟩ := hI
    subst e1 e2 e3 e4 e5
    obtain ⟨g1, g2, g3⟩ := bb_T_in hT hx hi'
    refine bb_hand0 (by omega) (by omega) n4 (by omega) l0 g2 (by omega) (fun P2 vals2 hh => ?_)
    refine hps _ _ _ _ _ _ _ ⟨⟨rfl, rfl, rfl, rfl, rfl⟩, ?_, ?_⟩
    · intro k hk j hj k1 k2
      rw [hh k hk]
      by_cases z : j = i
      · subst z
        rw [if_pos ⟨k1, k2⟩, h1 k hk j hj k1 k2, if_neg (by omega), if_pos (by omega)]
        rfl
      · rw [if_neg (fun w => z (bb_T_dis hT hx hj hi' k1 k2 w.1 w.2)), h1 k hk j hj k1 k2]
        by_cases w : j < i
        · rw [if_pos w, if_pos (by omega)]
        · rw [if_neg w, if_neg (by omega)]
    · intro k hk hn
      rw [hh k hk, if_neg (by omega)]
      exact h2 k hk hn
  · intro m P' vals' ms' so' fi' la' nu' hI
    obtain ⟨h0, h1, h2⟩ := hI
    refine ⟨h0, ?_, h2⟩
    intro k hk j hj k1 k2
    rw [h1 k hk j hj k1 k2, if_pos hj, if_neg (by omega)]
  · intro P' vals' ms' so' fi' la' nu' hI
    obtain ⟨⟨e1, e2, e3, e4, e5⟩, h1, h2⟩ := hI
    subst e1 e2 e3 e4 e5
    refine h _ _ _ _ _ _ _ ⟨bb_ups _ _ _, fun n _ nx _ => bb_upn nx, ?_, ?_⟩
    · intro k hk
      refine bb_sv_flush (x := x) (l0 := lv x) (by omega) ?_ ?_ ?_ ?_ ?_ ?_
      · intro l hl e
        have := (hT.2.2.2.1 l (by omega) k hk).2.1
        rw [e] at this
        exact this.symm
      · intro _ o
        unfold bb_fn
        rw [bb_ups]
        rfl
      · intro e _
        have q := hT.2.2.2.1 (lv x) n1 k hk
        rw [e] at q
        obtain ⟨j, j1, j2, j3⟩ := bb_T_find hT hx q.2.2.1 q.2.2.2
        rw [h1 k hk j j1 j2 j3, if_neg (by omega)]
        rfl
      · intro _ l hl
        omega
      · intro e
        refine h2 k hk (fun w => e ?_)
        exact hT.2.2.1 x hx k w.1 w.2
      · intro l hl e _ o
        unfold bb_fn
        rw [bb_upn e]
    · intro k hk
      refine bb_pz_flush (x := x) (l0 := lv x) (by omega) ?_ (bb_ups _ _ _) ?_ ?_
      · intro l hl e
        have := (hT.2.2.2.1 l (by omega) k hk).2.1
        rw [e] at this
        exact this.symm
      · intro _ l hl
        omega
      · intro l hl e _
        exact bb_upn e
  · refine ⟨⟨rfl, rfl, rfl, rfl, rfl⟩, ?_, fun _ _ _ => rfl⟩
    intro k hk j hj k1 k2
    rw [if_neg (by omega)]
    rfl
theorem bb_flush1 {post : SX → Prop} {x top : Nat} {own : Nat → Nat → Nat} (hT : bb_T (fun n => n < N) R top lv par lo hi c cl cn own) (hN : N ≤ 24) (t3 : top ≤ 3) (hx : x < N) (hz : ∀ k, k < 64 → bb_pz own ms k (top + 1) ≤ 40) (l1 : 0 < lv x)
    (h : ∀ P' vals' ms' so' fi' la' nu', bb_FS N x top lv c cn own P vals ms so fi la nu P' vals' ms' so' fi' la' nu' → post (P', nI N, nI R, W, nI M, vals', bb_enc lv, par, bb_enc lo, bb_enc hi, bb_enc c, bb_enc cl, bb_enc cn, bb_enc ms', so', fi', la', nu', bb_enc q, mp, mv)) : wpX_flush post (P, nI N, nI R, W, nI M, vals, bb_enc lv, par, bb_enc lo, bb_enc hi, bb_enc c, bb_enc cl, bb_enc cn, bb_enc ms, so, fi, la, nu, bb_enc q, mp, mv) (nI x) := by
  obtain ⟨n1, n2, n3, n4, n5⟩ := hT.2.1 x hx
  have xlo := bb_T_lo hT hx
  have hlo : own (lv x) (lo x) = x := hT.2.2.1 x hx (lo x) (Nat.le_refl _) xlo
  have mx : ms x ≤ 40 := by
    have := hz (lo x) (by omega)
    have q := bb_pz_one (own := own) (ms := ms) (k := lo x) (top + 1) (lv x) (by omega)
    rw [hlo] at q
    omega
  have ch := fun j (hj : j < c x) => hT.2.2.2.2.2.2.1 x hx l1 j hj
  have xnc : ∀ j, j < c x → x ≠ cn (5 * x + j) := fun j hj z => by
    have := (ch j hj).2.1
    rw [← z] at this
    omega
  have rm : ∀ j, j < c x → ms (cn (5 * x + j)) + ms x ≤ 40 := fun j hj => by
    obtain ⟨g1, g2, g3⟩ := bb_T_in hT hx hj
    have k64 : cl (5 * x + j) < 64 := by omega
    have := hz (cl (5 * x + j)) k64
    have q := bb_pz_two (own := own) (ms := ms) (k := cl (5 * x + j)) (top + 1) (lv x - 1) (by omega)
    rw [show lv x - 1 + 1 = lv x from by omega, bb_T_nown hT hx hj (Nat.le_refl _) g2, bb_T_cown hT hx (l := lv x - 1) (by omega) hj (Nat.le_refl _) g2] at q
    omega
  refine bb_flush_law (MM := ms x) (fun m i P' vals' ms' so' fi' la' nu' => (P' = P ∧ vals' = vals) ∧
      (∀ n, n < N → (∀ j, j < c x → n ≠ cn (5 * x + j)) → ms' n = ms n ∧ bb_cs so fi la nu so' fi' la' nu' n) ∧
      (∀ j, j < c x → ms' (cn (5 * x + j)) ≤ ms (cn (5 * x + j)) + (m + if j < i then 1 else 0) ∧
        ∀ k o, k < 64 → cl (5 * x + j) ≤ k → k < bb_ce hi c cl x j → bb_fn ms' so' fi' la' nu' (cn (5 * x + j)) k o = bb_fo so fi la nu k (48 * x) (m + if j < i then 1 else 0) (bb_fn ms so fi la nu (cn (5 * x + j)) k o))) (by omega) n4 (by omega) ?_ ?_ ?_ ?_ ?_
  · intro m i P' vals' ms' so' fi' la' nu' hI
    exact (hI.2.1 x hx xnc).1
  · intro ps m i P' vals' ms' so' fi' la' nu' hm hi' hI hps
    obtain ⟨⟨e1, e2⟩, h1, h2⟩ := hI
    subst e1 e2
    obtain ⟨g1, g2, g3⟩ := bb_T_in hT hx hi'
    have y24 := (ch i hi').1
    have q1 := (h2 i hi').1
    rw [if_neg (by omega)] at q1
    have q2 := rm i hi'
    refine bb_hand1 (by omega) (by omega) n4 (by omega) l1 (by omega) g2 (by omega) (Nat.lt_of_lt_of_le y24 hN) (by omega) (fun ms2 so2 fi2 la2 nu2 u1 u2 u3 => ?_)
    refine hps _ _ _ _ _ _ _ ⟨⟨rfl, rfl⟩, ?_, ?_⟩
    · intro n hn hj
      obtain ⟨a1, a2⟩ := u2 n (hj i hi')
      obtain ⟨b1, b2⟩ := h1 n hn hj
      exact ⟨a1.trans b1, bb_cs_trans b2 a2⟩
    · intro j hj
      obtain ⟨v1, v2⟩ := h2 j hj
      by_cases z : j = i
      · subst z
        rw [if_pos (by omega)]
        refine ⟨by omega, fun k o hk k1 k2 => ?_⟩
        rw [u3 k o hk k1 k2, v2 k o hk k1 k2, if_neg (by omega)]
        obtain ⟨w1, w2, w3, w4⟩ := (h1 x hx xnc).2 m (by omega)
        show bb_st so' fi' la' nu' k (48 * x + m) _ = bb_st so fi la nu k (48 * x + m) _
        unfold bb_st
        rw [w1, w2, w3, w4]
        rfl
      · have ne : cn (5 * x + j) ≠ cn (5 * x + i) := fun w => z (bb_T_cinj hT hx l1 hj hi' w)
        obtain ⟨a1, a2⟩ := u2 _ ne
        have sm : (if j < i + 1 then 1 else 0) = (if j < i then 1 else 0) := by
          by_cases w : j < i
          · rw [if_pos w, if_pos (by omega)]
          · rw [if_neg w, if_neg (by omega)]
        rw [sm]
        refine ⟨by rw [a1]; exact v1, fun k o hk k1 k2 => ?_⟩
        rw [← v2 k o hk k1 k2]
        have b48 : ms' (cn (5 * x + j)) ≤ 48 := by
          have := rm j hj
          have : (if j < i then 1 else 0) ≤ 1 := by split <;> omega
          omega
        exact bb_fn_cs a2 a1 b48
  · intro m P' vals' ms' so' fi' la' nu' hI
    obtain ⟨h0, h1, h2⟩ := hI
    refine ⟨h0, h1, ?_⟩
    intro j hj
    have q := h2 j hj
    rw [if_pos hj] at q
    rw [if_neg (by omega)]
    exact q
  · intro P' vals' ms' so' fi' la' nu' hI
    obtain ⟨⟨e1, e2⟩, h1, h2⟩ := hI
    subst e1 e2
    have inr : ∀ l k, l ≤ top → k < 64 → (∃ j, j < c x ∧ own l k = cn (5 * x + j)) → own (lv x) k = x ∧ l + 1 = lv x := by
      intro l k hl hk hj
      obtain ⟨j, hj, e⟩ := hj
      obtain ⟨a1, a2, a3, a4⟩ := ch j hj
      obtain ⟨b1, b2, b3, b4⟩ := hT.2.2.2.1 l hl k hk
      rw [e] at b2 b3 b4
      refine ⟨?_, by omega⟩
      exact bb_T_nown hT hx hj (by omega) (by omega)
    have oth : ∀ l k, l ≤ top → k < 64 → own l k ≠ x → (own (lv x) k = x → l + 1 ≠ lv x) → ms' (own l k) = ms (own l k) ∧ bb_cs so fi la nu so' fi' la' nu' (own l k) := by
      intro l k hl hk nx ne
      refine h1 (own l k) (hT.2.2.2.1 l hl k hk).1 (fun j hj e => ?_)
      obtain ⟨q1, q2⟩ := inr l k hl hk ⟨j, hj, e⟩
      exact ne q1 q2
    have fd : ∀ k, k < 64 → own (lv x) k = x → ∀ l, lv x = l + 1 → ∃ j, j < c x ∧ own l k = cn (5 * x + j) ∧ cl (5 * x + j) ≤ k ∧ k < bb_ce hi c cl x j := by
      intro k hk e l el
      have q := hT.2.2.2.1 (lv x) n1 k hk
      rw [e] at q
      obtain ⟨j, j1, j2, j3⟩ := bb_T_find hT hx q.2.2.1 q.2.2.2
      exact ⟨j, j1, bb_T_cown hT hx el j1 j2 j3, j2, j3⟩
    refine h _ _ _ _ _ _ _ ⟨bb_ups _ _ _, ?_, ?_, ?_⟩
    · intro n hn nx hc'
      rcases hc' with hc' | hc'
      · omega
      · rw [bb_upn nx]; exact (h1 n hn hc').1
    · intro k hk
      refine bb_sv_flush (x := x) (l0 := lv x) (by omega) ?_ ?_ ?_ ?_ ?_ ?_
      · intro l hl e
        have := (hT.2.2.2.1 l (by omega) k hk).2.1
        rw [e] at this
        exact this.symm
      · intro _ o
        unfold bb_fn
        rw [bb_ups]
        rfl
      · intro _ z
        omega
      · intro e l el
        refine ⟨rfl, fun o => ?_⟩
        obtain ⟨j, j1, j2, j3, j4⟩ := fd k hk e l el
        rw [j2]
        have q := (h2 j j1).2 k o hk j3 j4
        rw [if_neg (by omega)] at q
        have nx : cn (5 * x + j) ≠ x := fun w => xnc j j1 w.symm
        have e3 : bb_fn (bb_up ms' x 0) so' fi' la' nu' (cn (5 * x + j)) k o = bb_fn ms' so' fi' la' nu' (cn (5 * x + j)) k o := by
          unfold bb_fn
          rw [bb_upn nx]
        rw [e3, q]
        rfl
      · intro _
        rfl
      · intro l hl nx ne o
        obtain ⟨a1, a2⟩ := oth l k (by omega) hk nx ne
        have b48 : ms (own l k) ≤ 48 := by
          have := hz k hk
          have := bb_pz_one (own := own) (ms := ms) (k := k) (top + 1) l hl
          omega
        exact bb_fn_cs a2 ((bb_upn nx).trans a1) b48
    · intro k hk
      refine bb_pz_flush (x := x) (l0 := lv x) (by omega) ?_ (bb_ups _ _ _) ?_ ?_
      · intro l hl e
        have := (hT.2.2.2.1 l (by omega) k hk).2.1
        rw [e] at this
        exact this.symm
      · intro e l el
        obtain ⟨j, j1, j2, j3, j4⟩ := fd k hk e l el
        have nx : cn (5 * x + j) ≠ x := fun w => xnc j j1 w.symm
        rw [j2, bb_upn nx]
        have q := (h2 j j1).1
        rw [if_neg (by omega)] at q
        omega
      · intro l hl nx ne
        rw [bb_upn nx]
        exact (oth l k (by omega) hk nx ne).1
  · refine ⟨⟨rfl, rfl⟩, fun n _ _ => ⟨rfl, bb_cs_rfl⟩, ?_⟩
    intro j hj
    rw [if_neg (by omega)]
    exact ⟨by omega, fun k o _ _ _ => rfl⟩
theorem bb_flush {post : SX → Prop} {x top : Nat} {own : Nat → Nat → Nat} (hT : bb_T (fun n => n < N) R top lv par lo hi c cl cn own) (hN : N ≤ 24) (t3 : top ≤ 3) (hx : x < N) (hz : ∀ k, k < 64 → bb_pz own ms k (top + 1) ≤ 40)
    (h : ∀ P' vals' ms' so' fi' la' nu', bb_FS N x top lv c cn own P vals ms so fi la nu P' vals' ms' so' fi' la' nu' → post (P', nI N, nI R, W, nI M, vals', bb_enc lv, par, bb_enc lo, bb_enc hi, bb_enc c, bb_enc cl, bb_enc cn, bb_enc ms', so', fi', la', nu', bb_enc q, mp, mv)) : wpX_flush post (P, nI N, nI R, W, nI M, vals, bb_enc lv, par, bb_enc lo, bb_enc hi, bb_enc c, bb_enc cl, bb_enc cn, bb_enc ms, so, fi, la, nu, bb_enc q, mp, mv) (nI x) := by
  by_cases g : lv x = 0
  · exact bb_flush0 hT hN hx hz g h
  · exact bb_flush1 hT hN t3 hx hz (by omega) h
end
end
section
/-! from the root down: the queue of nodes whose messages are to go on -/
def bb_Q (N R : Nat) (lv c cn ms : Nat → Nat) (a w : Nat) (q : Nat → Nat) : Prop :=
  a ≤ w ∧ (∀ p, p < w → q p < N) ∧ (∀ p r, p < w → r < w → q p = q r → p = r) ∧
  (∀ n, n < N → ms n ≤ 6 ∨ ∃ p, a ≤ p ∧ p < w ∧ q p = n) ∧
  (∀ p, p < w → q p = R ∨ ∃ r j, r < a ∧ 0 < lv (q r) ∧ j < c (q r) ∧ q p = cn (5 * q r + j))
def bb_Q1 (N R : Nat) (lv c cn ms : Nat → Nat) (x a i w : Nat) (q : Nat → Nat) : Prop :=
  (a < w ∧ q a = x) ∧ (∀ p, p < w → q p < N) ∧ (∀ p r, p < w → r < w → q p = q r → p = r) ∧
  (∀ n, n < N → ms n ≤ 6 ∨ (∃ p, a + 1 ≤ p ∧ p < w ∧ q p = n) ∨ (0 < lv x ∧ ∃ j, i ≤ j ∧ j < c x ∧ n = cn (5 * x + j))) ∧
  (∀ p, p < w → q p = R ∨ ∃ r j, r < a + 1 ∧ 0 < lv (q r) ∧ j < c (q r) ∧ q p = cn (5 * q r + j) ∧ (r = a → j < i))
section
variable {N R : Nat} {lv c cn ms ms' q : Nat → Nat} {a w x i : Nat}
theorem bb_Q_in (h : bb_Q N R lv c cn ms a w q) (hw : a < w) (hx : q a = x) (h0 : ms' x = 0) (ho : ∀ n, n < N → n ≠ x → (lv x = 0 ∨ ∀ i, i < c x → n ≠ cn (5 * x + i)) → ms' n = ms n) : bb_Q1 N R lv c cn ms' x a 0 w q := by
  obtain ⟨h1, h2, h3, h4, h5⟩ := h
  refine ⟨⟨hw, hx⟩, h2, h3, ?_, ?_⟩
  · intro n hn
    by_cases e : n = x
    · left; rw [e, h0]; omega
    · by_cases l0 : lv x = 0
      · rw [ho n hn e (Or.inl l0)]
        rcases h4 n hn with g | ⟨p, p1, p2, p3⟩
        · exact Or.inl g
        · refine Or.inr (Or.inl ⟨p, ?_, p2, p3⟩)
          have : p ≠ a := fun z => e (by rw [← p3, z, hx])
          omega
      · by_cases g : ∃ j, j < c x ∧ n = cn (5 * x + j)
        · obtain ⟨j, j1, j2⟩ := g
          exact Or.inr (Or.inr ⟨by omega, j, by omega, j1, j2⟩)
        · rw [ho n hn e (Or.inr (fun j hj z => g ⟨j, hj, z⟩))]
          rcases h4 n hn with g | ⟨p, p1, p2, p3⟩
          · exact Or.inl g
          · refine Or.inr (Or.inl ⟨p, ?_, p2, p3⟩)
            have : p ≠ a := fun z => e (by rw [← p3, z, hx])
            omega
  · intro p hp
    rcases h5 p hp with g | ⟨r, j, r1, r2, r3, r4⟩
    · exact Or.inl g
    · exact Or.inr ⟨r, j, by omega, r2, r3, r4, fun z => by omega⟩
theorem bb_Q_out (h : bb_Q1 N R lv c cn ms x a i w q) (hi : lv x = 0 ∨ c x ≤ i) : bb_Q N R lv c cn ms (a + 1) w q := by
  obtain ⟨h1, h2, h3, h4, h5⟩ := h
  refine ⟨by omega, h2, h3, ?_, ?_⟩
  · intro n hn
    rcases h4 n hn with g | g | ⟨g1, j, j1, j2, j3⟩
    · exact Or.inl g
    · exact Or.inr g
    · omega
  · intro p hp
    rcases h5 p hp with g | ⟨r, j, r1, r2, r3, r4, _⟩
    · exact Or.inl g
    · exact Or.inr ⟨r, j, r1, r2, r3, r4⟩
theorem bb_Q_skip (h : bb_Q1 N R lv c cn ms x a i w q) (hm : ms (cn (5 * x + i)) ≤ 6) : bb_Q1 N R lv c cn ms x a (i + 1) w q := by
  obtain ⟨h1, h2, h3, h4, h5⟩ := h
  refine ⟨h1, h2, h3, ?_, ?_⟩
  · intro n hn
    rcases h4 n hn with g | g | ⟨g1, j, j1, j2, j3⟩
    · exact Or.inl g
    · exact Or.inr (Or.inl g)
    · by_cases e : j = i
      · left; rw [j3, e]; exact hm
      · exact Or.inr (Or.inr ⟨g1, j, by omega, j2, j3⟩)
  · intro p hp
    rcases h5 p hp with g | ⟨r, j, r1, r2, r3, r4, r5⟩
    · exact Or.inl g
    · exact Or.inr ⟨r, j, r1, r2, r3, r4, fun z => by have := r5 z; omega⟩
theorem bb_Q_put {top : Nat} {par : Nat → Int32} {lo hi cl : Nat → Nat} {own : Nat → Nat → Nat} (hT : bb_T (fun n => n < N) R top lv par lo hi c cl cn own) (h : bb_Q1 N R lv c cn ms x a i w q) (l1 : 0 < lv x) (hi' : i < c x) : bb_Q1 N R lv c cn ms x a (i + 1) (w + 1) (bb_up q w (cn (5 * x + i))) := by
  obtain ⟨⟨h0, h1⟩, h2, h3, h4, h5⟩ := h
  have hx : x < N := by rw [← h1]; exact h2 a h0
  have y := hT.2.2.2.2.2.2.1 x hx l1 i hi'
  have nq : ∀ p, p < w → q p ≠ cn (5 * x + i) := by
    intro p hp z
    rcases h5 p hp with g | ⟨r, j, r1, r2, r3, r4, r5⟩
    · exact bb_T_cneR hT hx l1 hi' (z.symm.trans g)
    · have e := bb_T_up hT (h2 r (by omega)) hx r2 l1 r3 hi' (r4.symm.trans z)
      have ra : r = a := h3 r a (by omega) h0 (by rw [e, h1])
      rw [e] at r3 r4
      have := bb_T_cinj hT hx l1 r3 hi' (r4.symm.trans z)
      have := r5 ra
      omega
  refine ⟨⟨by omega, by rw [bb_upn (by omega)]; exact h1⟩, ?_, ?_, ?_, ?_⟩
  · intro p hp
    by_cases e : p = w
    · rw [e, bb_ups]; exact y.1
    · rw [bb_upn e]; exact h2 p (by omega)
  · intro p r hp hr
    by_cases e : p = w
    · by_cases e2 : r = w
      · intro _; omega
      · rw [e, bb_ups, bb_upn e2]
        intro z
        exact absurd z.symm (nq r (by omega))
    · by_cases e2 : r = w
      · rw [e2, bb_ups, bb_upn e]
        intro z
        exact absurd z (nq p (by omega))
      · rw [bb_upn e, bb_upn e2]
        exact h3 p r (by omega) (by omega)
  · intro n hn
    rcases h4 n hn with g | ⟨p, p1, p2, p3⟩ | ⟨g1, j, j1, j2, j3⟩
    · exact Or.inl g
    · exact Or.inr (Or.inl ⟨p, p1, by omega, by rw [bb_upn (by omega)]; exact p3⟩)
    · by_cases e : j = i
      · exact Or.inr (Or.inl ⟨w, by omega, by omega, by rw [bb_ups, j3, e]⟩)
      · exact Or.inr (Or.inr ⟨g1, j, by omega, j2, j3⟩)
  · intro p hp
    by_cases e : p = w
    · refine Or.inr ⟨a, i, by omega, ?_, ?_, ?_, fun _ => by omega⟩
      · rw [bb_upn (by omega), h1]; exact l1
      · rw [bb_upn (by omega), h1]; exact hi'
      · rw [e, bb_ups, bb_upn (by omega), h1]
    · rw [bb_upn e]
      rcases h5 p (by omega) with g | ⟨r, j, r1, r2, r3, r4, r5⟩
      · exact Or.inl g
      · refine Or.inr ⟨r, j, r1, ?_⟩
        rw [bb_upn (show r ≠ w by omega)]
        exact ⟨r2, r3, r4, fun z => by have := r5 z; omega⟩
end
section
variable {P : Int64} {N R : Nat} {W : Int32} {M : Nat} {vals : Nat → Int32} {lv : Nat → Nat} {par : Nat → Int32} {lo hi c cl cn ms : Nat → Nat} {so fi la nu : Nat → Int32} {q : Nat → Nat} {mp : Nat → Int64} {mv : Nat → Int32}
theorem bb_down_in {post : SX → Prop} {J : Int32 → Int64 → Int32 → Int32 → Int32 → Int32 → (Nat → Int32) → (Nat → Int32) → (Nat → Int32) → (Nat → Int32) → (Nat → Int32) → (Nat → Int32) → (Nat → Int32) → (Nat → Int32) → (Nat → Int32) → (Nat → Int32) → (Nat → Int32) → (Nat → Int32) → (Nat → Int32) → (Nat → Int32) → (Nat → Int64) → (Nat → Int32) → Prop} {top : Nat} {own : Nat → Nat → Nat} {x a : Nat}
    (hT : bb_T (fun n => n < N) R top lv par lo hi c cl cn own) (hN : N ≤ 15) (t3 : top ≤ 3) (hms : ∀ n, n < N → ms n ≤ 48)
    (H : ∀ w q, bb_Q N R lv c cn ms (a + 1) w q → J (nI (a + 1)) P (nI N) (nI R) (nI w) (nI M) vals (bb_enc lv) par (bb_enc lo) (bb_enc hi) (bb_enc c) (bb_enc cl) (bb_enc cn) (bb_enc ms) so fi la nu (bb_enc q) mp mv) :
    ∀ n i w q, c x < n + i → i ≤ c x → bb_Q1 N R lv c cn ms x a i w q → wX_flushDown_64 post J 6 (nI a) (nI x) P (nI N) (nI R) (nI M) n (nI i) (nI w) vals (bb_enc lv) par (bb_enc lo) (bb_enc hi) (bb_enc c) (bb_enc cl) (bb_enc cn) (bb_enc ms) so fi la nu (bb_enc q) mp mv := by
  intro n
  induction n with
  | zero =>
    intro i w q h1 h2 hQ
    omega
  | succ n ih =>
    intro i w q h1 h2 hQ
    have hx : x < N := by rw [← hQ.1.2]; exact hQ.2.1 a hQ.1.1
    have ix : vp_in (nI x) 24 := vp_in_nI (by omega) (by omega)
    have n5 := hT.2.1 x hx
    have w15 : w ≤ N := bb_pigeon w N q hQ.2.1 hQ.2.2.1
    unfold wX_flushDown_64
    rw [nI_clamp (show x < 2 ^ 31 by omega)]
    refine ⟨ix, pk_le (c x) i (fun g => ?_) (fun g => ⟨ix, pk_le (lv x) 0 (fun g2 => ?_) (fun g2 => ?_)⟩)⟩
    · exact nm_r (nI_1 a) (H w q (bb_Q_out hQ (Or.inr g)))
    · exact nm_r (nI_1 a) (H w q (bb_Q_out hQ (Or.inl (by omega))))
    · rw [bb_m5, nI_add, nI_clamp (show 5 * x + i < 2 ^ 31 by omega)]
      have y := hT.2.2.2.2.2.2.1 x hx g2 i g
      have y1 : cn (5 * x + i) < N := y.1
      have my := hms _ y1
      refine ⟨vp_in_nI (by omega) (by omega), nm_r (bb_ea cn (5 * x + i)) ?_⟩
      rw [nI_clamp (show cn (5 * x + i) < 2 ^ 31 by omega)]
      refine ⟨vp_in_nI (by omega) (by omega), pk_le (ms (cn (5 * x + i))) 6 (fun g3 => ?_) (fun g3 => ?_)⟩
      · exact nm_r (nI_1 i) (ih (i + 1) w q (by omega) (by omega) (bb_Q_skip hQ g3))
      · rw [nI_clamp (show w < 2 ^ 31 by omega)]
        refine ⟨vp_in_nI (by omega) (by omega), nm_r (bb_eu q w _) (nm_r (nI_1 w) (nm_r (nI_1 i) ?_))⟩
        exact ih (i + 1) (w + 1) _ (by omega) (by omega) (bb_Q_put hT hQ g2 g)
theorem bb_down_lp {post : SX → Prop} {top : Nat} {own : Nat → Nat → Nat} {s : Nat → Option Int32}
    (hT : bb_T (fun n => n < N) R top lv par lo hi c cl cn own) (hN : N ≤ 15) (t3 : top ≤ 3)
    (H : ∀ P' W' vals' ms' so' fi' la' nu' q', (∀ n, n < N → ms' n ≤ 6) → (∀ k, k < 64 → bb_sv own (bb_fn ms' so' fi' la' nu') (bb_lf P' vals') k (top + 1) = s k) → post (P', nI N, nI R, W', nI M, vals', bb_enc lv, par, bb_enc lo, bb_enc hi, bb_enc c, bb_enc cl, bb_enc cn, bb_enc ms', so', fi', la', nu', bb_enc q', mp, mv)) :
    ∀ n a w P vals ms so fi la nu q, 25 < n + a → bb_Q N R lv c cn ms a w q → (∀ k, k < 64 → bb_pz own ms k (top + 1) ≤ 40) → (∀ k, k < 64 → bb_sv own (bb_fn ms so fi la nu) (bb_lf P vals) k (top + 1) = s k) → wX_flushDown_35 post 6 n (nI a) P (nI N) (nI R) (nI w) (nI M) vals (bb_enc lv) par (bb_enc lo) (bb_enc hi) (bb_enc c) (bb_enc cl) (bb_enc cn) (bb_enc ms) so fi la nu (bb_enc q) mp mv := by
  intro n
  induction n with
  | zero =>
    intro a w P vals ms so fi la nu q h1 hQ
    have := bb_pigeon w N q hQ.2.1 hQ.2.2.1
    have := hQ.1
    omega
  | succ n ih =>
    intro a w P vals ms so fi la nu q h1 hQ hz hs
    have w15 := bb_pigeon w N q hQ.2.1 hQ.2.2.1
    have aw := hQ.1
    unfold wX_flushDown_35
    refine pk_le w a (fun g => ?_) (fun g => br_f ?_ ?_)
    · refine H P _ vals ms so fi la nu q (fun n hn => ?_) hs
      rcases hQ.2.2.2.1 n hn with z | ⟨p, p1, p2, p3⟩
      · exact z
      · omega
    · exact nI_ge (b := 24) (by omega) (by decide)
    · rw [nI_clamp (show a < 2 ^ 31 by omega)]
      refine ⟨vp_in_nI (by omega) (by omega), nm_r (bb_ea q a) ?_⟩
      have hx := hQ.2.1 a g
      refine bb_flush hT (by omega) t3 hx hz (fun P' vals' ms' so' fi' la' nu' hF => ?_)
      obtain ⟨f1, f2, f3, f4⟩ := hF
      have hz' : ∀ k, k < 64 → bb_pz own ms' k (top + 1) ≤ 40 := fun k hk => Nat.le_trans (f4 k hk) (hz k hk)
      dsimp only
      refine ⟨c (q a) + 1, ?_⟩
      refine bb_down_in (x := q a) (a := a) hT hN t3 (fun n hn => ?_) ?_ (c (q a) + 1) 0 w q (by omega) (by omega) (bb_Q_in hQ g rfl f1 f2)
      · have l := bb_T_lo hT hn
        have l64 := (hT.2.1 n hn)
        have q1 := hz' (lo n) (by omega)
        have q2 := bb_pz_one (own := own) (ms := ms') (k := lo n) (top + 1) (lv n) (by omega)
        have q3 := hT.2.2.1 n hn (lo n) (Nat.le_refl _) l
        rw [q3] at q2
        omega
      · intro w2 q2 hQ2
        exact ih (a + 1) w2 P' vals' ms' so' fi' la' nu' q2 (by omega) hQ2 hz' (fun k hk => (f3 k hk).trans (hs k hk))
theorem bb_down {post : SX → Prop} {top : Nat} {own : Nat → Nat → Nat}
    (hT : bb_T (fun n => n < N) R top lv par lo hi c cl cn own) (hN : N ≤ 15) (t3 : top ≤ 3) (h6 : ∀ n, n < N → n ≠ R → ms n ≤ 6) (h7 : ms R ≤ 7)
    (H : ∀ P' W' vals' ms' so' fi' la' nu' q', (∀ n, n < N → ms' n ≤ 6) → (∀ k, k < 64 → bb_sv own (bb_fn ms' so' fi' la' nu') (bb_lf P' vals') k (top + 1) = bb_sv own (bb_fn ms so fi la nu) (bb_lf P vals) k (top + 1)) → post (P', nI N, nI R, W', nI M, vals', bb_enc lv, par, bb_enc lo, bb_enc hi, bb_enc c, bb_enc cl, bb_enc cn, bb_enc ms', so', fi', la', nu', bb_enc q', mp, mv)) :
    wpX_flushDown post (P, nI N, nI R, W, nI M, vals, bb_enc lv, par, bb_enc lo, bb_enc hi, bb_enc c, bb_enc cl, bb_enc cn, bb_enc ms, so, fi, la, nu, bb_enc q, mp, mv) 6 := by
  have rN := hT.1.1
  have hz : ∀ k, k < 64 → bb_pz own ms k (top + 1) ≤ 40 := by
    intro k hk
    have := bb_pz_le (own := own) (ms := ms) (k := k) (b := 7) (top + 1) (fun l hl => by
      have := (hT.2.2.2.1 l (by omega) k hk).1
      by_cases e : own l k = R
      · rw [e]; exact h7
      · have := h6 _ this e; omega)
    omega
  have rN' : R < N := rN
  unfold wpX_flushDown
  dsimp only
  rw [nI_clamp (show R < 2 ^ 31 by omega)]
  refine ⟨vp_in_nI (by omega) (by omega), pk_le (ms R) 6 (fun g => ⟨26, ?_⟩) (fun g => nm_r (bb_eu q 0 R) ⟨26, ?_⟩)⟩
  · refine bb_down_lp hT hN t3 H 26 0 0 P vals ms so fi la nu q (by omega) ?_ hz (fun k hk => rfl)
    refine ⟨Nat.le_refl _, fun p hp => by omega, fun p r hp => by omega, fun n hn => Or.inl ?_, fun p hp => by omega⟩
    by_cases e : n = R
    · rw [e]; exact g
    · exact h6 n hn e
  · refine bb_down_lp hT hN t3 H 26 0 1 P vals ms so fi la nu (bb_up q 0 R) (by omega) ?_ hz (fun k hk => rfl)
    refine ⟨by omega, fun p hp => ?_, fun p r hp hr _ => by omega, fun n hn => ?_, fun p hp => Or.inl ?_⟩
    · rw [show p = 0 from by omega, bb_ups]; exact rN
    · by_cases e : n = R
      · exact Or.inr ⟨0, by omega, by omega, by rw [bb_ups, e]⟩
      · exact Or.inl (h6 n hn e)
    · rw [show p = 0 from by omega, bb_ups]
end
end
section
/-! keys counted, the middle one, a child put in -/
def bb_ct (P : Int64) (a : Nat) : Nat → Nat
  | 0 => 0
  | d + 1 => bb_ct P a d + (if bb_b P (a + d) = true then 1 else 0)
theorem bb_ct_le (P : Int64) (a : Nat) : ∀ d, bb_ct P a d ≤ d := by
  intro d
  induction d with
  | zero => exact Nat.le_refl _
  | succ d ih =>
    show bb_ct P a d + (if bb_b P (a + d) = true then 1 else 0) ≤ d + 1
    split <;> omega
theorem bb_ct_add (P : Int64) (a d : Nat) : ∀ j, bb_ct P a d ≤ bb_ct P a (d + j) ∧ bb_ct P a (d + j) ≤ bb_ct P a d + j := by
  intro j
  induction j with
  | zero => exact ⟨Nat.le_refl _, Nat.le_refl _⟩
  | succ j ih =>
    show bb_ct P a d ≤ bb_ct P a (d + j) + (if bb_b P (a + (d + j)) = true then 1 else 0) ∧ bb_ct P a (d + j) + (if bb_b P (a + (d + j)) = true then 1 else 0) ≤ bb_ct P a d + (j + 1)
    split <;> omega
theorem bb_ct_t {P : Int64} {a d : Nat} (h : bb_b P (a + d) = true) : bb_ct P a (d + 1) = bb_ct P a d + 1 := by
  show bb_ct P a d + (if bb_b P (a + d) = true then 1 else 0) = _
  rw [if_pos h]
theorem bb_ct_f {P : Int64} {a d : Nat} (h : bb_b P (a + d) = false) : bb_ct P a (d + 1) = bb_ct P a d := by
  show bb_ct P a d + (if bb_b P (a + d) = true then 1 else 0) = _
  rw [if_neg (by rw [h]; decide)]
  rfl
section
variable {P : Int64} {N R : Nat} {W : Int32} {M : Nat} {vals : Nat → Int32} {lv : Nat → Nat} {par : Nat → Int32} {lo hi c cl cn ms : Nat → Nat} {so fi la nu : Nat → Int32} {q : Nat → Nat} {mp : Nat → Int64} {mv : Nat → Int32}
theorem bb_keysIn_lp {post : Int32 → Prop} {a b : Nat} (ha : a < 2 ^ 30) (hb : b ≤ 64) (h : post (nI (bb_ct P a (b - a)))) :
    ∀ n d, 65 < n + d → (a + d ≤ b ∨ d = 0) → wX_keysIn_5 post (nI b) P (nI N) (nI R) W (nI M) vals (bb_enc lv) par (bb_enc lo) (bb_enc hi) (bb_enc c) (bb_enc cl) (bb_enc cn) (bb_enc ms) so fi la nu (bb_enc q) mp mv n (nI (bb_ct P a d)) (nI (a + d)) := by
  intro n
  induction n with
  | zero => intro d h1 h2; omega
  | succ n ih =>
    intro d h1 h2
    unfold wX_keysIn_5
    refine pk_le b (a + d) (fun g => ?_) (fun g => bb_bit (by omega) (bb_bi_br (fun e => ?_) (fun e => ?_)))
    · rw [show d = b - a from by omega]
      exact h
    · refine nm_r (e' := nI (bb_ct P a (d + 1))) ?_ (nm_r (nI_1 (a + d)) (ih (d + 1) (by omega) (by omega)))
      rw [bb_ct_f e]
      exact nI_add _ 0
    · refine nm_r (e' := nI (bb_ct P a (d + 1))) ?_ (nm_r (nI_1 (a + d)) (ih (d + 1) (by omega) (by omega)))
      rw [bb_ct_t e]
      exact nI_1 _
theorem bb_keysIn {post : Int32 → Prop} {a b : Nat} (ha : a < 2 ^ 30) (hb : b ≤ 64) (h : post (nI (bb_ct P a (b - a)))) : wpX_keysIn post (P, nI N, nI R, W, nI M, vals, bb_enc lv, par, bb_enc lo, bb_enc hi, bb_enc c, bb_enc cl, bb_enc cn, bb_enc ms, so, fi, la, nu, bb_enc q, mp, mv) (nI a) (nI b) := by
  unfold wpX_keysIn
  exact ⟨66, bb_keysIn_lp ha hb h 66 0 (by omega) (Or.inr rfl)⟩
theorem bb_mid_28 {post : Int32 → Prop} {J : Int32 → Int32 → Prop} {r k : Nat} (hk : k < 64) (hr : bb_b P k = true → 0 < r) (h : J (nI (r - if bb_b P k = true then 1 else 0)) (nI (k + 1))) : wX_middleOf_28 post J (nI r) (nI k) P (nI N) (nI R) W (nI M) vals (bb_enc lv) par (bb_enc lo) (bb_enc hi) (bb_enc c) (bb_enc cl) (bb_enc cn) (bb_enc ms) so fi la nu (bb_enc q) mp mv := by
  unfold wX_middleOf_28
  refine bb_bit hk (bb_bi_br (fun e => ?_) (fun e => ?_))
  · refine nm_r (e' := nI (r - if bb_b P k = true then 1 else 0)) ?_ (nm_r (nI_1 k) h)
    rw [if_neg (by rw [e]; decide)]
    exact pk_sub (b := 0) (by omega)
  · refine nm_r (e' := nI (r - if bb_b P k = true then 1 else 0)) ?_ (nm_r (nI_1 k) h)
    rw [if_pos e]
    exact pk_sub (b := 1) (hr e)
theorem bb_mid_lp {post : Int32 → Prop} {l e t : Nat} (he : e ≤ 64) (hle : l ≤ e) (hn : bb_ct P l (e - l) = t) (h8 : 8 < t) (h : ∀ m, l + 4 ≤ m → m + 4 ≤ e → post (nI m)) :
    ∀ n d, 65 < n + (l + d) → bb_ct P l d ≤ t / 2 → d ≤ e - l → wX_middleOf_5 post P (nI N) (nI R) W (nI M) vals (bb_enc lv) par (bb_enc lo) (bb_enc hi) (bb_enc c) (bb_enc cl) (bb_enc cn) (bb_enc ms) so fi la nu (bb_enc q) mp mv n (nI (t / 2 - bb_ct P l d)) (nI (l + d)) := by
  intro n
  induction n with
  | zero => intro d h1 h2 h3; omega
  | succ n ih =>
    intro d h1 h2 h3
    have dl : d < e - l := by
      by_cases z : d = e - l
      · rw [z, hn] at h2; omega
      · omega
    obtain ⟨a1, a2⟩ := bb_ct_add P l d (e - l - d)
    rw [show d + (e - l - d) = e - l from by omega, hn] at a1 a2
    have t64 := bb_ct_le P l (e - l)
    rw [hn] at t64
    have nx : (bb_b P (l + d) = true → 0 < t / 2 - bb_ct P l d) → wX_middleOf_28 post (wX_middleOf_5 post P (nI N) (nI R) W (nI M) vals (bb_enc lv) par (bb_enc lo) (bb_enc hi) (bb_enc c) (bb_enc cl) (bb_enc cn) (bb_enc ms) so fi la nu (bb_enc q) mp mv n) (nI (t / 2 - bb_ct P l d)) (nI (l + d)) P (nI N) (nI R) W (nI M) vals (bb_enc lv) par (bb_enc lo) (bb_enc hi) (bb_enc c) (bb_enc cl) (bb_enc cn) (bb_enc ms) so fi la nu (bb_enc q) mp mv := by
      intro hr
      refine bb_mid_28 (by omega) hr ?_
      cases hb : bb_b P (l + d)
      · have := ih (d + 1) (by omega) (by rw [bb_ct_f hb]; exact h2) (by omega)
        rw [bb_ct_f hb] at this
        exact this
      · have z := hr hb
        have := ih (d + 1) (by omega) (by rw [bb_ct_t hb]; omega) (by omega)
        rw [bb_ct_t hb, show t / 2 - (bb_ct P l d + 1) = t / 2 - bb_ct P l d - 1 from by omega] at this
        exact this
    unfold wX_middleOf_5
    refine br_f ?_ (pk_lt 0 (t / 2 - bb_ct P l d) (fun g => nx (fun _ => g)) (fun g => bb_bit (by omega) (bb_bi_br (fun e => nx (fun z => by rw [e] at z; exact absurd z (by decide))) (fun e => ?_))))
    · refine nI_ge (b := 63) (a := l + d) ?_ (by decide)
      omega
    · have d4 := bb_ct_le P l d
      exact h (l + d) (by omega) (by omega)
theorem bb_mid {post : Int32 → Prop} {l e t : Nat} (he : e ≤ 64) (hle : l ≤ e) (hn : bb_ct P l (e - l) = t) (h8 : 8 < t) (h : ∀ m, l + 4 ≤ m → m + 4 ≤ e → post (nI m)) : wpX_middleOf post (P, nI N, nI R, W, nI M, vals, bb_enc lv, par, bb_enc lo, bb_enc hi, bb_enc c, bb_enc cl, bb_enc cn, bb_enc ms, so, fi, la, nu, bb_enc q, mp, mv) (nI l) (nI (t / 2)) := by
  unfold wpX_middleOf
  exact ⟨66, bb_mid_lp he hle hn h8 h 66 0 (by omega) (Nat.zero_le _) (Nat.zero_le _)⟩
def bb_sh1 (a p m C : Nat) (g g' : Nat → Nat) : Prop :=
  (∀ n, n ≠ a → ∀ j, j < 5 → g' (5 * n + j) = g (5 * n + j)) ∧ (∀ j, j < p → g' (5 * a + j) = g (5 * a + j)) ∧ g' (5 * a + p) = m ∧ (∀ j, p < j → j ≤ C → g' (5 * a + j) = g (5 * a + (j - 1)))
/-- on the way: what lies behind k is shifted -/
def bb_sh0 (a k C : Nat) (g g' : Nat → Nat) : Prop :=
  (∀ n, n ≠ a → ∀ j, j < 5 → g' (5 * n + j) = g (5 * n + j)) ∧ (∀ j, j ≤ k → g' (5 * a + j) = g (5 * a + j)) ∧ (∀ j, k < j → j ≤ C → g' (5 * a + j) = g (5 * a + (j - 1)))
theorem bb_sh0_step {a k C : Nat} {g g' : Nat → Nat} (hC : C ≤ 4) (h : bb_sh0 a (k + 1) C g g') (hk : k + 1 ≤ C) : bb_sh0 a k C g (bb_up g' (5 * a + (k + 1)) (g' (5 * a + k))) := by
  obtain ⟨h1, h2, h3⟩ := h
  refine ⟨fun n hn j hj => ?_, fun j hj => ?_, fun j hj hc => ?_⟩
  · rw [bb_upn (by omega)]; exact h1 n hn j hj
  · rw [bb_upn (by omega)]; exact h2 j (by omega)
  · by_cases e : j = k + 1
    · rw [e, bb_ups]; exact h2 k (by omega)
    · rw [bb_upn (by omega)]; exact h3 j (by omega) hc
theorem bb_sh0_end {a p m C : Nat} {g g' : Nat → Nat} (hC : C ≤ 4) (hp : p ≤ C) (h : bb_sh0 a p C g g') : bb_sh1 a p m C g (bb_up g' (5 * a + p) m) := by
  obtain ⟨h1, h2, h3⟩ := h
  refine ⟨fun n hn j hj => ?_, fun j hj => ?_, bb_ups _ _ _, fun j hj hc => ?_⟩
  · rw [bb_upn (by omega)]; exact h1 n hn j hj
  · rw [bb_upn (by omega)]; exact h2 j (by omega)
  · rw [bb_upn (by omega)]; exact h3 j hj hc
theorem bb_insert_lp {post : SX → Prop} {a p m f : Nat} {cl0 cn0 : Nat → Nat} (ha : a < 24) (hp : p ≤ c a) (c4 : c a ≤ 4)
    (h : ∀ cl' cn', bb_sh1 a p m (c a) cl0 cl' → bb_sh1 a p f (c a) cn0 cn' → post (P, nI N, nI R, W, nI M, vals, bb_enc lv, par, bb_enc lo, bb_enc hi, bb_enc (bb_up c a (c a + 1)), bb_enc cl', bb_enc cn', bb_enc ms, so, fi, la, nu, bb_enc q, mp, mv)) :
    ∀ n k cl cn, k < n + p → p ≤ k → k ≤ c a → bb_sh0 a k (c a) cl0 cl → bb_sh0 a k (c a) cn0 cn → wX_insertChild_8 post (nI a) (nI p) (nI m) (nI f) P (nI N) (nI R) W (nI M) n (nI k) vals (bb_enc lv) par (bb_enc lo) (bb_enc hi) (bb_enc c) (bb_enc cl) (bb_enc cn) (bb_enc ms) so fi la nu (bb_enc q) mp mv := by
  intro n
  induction n with
  | zero => intro k cl cn h1 h2; omega
  | succ n ih =>
    intro k cl cn h1 h2 h3 s1 s2
    unfold wX_insertChild_8
    refine pk_le k p (fun g => ?_) (fun g => ?_)
    · have e : k = p := by omega
      subst e
      rw [bb_m5, nI_add, nI_clamp (show 5 * a + k < 2 ^ 31 by omega), nI_clamp (show a < 2 ^ 31 by omega)]
      have i1 : vp_in (nI (5 * a + k)) 120 := vp_in_nI (by omega) (by omega)
      have i2 : vp_in (nI a) 24 := vp_in_nI ha (by omega)
      refine ⟨i1, nm_r (bb_eu _ _ _) ⟨i1, nm_r (bb_eu _ _ _) ⟨i2, i2, nm_r (e' := bb_enc (bb_up c a (c a + 1))) ?_ ?_⟩⟩⟩
      · rw [bb_ea, nI_1, bb_eu]
      · exact h _ _ (bb_sh0_end c4 hp s1) (bb_sh0_end c4 hp s2)
    · obtain ⟨k', rfl⟩ : ∃ k', k = k' + 1 := ⟨k - 1, by omega⟩
      rw [bb_m5, nI_add, show nI (5 * a + (k' + 1)) - 1 = nI (5 * a + k') from nI_pred (5 * a + k'), nI_clamp (show 5 * a + (k' + 1) < 2 ^ 31 by omega), nI_clamp (show 5 * a + k' < 2 ^ 31 by omega)]
      have i1 : vp_in (nI (5 * a + (k' + 1))) 120 := vp_in_nI (by omega) (by omega)
      have i2 : vp_in (nI (5 * a + k')) 120 := vp_in_nI (by omega) (by omega)
      refine ⟨i2, i1, nm_r (bb_eu _ _ _) ⟨i2, i1, nm_r (bb_eu _ _ _) (nm_r (pk_m1 k') ?_)⟩⟩
      exact ih k' _ _ (by omega) (by omega) (by omega) (bb_sh0_step c4 s1 h3) (bb_sh0_step c4 s2 h3)
theorem bb_insert {post : SX → Prop} {a p m f : Nat} (ha : a < 24) (hp : p ≤ c a) (c4 : c a ≤ 4)
    (h : ∀ cl' cn', bb_sh1 a p m (c a) cl cl' → bb_sh1 a p f (c a) cn cn' → post (P, nI N, nI R, W, nI M, vals, bb_enc lv, par, bb_enc lo, bb_enc hi, bb_enc (bb_up c a (c a + 1)), bb_enc cl', bb_enc cn', bb_enc ms, so, fi, la, nu, bb_enc q, mp, mv)) : wpX_insertChild post (P, nI N, nI R, W, nI M, vals, bb_enc lv, par, bb_enc lo, bb_enc hi, bb_enc c, bb_enc cl, bb_enc cn, bb_enc ms, so, fi, la, nu, bb_enc q, mp, mv) (nI a) (nI p) (nI m) (nI f) := by
  unfold wpX_insertChild
  dsimp only
  rw [nI_clamp (show a < 2 ^ 31 by omega)]
  refine ⟨vp_in_nI ha (by omega), nm_r (bb_ea c a) ⟨c a + 1, ?_⟩⟩
  exact bb_insert_lp ha hp c4 h (c a + 1) (c a) cl cn (by omega) hp (Nat.le_refl _) ⟨fun _ _ _ _ => rfl, fun _ _ => rfl, fun j h1 h2 => by omega⟩ ⟨fun _ _ _ _ => rfl, fun _ _ => rfl, fun j h1 h2 => by omega⟩
end
end
section
/-! a node parted: the walk -/
def bb_cp (x f m : Nat) (ms : Nat → Nat) (so fi la nu : Nat → Int32) (ms' : Nat → Nat) (so' fi' la' nu' : Nat → Int32) : Prop :=
  ms' f = m ∧ (∀ n, n ≠ f → ms' n = ms n ∧ bb_cs so fi la nu so' fi' la' nu' n) ∧
  ∀ j, j < m → so' (48 * f + j) = so (48 * x + j) ∧ fi' (48 * f + j) = fi (48 * x + j) ∧ la' (48 * f + j) = la (48 * x + j) ∧ nu' (48 * f + j) = nu (48 * x + j)
theorem bb_cp_step {x f m : Nat} {ms : Nat → Nat} {so fi la nu : Nat → Int32} {ms' : Nat → Nat} {so' fi' la' nu' : Nat → Int32} (xf : x ≠ f) (hm : m < 48) (h : bb_cp x f m ms so fi la nu ms' so' fi' la' nu') :
    bb_cp x f (m + 1) ms so fi la nu (bb_up ms' f (ms' f + 1)) (upd so' (48 * f + ms' f) (so' (48 * x + m))) (upd fi' (48 * f + ms' f) (fi' (48 * x + m))) (upd la' (48 * f + ms' f) (la' (48 * x + m))) (upd nu' (48 * f + ms' f) (nu' (48 * x + m))) := by
  obtain ⟨h1, h2, h3⟩ := h
  refine ⟨by rw [bb_ups, h1], fun n hn => ?_, fun j hj => ?_⟩
  · obtain ⟨a1, a2⟩ := h2 n hn
    exact ⟨by rw [bb_upn hn, a1], bb_cs_trans a2 (bb_app_cs (by omega) hn)⟩
  · rw [h1]
    by_cases e : j = m
    · subst e
      rw [pk_us, pk_us, pk_us, pk_us]
      exact (h2 x xf).2 j hm
    · rw [pk_un (by omega), pk_un (by omega), pk_un (by omega), pk_un (by omega)]
      exact h3 j (by omega)
theorem bb_p3 (n : Nat) : nI n + 3 = nI (n + 3) := nI_add n 3
section
variable {P : Int64} {N R : Nat} {W : Int32} {M : Nat} {vals : Nat → Int32} {lv : Nat → Nat} {par : Nat → Int32} {lo hi c cl cn ms : Nat → Nat} {so fi la nu : Nat → Int32} {q : Nat → Nat} {mp : Nat → Int64} {mv : Nat → Int32}
theorem bb_pn168 {post : Int32 → SX → Prop} {x f : Nat} {ms0 : Nat → Nat} {so0 fi0 la0 nu0 : Nat → Int32} (xf : x ≠ f) (hx : x < 24) (hf : f < 24) (mx : ms0 x ≤ 47)
    (H : ∀ ms' so' fi' la' nu', bb_cp x f (ms0 x) ms0 so0 fi0 la0 nu0 ms' so' fi' la' nu' → post (nI f) (P, nI N, nI R, W, nI M, vals, bb_enc lv, par, bb_enc lo, bb_enc hi, bb_enc c, bb_enc cl, bb_enc cn, bb_enc ms', so', fi', la', nu', bb_enc q, mp, mv)) :
    ∀ n m ms so fi la nu, ms0 x < n + m → m ≤ ms0 x → bb_cp x f m ms0 so0 fi0 la0 nu0 ms so fi la nu → wX_partNode_168 post (nI x) (nI f) n (nI m) P (nI N) (nI R) W (nI M) vals (bb_enc lv) par (bb_enc lo) (bb_enc hi) (bb_enc c) (bb_enc cl) (bb_enc cn) (bb_enc ms) so fi la nu (bb_enc q) mp mv := by
  intro n
  induction n with
  | zero => intro m ms so fi la nu h1 h2; omega
  | succ n ih =>
    intro m ms so fi la nu h1 h2 hI
    have em : ms x = ms0 x := (hI.2.1 x xf).1
    have ef : ms f = m := hI.1
    unfold wX_partNode_168
    rw [nI_clamp (show x < 2 ^ 31 by omega)]
    refine ⟨vp_in_nI hx (by omega), pk_le (ms x) m (fun g => ?_) (fun g => nm_r (e' := nI (48 * x + m)) (by rw [bb_m48, nI_add]) ?_)⟩
    · have e : m = ms0 x := by omega
      rw [e] at hI
      exact H _ _ _ _ _ hI
    · have ia : vp_in (nI (48 * x + m)) 1152 := vp_in_nI (by omega) (by omega)
      rw [nI_clamp (show 48 * x + m < 2 ^ 31 by omega)]
      refine ⟨ia, ia, ia, ia, bb_post hf (by omega) ?_⟩
      dsimp only
      refine nm_r (nI_1 m) (ih (m + 1) _ _ _ _ _ (by omega) (by omega) (bb_cp_step xf (by omega) hI))
theorem bb_pn83_s {post : Int32 → SX → Prop} {x f k n : Nat} (hk : k < 2) (hx : x < 24) (hf : f < 24) (hcn : 0 < lv x → cn (5 * x + 3 + k) < 24) (lb : lv x < 2 ^ 31)
    (h : wX_partNode_83 post (nI x) (nI f) P (nI N) (nI R) W (nI M) n (nI (k + 1)) vals (bb_enc lv) (if 0 < lv x then upd par (cn (5 * x + 3 + k)) (nI f) else par) (bb_enc lo) (bb_enc hi) (bb_enc c) (bb_enc (bb_up cl (5 * f + k) (cl (5 * x + 3 + k)))) (bb_enc (bb_up cn (5 * f + k) (cn (5 * x + 3 + k)))) (bb_enc ms) so fi la nu (bb_enc q) mp mv) :
    wX_partNode_83 post (nI x) (nI f) P (nI N) (nI R) W (nI M) (n + 1) (nI k) vals (bb_enc lv) par (bb_enc lo) (bb_enc hi) (bb_enc c) (bb_enc cl) (bb_enc cn) (bb_enc ms) so fi la nu (bb_enc q) mp mv := by
  have i1 : vp_in (nI (5 * x + 3 + k)) 120 := vp_in_nI (by omega) (by omega)
  have i2 : vp_in (nI (5 * f + k)) 120 := vp_in_nI (by omega) (by omega)
  have ix : vp_in (nI x) 24 := vp_in_nI hx (by omega)
  unfold wX_partNode_83
  rw [bb_m5, bb_m5, bb_p3, nI_add, nI_add, nI_clamp (show 5 * x + 3 + k < 2 ^ 31 by omega), nI_clamp (show 5 * f + k < 2 ^ 31 by omega), nI_clamp (show x < 2 ^ 31 by omega)]
  refine br_f (nI_ge (b := 2) hk (by decide)) ⟨i1, nm_r (bb_ea cn _) ⟨i1, i2, nm_r (bb_eu _ _ _) ⟨i2, nm_r (bb_eu _ _ _) ⟨ix, pk_le (lv x) 0 (fun g => nm_r (nI_1 k) ?_) (fun g => ?_)⟩⟩⟩⟩
  · rw [if_neg (by omega)] at h
    exact h
  · rw [if_pos g] at h
    have z := hcn g
    rw [nI_clamp (show cn (5 * x + 3 + k) < 2 ^ 31 by omega)]
    exact ⟨vp_in_nI z (by omega), nm_e (nm_r (nI_1 k) h)⟩
theorem bb_pn83_e {post : Int32 → SX → Prop} {x f n : Nat} (xf : x ≠ f) (hx : x < 24) (hf : f < 24) (mx : ms x ≤ 47)
    (H : ∀ ms' so' fi' la' nu', bb_cp x f (ms x) ms so fi la nu ms' so' fi' la' nu' → post (nI f) (P, nI N, nI R, W, nI M, vals, bb_enc lv, par, bb_enc lo, bb_enc hi, bb_enc c, bb_enc cl, bb_enc cn, bb_enc ms', so', fi', la', nu', bb_enc q, mp, mv)) :
    wX_partNode_83 post (nI x) (nI f) P (nI N) (nI R) W (nI M) (n + 1) (nI 2) vals (bb_enc lv) par (bb_enc lo) (bb_enc hi) (bb_enc c) (bb_enc cl) (bb_enc cn) (bb_enc ms) so fi la nu (bb_enc q) mp mv := by
  unfold wX_partNode_83
  rw [nI_clamp (show f < 2 ^ 31 by omega)]
  refine br_t (by decide) ⟨vp_in_nI hf (by omega), nm_r (bb_eu ms f 0) ⟨ms x + 1, ?_⟩⟩
  have ex : bb_up ms f 0 x = ms x := bb_upn xf
  refine bb_pn168 (ms0 := bb_up ms f 0) (so0 := so) (fi0 := fi) (la0 := la) (nu0 := nu) xf hx hf (by omega) ?_ (ms x + 1) 0 _ _ _ _ _ (by omega) (by omega) ⟨bb_ups _ _ _, fun n _ => ⟨rfl, bb_cs_rfl⟩, fun j hj => by omega⟩
  intro ms' so' fi' la' nu' hI
  rw [ex] at hI
  obtain ⟨a1, a2, a3⟩ := hI
  refine H _ _ _ _ _ ⟨a1, fun n hn => ?_, a3⟩
  have := a2 n hn
  rw [bb_upn hn] at this
  exact this
def bb_pn (x f : Nat) (lv : Nat → Nat) (par : Nat → Int32) (cl cn : Nat → Nat) (par' : Nat → Int32) (cl' cn' : Nat → Nat) : Prop :=
  ((0 < lv x → par' (cn (5 * x + 3)) = nI f ∧ par' (cn (5 * x + 4)) = nI f ∧ ∀ n, n ≠ cn (5 * x + 3) → n ≠ cn (5 * x + 4) → par' n = par n) ∧ (lv x = 0 → ∀ n, par' n = par n)) ∧
  (cl' (5 * f) = cl (5 * x + 3) ∧ cl' (5 * f + 1) = cl (5 * x + 4) ∧ ∀ n, n ≠ f → ∀ j, j < 5 → cl' (5 * n + j) = cl (5 * n + j)) ∧
  (cn' (5 * f) = cn (5 * x + 3) ∧ cn' (5 * f + 1) = cn (5 * x + 4) ∧ ∀ n, n ≠ f → ∀ j, j < 5 → cn' (5 * n + j) = cn (5 * n + j))
theorem bb_two_up {g : Nat → Nat} {x f : Nat} (xf : x ≠ f) : bb_up (bb_up g (5 * f + 0) (g (5 * x + 3 + 0))) (5 * f + 1) (bb_up g (5 * f + 0) (g (5 * x + 3 + 0)) (5 * x + 3 + 1)) (5 * f) = g (5 * x + 3) ∧
    bb_up (bb_up g (5 * f + 0) (g (5 * x + 3 + 0))) (5 * f + 1) (bb_up g (5 * f + 0) (g (5 * x + 3 + 0)) (5 * x + 3 + 1)) (5 * f + 1) = g (5 * x + 4) ∧
    ∀ n, n ≠ f → ∀ j, j < 5 → bb_up (bb_up g (5 * f + 0) (g (5 * x + 3 + 0))) (5 * f + 1) (bb_up g (5 * f + 0) (g (5 * x + 3 + 0)) (5 * x + 3 + 1)) (5 * n + j) = g (5 * n + j) := by
  refine ⟨?_, ?_, fun n hn j hj => ?_⟩
  · rw [bb_upn (by omega)]; exact bb_ups _ _ _
  · rw [bb_ups, bb_upn (by omega)]
  · rw [bb_upn (by omega), bb_upn (by omega)]
theorem bb_partNode {post : Int32 → SX → Prop} {x : Nat} (hx : x < N) (hN : N < 24) (lb : lv x < 2 ^ 31) (hcn : 0 < lv x → cn (5 * x + 3) < 24 ∧ cn (5 * x + 4) < 24) (mx : ms x ≤ 47)
    (H : ∀ par' cl' cn' ms' so' fi' la' nu', bb_pn x N lv par cl cn par' cl' cn' → bb_cp x N (ms x) ms so fi la nu ms' so' fi' la' nu' →
      post (nI N) (P, nI (N + 1), nI R, W, nI M, vals, bb_enc (bb_up lv N (lv x)), par', bb_enc (bb_up lo N (cl (5 * x + 3))), bb_enc (bb_up (bb_up hi N (hi x)) x (cl (5 * x + 3))), bb_enc (bb_up (bb_up c N 2) x 3), bb_enc cl', bb_enc cn', bb_enc ms', so', fi', la', nu', bb_enc q, mp, mv)) :
    wpX_partNode post (P, nI N, nI R, W, nI M, vals, bb_enc lv, par, bb_enc lo, bb_enc hi, bb_enc c, bb_enc cl, bb_enc cn, bb_enc ms, so, fi, la, nu, bb_enc q, mp, mv) (nI x) := by
  have ix : vp_in (nI x) 24 := vp_in_nI (by omega) (by omega)
  have iN : vp_in (nI N) 24 := vp_in_nI hN (by omega)
  have i3 : vp_in (nI (5 * x + 3)) 120 := vp_in_nI (by omega) (by omega)
  have xf : x ≠ N := by omega
  unfold wpX_partNode
  dsimp only
  rw [bb_m5, bb_p3, nI_clamp (show 5 * x + 3 < 2 ^ 31 by omega), nI_clamp (show x < 2 ^ 31 by omega), nI_clamp (show N < 2 ^ 31 by omega)]
  refine nm_r (nI_1 N) ⟨ix, iN, nm_r (bb_eu lv N (lv x)) ⟨ix, iN, nm_r (bb_eu hi N (hi x)) ⟨i3, iN, nm_r (bb_eu lo N (cl (5 * x + 3))) ⟨iN, ix, nm_r (e' := bb_enc (bb_up (bb_up hi N (hi x)) x (cl (5 * x + 3)))) ?_ ⟨iN, nm_r (bb_eu c N 2) ⟨ix, nm_r (bb_eu _ x 3) ⟨3, ?_⟩⟩⟩⟩⟩⟩⟩
  · rw [bb_ea, bb_ups, bb_eu]
  · have lx : bb_up lv N (lv x) x = lv x := bb_upn xf
    refine bb_pn83_s (k := 0) (n := 2) (by omega) (by omega) hN (by rw [lx]; exact fun z => (hcn z).1) (by rw [lx]; exact lb) ?_
    refine bb_pn83_s (k := 1) (n := 1) (by omega) (by omega) hN (by rw [lx, bb_upn (by omega)]; exact fun z => (hcn z).2) (by rw [lx]; exact lb) ?_
    refine bb_pn83_e (n := 0) xf (by omega) hN mx ?_
    intro ms' so' fi' la' nu' hI
    refine H _ _ _ _ _ _ _ _ ⟨?_, bb_two_up xf, bb_two_up xf⟩ hI
    rw [lx, bb_upn (show 5 * x + 3 + 1 ≠ 5 * N + 0 by omega)]
    constructor
    · intro l0
      rw [if_pos l0, if_pos l0]
      refine ⟨?_, pk_us, fun n h1 h2 => ?_⟩
      · by_cases z : cn (5 * x + 3) = cn (5 * x + 4)
        · rw [z]; exact pk_us
        · exact (pk_un z).trans pk_us
      · exact (pk_un h2).trans (pk_un h1)
    · intro l0 n
      rw [if_neg (by omega), if_neg (by omega)]
theorem bb_growRoot {post : SX → Prop} {x : Nat} (hx : x < 24) (hN : N < 24)
    (H : post (P, nI (N + 1), nI N, W, nI M, vals, bb_enc (bb_up lv N (lv x + 1)), (upd (upd par N (-1)) x (nI N)), bb_enc (bb_up lo N 0), bb_enc (bb_up hi N 64), bb_enc (bb_up c N 1), bb_enc (bb_up cl (5 * N) 0), bb_enc (bb_up cn (5 * N) x), bb_enc (bb_up ms N 0), so, fi, la, nu, bb_enc q, mp, mv)) :
    wpX_growRoot post (P, nI N, nI R, W, nI M, vals, bb_enc lv, par, bb_enc lo, bb_enc hi, bb_enc c, bb_enc cl, bb_enc cn, bb_enc ms, so, fi, la, nu, bb_enc q, mp, mv) (nI x) := by
  have ix : vp_in (nI x) 24 := vp_in_nI (by omega) (by omega)
  have iN : vp_in (nI N) 24 := vp_in_nI hN (by omega)
  have i5 : vp_in (nI (5 * N)) 120 := vp_in_nI (by omega) (by omega)
  unfold wpX_growRoot
  dsimp only
  rw [bb_m5, nI_clamp (show 5 * N < 2 ^ 31 by omega), nI_clamp (show x < 2 ^ 31 by omega), nI_clamp (show N < 2 ^ 31 by omega)]
  exact nm_r (nI_1 N) ⟨ix, iN, nm_r (e' := bb_enc (bb_up lv N (lv x + 1))) (by rw [bb_ea, nI_1, bb_eu]) ⟨iN, nm_e ⟨iN, nm_r (bb_eu lo N 0) ⟨iN, nm_r (bb_eu hi N 64) ⟨iN, nm_r (bb_eu c N 1) ⟨i5, nm_r (bb_eu cl _ 0) ⟨i5, nm_r (bb_eu cn _ x) ⟨iN, nm_r (bb_eu ms N 0) ⟨ix, nm_e H⟩⟩⟩⟩⟩⟩⟩⟩⟩
theorem bb_link {post : SX → Prop} {J : Int32 → Int32 → Int64 → Int32 → Int32 → Int32 → Int32 → (Nat → Int32) → (Nat → Int32) → (Nat → Int32) → (Nat → Int32) → (Nat → Int32) → (Nat → Int32) → (Nat → Int32) → (Nat → Int32) → (Nat → Int32) → (Nat → Int32) → (Nat → Int32) → (Nat → Int32) → (Nat → Int32) → (Nat → Int32) → (Nat → Int64) → (Nat → Int32) → Prop} {x a f p i : Nat}
    (hx : x < 24) (ha : a < 24) (hf : f < 24) (hpar : par x = nI a) (c4 : c a ≤ 4) (hp : p < c a) (hcl : ∀ j, j < c a → cl (5 * a + j) < 2 ^ 31) (h1 : cl (5 * a + p) = lo x) (h2 : ∀ j, p < j → j < c a → lo x < cl (5 * a + j))
    (H : ∀ cl' cn', bb_sh1 a (p + 1) (lo f) (c a) cl cl' → bb_sh1 a (p + 1) f (c a) cn cn' → J (nI a) (nI (i + 1)) P (nI N) (nI R) W (nI M) vals (bb_enc lv) (upd par f (nI a)) (bb_enc lo) (bb_enc hi) (bb_enc (bb_up c a (c a + 1))) (bb_enc cl') (bb_enc cn') (bb_enc ms) so fi la nu (bb_enc q) mp mv) :
    wX_partNodes_45 post J (nI x) (nI i) (nI f) P (nI N) (nI R) W (nI M) vals (bb_enc lv) par (bb_enc lo) (bb_enc hi) (bb_enc c) (bb_enc cl) (bb_enc cn) (bb_enc ms) so fi la nu (bb_enc q) mp mv := by
  have ix : vp_in (nI x) 24 := vp_in_nI (by omega) (by omega)
  have iff : vp_in (nI f) 24 := vp_in_nI (by omega) (by omega)
  unfold wX_partNodes_45
  rw [nI_clamp (show x < 2 ^ 31 by omega), nI_clamp (show f < 2 ^ 31 by omega)]
  have lx : lo x < 2 ^ 31 := by rw [← h1]; exact hcl p hp
  refine ⟨ix, nm_r hpar ⟨iff, nm_e ⟨ix, bb_childFor ha (by omega) (by omega) hcl lx (fun r r1 r2 r3 => ⟨iff, ?_⟩)⟩⟩⟩
  have e : r = p := by
    rcases Nat.lt_trichotomy r p with g | g | g
    · have := r3 p g hp; omega
    · exact g
    · have := h2 r g r1
      omega
  subst e
  rw [nI_1 r]
  refine bb_insert ha (by omega) c4 (fun cl' cn' s1 s2 => ?_)
  dsimp only
  exact nm_r (nI_1 i) (H cl' cn' s1 s2)
end
end
section
/-! a node parted: what the arrays then say -/
def bb_J (b N R top : Nat) (lv : Nat → Nat) (par : Nat → Int32) (lo hi c cl cn ms : Nat → Nat) (own : Nat → Nat → Nat) : Prop :=
  bb_T (fun n => n < N) R top lv par lo hi c cl cn own ∧ bb_two (fun n => n < N) R top c ∧ (∀ n, n < N → c n ≤ 4) ∧ (∀ n, n < N → ms n ≤ b)
def bb_S (s : Nat → Option Int32) (P : Int64) (vals : Nat → Int32) (top : Nat) (ms : Nat → Nat) (so fi la nu : Nat → Int32) (own : Nat → Nat → Nat) : Prop :=
  ∀ k, k < 64 → bb_sv own (bb_fn ms so fi la nu) (bb_lf P vals) k (top + 1) = s k
def bb_K (b : Nat) (s : Nat → Option Int32) (P : Int64) (vals : Nat → Int32) (N R : Nat) (lv : Nat → Nat) (par : Nat → Int32) (lo hi c cl cn ms : Nat → Nat) (so fi la nu : Nat → Int32) : Prop :=
  ∃ top own, bb_J b N R top lv par lo hi c cl cn ms own ∧ bb_S s P vals top ms so fi la nu own
def bb_H (b x : Nat) (s : Nat → Option Int32) (P : Int64) (vals : Nat → Int32) (N R : Nat) (lv : Nat → Nat) (par : Nat → Int32) (lo hi c cl cn ms : Nat → Nat) (so fi la nu : Nat → Int32) : Prop :=
  ∃ top own, bb_T (fun n => n < N) R top lv par lo hi c cl cn own ∧ bb_two (fun n => n < N) R top c ∧ (∀ n, n < N → n ≠ x → c n ≤ 4) ∧ (∀ n, n < N → ms n ≤ b) ∧ x < N ∧ bb_S s P vals top ms so fi la nu own
theorem bb_T_ok {ok ok' : Nat → Prop} {R top : Nat} {lv : Nat → Nat} {par : Nat → Int32} {lo hi c cl cn : Nat → Nat} {own : Nat → Nat → Nat} (e : ∀ n, ok n ↔ ok' n) (h : bb_T ok R top lv par lo hi c cl cn own) : bb_T ok' R top lv par lo hi c cl cn own := by
  have z : ok = ok' := funext fun n => propext (e n)
  rw [← z]
  exact h
theorem bb_above {N R top : Nat} {lv : Nat → Nat} {par : Nat → Int32} {lo hi c cl cn : Nat → Nat} {own : Nat → Nat → Nat} {x : Nat} (hT : bb_T (fun n => n < N) R top lv par lo hi c cl cn own) (hx : x < N) (xR : x ≠ R) :
    lv x < top ∧ ∃ a p, a < N ∧ lv a = lv x + 1 ∧ par x = nI a ∧ p < c a ∧ cn (5 * a + p) = x ∧ cl (5 * a + p) = lo x ∧ (∀ j, p < j → j < c a → lo x < cl (5 * a + j)) := by
  have l := bb_T_lo hT hx
  have n2 := hT.2.1 x hx
  have o := hT.2.2.1 x hx (lo x) (Nat.le_refl _) l
  have lt : lv x < top := by
    by_cases e : lv x = top
    · rw [e, bb_T_Rown hT (by omega)] at o
      exact absurd o.symm xR
    · omega
  refine ⟨lt, own (lv x + 1) (lo x), ?_⟩
  obtain ⟨a1, a2, a3, a4⟩ := hT.2.2.2.1 (lv x + 1) (by omega) (lo x) (by omega)
  have a5 := hT.2.2.2.2.1 (lv x) lt (lo x) (by omega)
  rw [o] at a5
  generalize own (lv x + 1) (lo x) = a at a1 a2 a3 a4 a5
  obtain ⟨p, p1, p2, p3⟩ := bb_T_find hT a1 a3 a4
  have p4 := bb_T_cown hT a1 a2 p1 p2 p3
  rw [o] at p4
  obtain ⟨b1, b2, b3, b4⟩ := hT.2.2.2.2.2.2.1 a a1 (by omega) p p1
  rw [← p4] at b3
  refine ⟨p, a1, a2, a5, p1, p4.symm, b3.symm, fun j j1 j2 => ?_⟩
  have := bb_cej (hT.2.2.2.2.2.1 a a1) j1 j2
  omega
theorem bb_sv_split {own own' : Nat → Nat → Nat} {F F' : Nat → Nat → Option Int32 → Option Int32} {f : Nat → Option Int32} {x y k L : Nat} (h : ∀ l, l < L → (own' l k = y ∧ own l k = x) ∨ (own' l k = own l k ∧ ∀ o, F' (own l k) k o = F (own l k) k o)) (hf : ∀ o, F' y k o = F x k o) : bb_sv own' F' f k L = bb_sv own F f k L := by
  refine bb_sv_congr L (fun l hl o => ?_) rfl
  rcases h l hl with ⟨a, b⟩ | ⟨a, b⟩
  · rw [a, b]; exact hf o
  · rw [a]; exact b o
theorem bb_cp_fn {x f : Nat} {ms : Nat → Nat} {so fi la nu : Nat → Int32} {ms' : Nat → Nat} {so' fi' la' nu' : Nat → Int32} (h : bb_cp x f (ms x) ms so fi la nu ms' so' fi' la' nu') (k : Nat) (o : Option Int32) : bb_fn ms' so' fi' la' nu' f k o = bb_fn ms so fi la nu x k o := by
  unfold bb_fn
  rw [h.1]
  exact bb_fo_cs (ms x) h.2.2
section
variable {P : Int64} {N R : Nat} {vals : Nat → Int32} {lv : Nat → Nat} {par : Nat → Int32} {lo hi c cl cn ms : Nat → Nat} {so fi la nu : Nat → Int32} {b x : Nat} {s : Nat → Option Int32}
variable {par1 par' : Nat → Int32} {cl1 cn1 cl' cn' ms' : Nat → Nat} {so' fi' la' nu' : Nat → Int32}
theorem bb_H_split {top a p : Nat} {own : Nat → Nat → Nat} (hT : bb_T (fun n => n < N) R top lv par lo hi c cl cn own) (h2 : bb_two (fun n => n < N) R top c) (hc4 : ∀ n, n < N → n ≠ x → c n ≤ 4) (hb : ∀ n, n < N → ms n ≤ b) (b48 : b ≤ 48) (hx : x < N) (hS : bb_S s P vals top ms so fi la nu own) (c5 : c x = 5) (xR : x ≠ R)
    (ha : a < N) (la1 : lv a = lv x + 1) (hp : p < c a) (hpx : cn (5 * a + p) = x)
    (hpn : bb_pn x N lv par cl cn par1 cl1 cn1) (hcp : bb_cp x N (ms x) ms so fi la nu ms' so' fi' la' nu')
    (s1 : bb_sh1 a (p + 1) (bb_up lo N (cl (5 * x + 3)) N) (bb_up (bb_up c N 2) x 3 a) cl1 cl') (s2 : bb_sh1 a (p + 1) N (bb_up (bb_up c N 2) x 3 a) cn1 cn') :
    bb_H b a s P vals (N + 1) R (bb_up lv N (lv x)) (upd par1 N (nI a)) (bb_up lo N (cl (5 * x + 3))) (bb_up (bb_up hi N (hi x)) x (cl (5 * x + 3))) (bb_up (bb_up (bb_up c N 2) x 3) a (bb_up (bb_up c N 2) x 3 a + 1)) cl' cn' ms' so' fi' la' nu' := by
  have xN : x ≠ N := by omega
  have aN : a ≠ N := by omega
  have ax : a ≠ x := fun z => by rw [z] at la1; omega
  have ca4 := hc4 a ha ax
  have eca : bb_up (bb_up c N 2) x 3 a = c a := by rw [bb_upn ax, bb_upn aN]
  rw [bb_ups, eca] at s1
  rw [eca] at s2
  rw [eca]
  obtain ⟨⟨q1, q2⟩, ⟨d1, d2, d3⟩, ⟨e1, e2, e3⟩⟩ := hpn
  obtain ⟨u1, u2, u3, u4⟩ := s1
  obtain ⟨v1, v2, v3, v4⟩ := s2
  have chN : ∀ i, i < 5 → 0 < lv x → cn (5 * x + i) ≠ N := fun i hi' l0 z => by
    have := (hT.2.2.2.2.2.2.1 x hx l0 i (by omega)).1
    omega
  have hspl : bb_spl x N a p lv par lo hi c cl cn (bb_up lv N (lv x)) (upd par1 N (nI a)) (bb_up lo N (cl (5 * x + 3))) (bb_up (bb_up hi N (hi x)) x (cl (5 * x + 3))) (bb_up (bb_up (bb_up c N 2) x 3) a (c a + 1)) cl' cn' := by
    refine ⟨⟨bb_ups _ _ _, fun n hn => bb_upn hn⟩, ⟨bb_ups _ _ _, fun n hn => bb_upn hn⟩, ⟨(bb_upn xN.symm).trans (bb_ups _ _ _), bb_ups _ _ _, fun n hn hn2 => (bb_upn hn2).trans (bb_upn hn)⟩,
      ⟨?_, ?_, fun n h1 h3 h4 => ?_⟩, ⟨(u1 N aN.symm 0 (by omega)).trans d1, (u1 N aN.symm 1 (by omega)).trans d2, fun n h1 h3 j hj => (u1 n h3 j hj).trans (d3 n h1 j hj), bb_ups _ _ _, fun j hj => ?_, u3, fun j h1 h3 => ?_⟩,
      ⟨(v1 N aN.symm 0 (by omega)).trans e1, (v1 N aN.symm 1 (by omega)).trans e2, fun n h1 h3 j hj => (v1 n h3 j hj).trans (e3 n h1 j hj), fun j hj => ?_, v3, fun j h1 h3 => ?_⟩, ⟨pk_us, fun l0 => ⟨?_, ?_, fun n h1 h3 h4 => ?_⟩, fun l0 n h1 => ?_⟩⟩
    · rw [bb_upn aN.symm, bb_upn xN.symm, bb_ups]
    · rw [bb_upn ax.symm, bb_ups]
    · rw [bb_upn h4, bb_upn h3, bb_upn h1]
    · exact (u2 j hj).trans (d3 a aN j (by omega))
    · exact (u4 j h1 h3).trans (d3 a aN (j - 1) (by omega))
    · exact (v2 j hj).trans (e3 a aN j (by omega))
    · exact (v4 j h1 h3).trans (e3 a aN (j - 1) (by omega))
    · exact (pk_un (chN 3 (by omega) l0)).trans (q1 l0).1
    · exact (pk_un (chN 4 (by omega) l0)).trans (q1 l0).2.1
    · exact (pk_un h1).trans ((q1 l0).2.2 n h3 h4)
    · exact (pk_un h1).trans (q2 l0 n)
  have hT' := bb_T_ok (ok' := fun n => n < N + 1) (fun n => by omega) (bb_T_split hT hx (by omega) ha la1 hp hpx c5 ca4 hspl)
  refine ⟨top, _, hT', ⟨fun n hn nR => ?_, fun t0 => ?_⟩, fun n hn na => ?_, fun n hn => ?_, by omega, ?_⟩
  · have hn' : n < N + 1 := hn
    by_cases g1 : n = a
    · rw [g1, bb_ups]; omega
    · rw [bb_upn g1]
      by_cases g2 : n = x
      · rw [g2, bb_ups]; omega
      · rw [bb_upn g2]
        by_cases g3 : n = N
        · rw [g3, bb_ups]; omega
        · rw [bb_upn g3]; exact h2.1 n (by omega) nR
  · have RN : R < N := hT.1.1
    have := h2.2 t0
    by_cases g1 : R = a
    · rw [g1, bb_ups]; rw [g1] at this; omega
    · rw [bb_upn g1, bb_upn xR.symm, bb_upn (by omega)]; exact this
  · have hn' : n < N + 1 := hn
    rw [bb_upn na]
    by_cases g2 : n = x
    · rw [g2, bb_ups]; omega
    · rw [bb_upn g2]
      by_cases g3 : n = N
      · rw [g3, bb_ups]; omega
      · rw [bb_upn g3]; exact hc4 n (by omega) g2
  · have hn' : n < N + 1 := hn
    by_cases g3 : n = N
    · rw [g3, hcp.1]; exact hb x hx
    · rw [(hcp.2.1 n g3).1]; exact hb n (by omega)
  · intro k hk
    refine Eq.trans (bb_sv_split (own := own) (F := bb_fn ms so fi la nu) (x := x) (y := N) (fun l hl => ?_) (fun o => bb_cp_fn hcp k o)) (hS k hk)
    by_cases g : l = lv x ∧ cl (5 * x + 3) ≤ k ∧ k < hi x
    · left
      refine ⟨if_pos g, ?_⟩
      have in3 := bb_T_in hT hx (i := 3) (by omega)
      rw [g.1]
      exact hT.2.2.1 x hx k (by omega) g.2.2
    · right
      refine ⟨if_neg g, fun o => ?_⟩
      have on : own l k < N := (hT.2.2.2.1 l (by omega) k hk).1
      obtain ⟨w1, w2⟩ := hcp.2.1 (own l k) (by omega)
      exact bb_fn_cs w2 w1 (Nat.le_trans (hb _ on) b48)
theorem bb_H_root {top : Nat} {own : Nat → Nat → Nat} (hT : bb_T (fun n => n < N) R top lv par lo hi c cl cn own) (h2 : bb_two (fun n => n < N) R top c) (hc4 : ∀ n, n < N → n ≠ R → c n ≤ 4) (hb : ∀ n, n < N → ms n ≤ b) (b48 : b ≤ 48) (hS : bb_S s P vals top ms so fi la nu own) (c5 : c R = 5)
    (hpn : bb_pn R N lv par cl cn par1 cl1 cn1) (hcp : bb_cp R N (ms R) ms so fi la nu ms' so' fi' la' nu')
    (s1 : bb_sh1 (N + 1) 1 (cl (5 * R + 3)) 1 (bb_up cl1 (5 * (N + 1)) 0) cl') (s2 : bb_sh1 (N + 1) 1 N 1 (bb_up cn1 (5 * (N + 1)) R) cn') :
    bb_H b (N + 1) s P vals (N + 2) (N + 1) (bb_up (bb_up lv N (lv R)) (N + 1) (lv R + 1)) (upd (upd (upd par1 (N + 1) (-1)) R (nI (N + 1))) N (nI (N + 1))) (bb_up (bb_up lo N (cl (5 * R + 3))) (N + 1) 0) (bb_up (bb_up (bb_up hi N (hi R)) R (cl (5 * R + 3))) (N + 1) 64) (bb_up (bb_up (bb_up (bb_up c N 2) R 3) (N + 1) 1) (N + 1) 2) cl' cn' (bb_up ms' (N + 1) 0) so' fi' la' nu' := by
  have RN : R < N := hT.1.1
  have r2 := hT.1.2.1
  have RN' : R ≠ N := by omega
  have Rt : R ≠ N + 1 := by omega
  have Nt : N ≠ N + 1 := by omega
  obtain ⟨⟨q1, q2⟩, ⟨d1, d2, d3⟩, ⟨e1, e2, e3⟩⟩ := hpn
  obtain ⟨u1, u2, u3, u4⟩ := s1
  obtain ⟨v1, v2, v3, v4⟩ := s2
  have hG := bb_T_grow hT (t := N + 1) (by omega)
  have chl : ∀ i, i < 5 → 0 < lv R → cn (5 * R + i) < N ∧ cn (5 * R + i) ≠ R := fun i hi' l0 =>
    ⟨(hT.2.2.2.2.2.2.1 R RN l0 i (by omega)).1, bb_T_cneR hT RN l0 (by omega)⟩
  have g3 : bb_up cl (5 * (N + 1)) 0 (5 * R + 3) = cl (5 * R + 3) := bb_upn (by omega)
  have g4 : bb_up cl (5 * (N + 1)) 0 (5 * R + 4) = cl (5 * R + 4) := bb_upn (by omega)
  have k3 : bb_up cn (5 * (N + 1)) R (5 * R + 3) = cn (5 * R + 3) := bb_upn (by omega)
  have k4 : bb_up cn (5 * (N + 1)) R (5 * R + 4) = cn (5 * R + 4) := bb_upn (by omega)
  have hspl : bb_spl R N (N + 1) 0 (bb_up lv (N + 1) (top + 1)) (upd (upd par (N + 1) (-1)) R (nI (N + 1))) (bb_up lo (N + 1) 0) (bb_up hi (N + 1) 64) (bb_up c (N + 1) 1) (bb_up cl (5 * (N + 1)) 0) (bb_up cn (5 * (N + 1)) R)
      (bb_up (bb_up lv N (lv R)) (N + 1) (lv R + 1)) (upd (upd (upd par1 (N + 1) (-1)) R (nI (N + 1))) N (nI (N + 1))) (bb_up (bb_up lo N (cl (5 * R + 3))) (N + 1) 0) (bb_up (bb_up (bb_up hi N (hi R)) R (cl (5 * R + 3))) (N + 1) 64) (bb_up (bb_up (bb_up (bb_up c N 2) R 3) (N + 1) 1) (N + 1) 2) cl' cn' := by
    unfold bb_spl
    rw [g3, g4, k3, k4, bb_upn Rt, bb_upn Rt]
    refine ⟨⟨?_, fun n hn => ?_⟩, ⟨?_, fun n hn => ?_⟩, ⟨?_, ?_, fun n hn hn2 => ?_⟩,
      ⟨?_, ?_, fun n h1 h3 h4 => ?_⟩, ⟨?_, ?_, fun n h1 h3 j hj => ?_, ?_, fun j hj => ?_, u3, fun j h1 h3 => ?_⟩,
      ⟨?_, ?_, fun n h1 h3 j hj => ?_, fun j hj => ?_, v3, fun j h1 h3 => ?_⟩, ⟨pk_us, fun l0 => ⟨?_, ?_, fun n h1 h3 h4 => ?_⟩, fun l0 n h1 => ?_⟩⟩
    · rw [bb_upn Nt, bb_ups]
    · by_cases g : n = N + 1
      · rw [g, bb_ups, bb_ups, r2]
      · rw [bb_upn g, bb_upn hn, bb_upn g]
    · rw [bb_upn Nt, bb_ups]
    · by_cases g : n = N + 1
      · rw [g, bb_ups, bb_ups]
      · rw [bb_upn g, bb_upn hn, bb_upn g]
    · rw [bb_upn Nt, bb_upn RN'.symm, bb_ups]
    · rw [bb_upn Rt, bb_ups]
    · by_cases g : n = N + 1
      · rw [g, bb_ups, bb_ups]
      · rw [bb_upn g, bb_upn hn2, bb_upn hn, bb_upn g]
    · rw [bb_upn Nt, bb_upn Nt, bb_upn RN'.symm, bb_ups]
    · rw [bb_upn Rt, bb_upn Rt, bb_ups]
    · rw [bb_upn h4, bb_upn h4, bb_upn h3, bb_upn h1, bb_upn h4]
    · exact (u1 N Nt 0 (by omega)).trans ((bb_upn (by omega)).trans d1)
    · exact (u1 N Nt 1 (by omega)).trans ((bb_upn (by omega)).trans d2)
    · rw [u1 n h3 j hj, bb_upn (by omega), bb_upn (by omega)]; exact d3 n h1 j hj
    · rw [bb_ups, bb_ups]
    · have j0 : j = 0 := by omega
      subst j0
      rw [u2 0 (by omega)]
      exact (bb_ups _ _ _).trans (bb_ups _ _ _).symm
    · rw [bb_ups] at h3; omega
    · exact (v1 N Nt 0 (by omega)).trans ((bb_upn (by omega)).trans e1)
    · exact (v1 N Nt 1 (by omega)).trans ((bb_upn (by omega)).trans e2)
    · rw [v1 n h3 j hj, bb_upn (by omega), bb_upn (by omega)]; exact e3 n h1 j hj
    · have j0 : j = 0 := by omega
      subst j0
      rw [v2 0 (by omega)]
      exact (bb_ups _ _ _).trans (bb_ups _ _ _).symm
    · rw [bb_ups] at h3; omega
    · have := chl 3 (by omega) l0
      rw [pk_un (by omega), pk_un this.2, pk_un (by omega)]; exact (q1 l0).1
    · have := chl 4 (by omega) l0
      rw [pk_un (by omega), pk_un this.2, pk_un (by omega)]; exact (q1 l0).2.1
    · rw [pk_un h1]
      by_cases g : n = R
      · rw [g, pk_us, pk_us]
      · rw [pk_un g, pk_un g]
        by_cases g2 : n = N + 1
        · rw [g2, pk_us, pk_us]
        · rw [pk_un g2, pk_un g2]; exact (q1 l0).2.2 n h3 h4
    · rw [pk_un h1]
      by_cases g : n = R
      · rw [g, pk_us, pk_us]
      · rw [pk_un g, pk_un g]
        by_cases g2 : n = N + 1
        · rw [g2, pk_us, pk_us]
        · rw [pk_un g2, pk_un g2]; exact q2 l0 n
  have hT1 := bb_T_split hG (x := R) (f := N) (a := N + 1) (p := 0) (Or.inl RN) (by omega) (Or.inr rfl) (by rw [bb_ups, bb_upn Rt, r2]) (by rw [bb_ups]; omega) (bb_ups _ _ _) (by rw [bb_upn Rt]; exact c5) (by rw [bb_ups]; omega) hspl
  have hT' := bb_T_ok (ok' := fun n => n < N + 2) (fun n => by omega) hT1
  refine ⟨top + 1, _, hT', ⟨fun n hn nR => ?_, fun t0 => ?_⟩, fun n hn na => ?_, fun n hn => ?_, by omega, ?_⟩
  · have hn' : n < N + 2 := hn
    rw [bb_upn nR, bb_upn nR]
    by_cases g2 : n = R
    · rw [g2, bb_ups]; omega
    · rw [bb_upn g2]
      by_cases g3 : n = N
      · rw [g3, bb_ups]; omega
      · rw [bb_upn g3]; exact h2.1 n (by omega) g2
  · rw [bb_ups]; omega
  · have hn' : n < N + 2 := hn
    rw [bb_upn na, bb_upn na]
    by_cases g2 : n = R
    · rw [g2, bb_ups]; omega
    · rw [bb_upn g2]
      by_cases g3 : n = N
      · rw [g3, bb_ups]; omega
      · rw [bb_upn g3]; exact hc4 n (by omega) g2
  · have hn' : n < N + 2 := hn
    by_cases g1 : n = N + 1
    · rw [g1, bb_ups]; omega
    · rw [bb_upn g1]
      by_cases g3 : n = N
      · rw [g3, hcp.1]; exact hb R RN
      · rw [(hcp.2.1 n g3).1]; exact hb n (by omega)
  · intro k hk
    rw [bb_upn Rt, r2, g3, bb_upn Rt]
    show bb_fn (bb_up ms' (N + 1) 0) so' fi' la' nu' (if top + 1 = top ∧ cl (5 * R + 3) ≤ k ∧ k < hi R then N else (if top + 1 = top + 1 then N + 1 else own (top + 1) k)) k (bb_sv (fun l k => if l = top ∧ cl (5 * R + 3) ≤ k ∧ k < hi R then N else (if l = top + 1 then N + 1 else own l k)) (bb_fn (bb_up ms' (N + 1) 0) so' fi' la' nu') (bb_lf P vals) k (top + 1)) = s k
    rw [if_neg (by omega), if_pos rfl]
    have id0 : ∀ o, bb_fn (bb_up ms' (N + 1) 0) so' fi' la' nu' (N + 1) k o = o := by
      intro o
      unfold bb_fn
      rw [bb_ups]
      rfl
    rw [id0]
    refine Eq.trans (bb_sv_split (own := own) (F := bb_fn ms so fi la nu) (x := R) (y := N) (fun l hl => ?_) (fun o => ?_)) (hS k hk)
    · by_cases g : l = top ∧ cl (5 * R + 3) ≤ k ∧ k < hi R
      · left
        refine ⟨if_pos g, ?_⟩
        rw [g.1]
        exact bb_T_Rown hT hk
      · right
        refine ⟨(if_neg g).trans (if_neg (by omega)), fun o => ?_⟩
        have on : own l k < N := (hT.2.2.2.1 l (by omega) k hk).1
        obtain ⟨w1, w2⟩ := hcp.2.1 (own l k) (by omega)
        exact bb_fn_cs w2 ((bb_upn (by omega)).trans w1) (Nat.le_trans (hb _ on) b48)
    · rw [← bb_cp_fn hcp k o]
      unfold bb_fn
      rw [bb_upn Nt]
end
section
variable {P : Int64} {N R : Nat} {W : Int32} {M : Nat} {vals : Nat → Int32} {lv : Nat → Nat} {par : Nat → Int32} {lo hi c cl cn ms : Nat → Nat} {so fi la nu : Nat → Int32} {q : Nat → Nat} {mp : Nat → Int64} {mv : Nat → Int32}
theorem bb_pNs_lp {post : SX → Prop} {b : Nat} {s : Nat → Option Int32} (b47 : b ≤ 47)
    (H : ∀ N R lv par lo hi c cl cn ms so fi la nu, bb_K b s P vals N R lv par lo hi c cl cn ms so fi la nu → post (P, nI N, nI R, W, nI M, vals, bb_enc lv, par, bb_enc lo, bb_enc hi, bb_enc c, bb_enc cl, bb_enc cn, bb_enc ms, so, fi, la, nu, bb_enc q, mp, mv)) :
    ∀ n i x N R lv par lo hi c cl cn ms so fi la nu, 4 < n + i → i ≤ lv x → bb_H b x s P vals N R lv par lo hi c cl cn ms so fi la nu → wX_partNodes_4 post n (nI x) (nI i) P (nI N) (nI R) W (nI M) vals (bb_enc lv) par (bb_enc lo) (bb_enc hi) (bb_enc c) (bb_enc cl) (bb_enc cn) (bb_enc ms) so fi la nu (bb_enc q) mp mv := by
  intro n
  induction n with
  | zero =>
    intro i x N R lv par lo hi c cl cn ms so fi la nu h1 h2 hH
    obtain ⟨top, own, hT, h2', _, _, hx, _⟩ := hH
    have t3 := bb_top3 hT h2'
    have := (hT.2.1 x hx).1
    omega
  | succ n ih =>
    intro i x N R lv par lo hi c cl cn ms so fi la nu h1 h2 hH
    obtain ⟨top, own, hT, hw, hc4, hb, hx, hS⟩ := hH
    have t3 := bb_top3 hT hw
    have n15 := bb_N15 hT hw
    have x2 := hT.2.1 x hx
    have ix : vp_in (nI x) 24 := vp_in_nI (by omega) (by omega)
    unfold wX_partNodes_4
    refine br_f (nI_ge (b := 24) (by omega) (by decide)) (br_f (nI_pos (by omega)) ?_)
    rw [nI_clamp (show x < 2 ^ 31 by omega)]
    refine ⟨ix, pk_eq (c x) 5 (fun g => ?_) (fun g => ?_)⟩
    · have hcn : 0 < lv x → cn (5 * x + 3) < 24 ∧ cn (5 * x + 4) < 24 := fun l0 => by
        have a3 := (hT.2.2.2.2.2.2.1 x hx l0 3 (by omega)).1
        have a4 := (hT.2.2.2.2.2.2.1 x hx l0 4 (by omega)).1
        omega
      refine bb_partNode hx (by omega) (by omega) hcn (Nat.le_trans (hb x hx) b47) (fun par1 cl1 cn1 ms' so' fi' la' nu' hpn hcp => ?_)
      dsimp only
      refine ⟨ix, ?_⟩
      by_cases xR : x = R
      · subst xR
        have px : par1 x = -1 := by
          by_cases l0 : 0 < lv x
          · rw [(hpn.1.1 l0).2.2 x (bb_T_cneR hT hx l0 (by omega)).symm (bb_T_cneR hT hx l0 (by omega)).symm]
            exact hT.1.2.2.2.2
          · rw [hpn.1.2 (by omega)]
            exact hT.1.2.2.2.2
        rw [px]
        refine br_f (by decide) (bb_growRoot (by omega) (by omega) ?_)
        dsimp only
        have xN : x ≠ N := by omega
        rw [bb_upn xN]
        have xt : x ≠ N + 1 := by omega
        refine bb_link (x := x) (a := N + 1) (f := N) (p := 0) (by omega) (by omega) (by omega) pk_us (by rw [bb_ups]; omega) (by rw [bb_ups]; omega) (fun j hj => ?_) ?_ (fun j j1 j2 => ?_) (fun cl' cn' s1 s2 => ?_)
        · rw [bb_ups] at hj
          rw [show j = 0 from by omega]
          rw [show bb_up cl1 (5 * (N + 1)) 0 (5 * (N + 1) + 0) = 0 from bb_ups _ _ _]
          omega
        · rw [show bb_up cl1 (5 * (N + 1)) 0 (5 * (N + 1) + 0) = 0 from bb_ups _ _ _, bb_upn xt, bb_upn xN]
          exact hT.1.2.2.1.symm
        · rw [bb_ups] at j2; omega
        · rw [bb_ups] at s1 s2
          rw [bb_upn (show N ≠ N + 1 by omega), bb_ups] at s1
          rw [bb_ups (bb_up (bb_up c N 2) x 3) (N + 1) 1]
          refine ih (i + 1) (N + 1) (N + 2) (N + 1) _ _ _ _ _ _ _ _ _ _ _ _ (by omega) (by rw [bb_ups]; omega) (bb_H_root hT hw hc4 hb (by omega) hS g hpn hcp s1 s2)
      · obtain ⟨lt, a, p, a1, a2, a3, a4, a5, a6, a7⟩ := bb_above hT hx xR
        have ax : a ≠ x := fun z => by rw [z] at a2; omega
        have aN : a ≠ N := by omega
        have px : par1 x = nI a := by
          by_cases l0 : 0 < lv x
          · rw [(hpn.1.1 l0).2.2 x, a3]
            · intro z
              have := (hT.2.2.2.2.2.2.1 x hx l0 3 (by omega)).2.1
              rw [← z] at this
              omega
            · intro z
              have := (hT.2.2.2.2.2.2.1 x hx l0 4 (by omega)).2.1
              rw [← z] at this
              omega
          · rw [hpn.1.2 (by omega), a3]
        have eca : bb_up (bb_up c N 2) x 3 a = c a := by rw [bb_upn ax, bb_upn aN]
        have ca4 := hc4 a a1 ax
        have cla : ∀ j, j < c a → cl1 (5 * a + j) = cl (5 * a + j) := fun j hj => hpn.2.1.2.2 a aN j (by omega)
        refine br_t (by rw [px]; exact nI_pos' (by omega)) (bb_link (x := x) (a := a) (f := N) (p := p) (by omega) (by omega) (by omega) px (by rw [eca]; exact ca4) (by rw [eca]; exact a4) (fun j hj => ?_) ?_ (fun j j1 j2 => ?_) (fun cl' cn' s1 s2 => ?_))
        · rw [eca] at hj
          rw [cla j hj]
          have q1 := bb_T_in hT a1 hj
          have q2 := (hT.2.1 a a1).2.1
          omega
        · rw [cla p a4, a6, bb_upn (by omega)]
        · rw [eca] at j2
          rw [cla j j2, bb_upn (by omega)]
          exact a7 j j1 j2
        · refine ih (i + 1) a (N + 1) R _ _ _ _ _ _ _ _ _ _ _ _ (by omega) (by rw [bb_upn aN]; omega) (bb_H_split hT hw hc4 hb (by omega) hx hS g xR a1 a2 a4 a5 hpn hcp s1 s2)
    · refine H _ _ _ _ _ _ _ _ _ _ _ _ _ _ ⟨top, own, ⟨hT, hw, fun m hm => ?_, hb⟩, hS⟩
      by_cases e : m = x
      · rw [e]; omega
      · exact hc4 m hm e
theorem bb_partNodes {post : SX → Prop} {b x : Nat} {s : Nat → Option Int32} (b47 : b ≤ 47)
    (H : ∀ N R lv par lo hi c cl cn ms so fi la nu, bb_K b s P vals N R lv par lo hi c cl cn ms so fi la nu → post (P, nI N, nI R, W, nI M, vals, bb_enc lv, par, bb_enc lo, bb_enc hi, bb_enc c, bb_enc cl, bb_enc cn, bb_enc ms, so, fi, la, nu, bb_enc q, mp, mv))
    (h : bb_H b x s P vals N R lv par lo hi c cl cn ms so fi la nu) : wpX_partNodes post (P, nI N, nI R, W, nI M, vals, bb_enc lv, par, bb_enc lo, bb_enc hi, bb_enc c, bb_enc cl, bb_enc cn, bb_enc ms, so, fi, la, nu, bb_enc q, mp, mv) (nI x) := by
  unfold wpX_partNodes
  exact ⟨5, bb_pNs_lp b47 H 5 0 x N R lv par lo hi c cl cn ms so fi la nu (by omega) (Nat.zero_le _) h⟩
end
end
section
/-! leaves parted; everything flushed -/
def bb_dn (L : Nat) : Int32 := nI L + (-1)
theorem bb_dn0 : bb_dn 0 < 0 := by decide
theorem bb_dns (l : Nat) : bb_dn (l + 1) = nI l := pk_m1 l
theorem bb_K_le {b b' : Nat} {s : Nat → Option Int32} {P : Int64} {vals : Nat → Int32} {N R : Nat} {lv : Nat → Nat} {par : Nat → Int32} {lo hi c cl cn ms : Nat → Nat} {so fi la nu : Nat → Int32} (hb : b ≤ b') (h : bb_K b s P vals N R lv par lo hi c cl cn ms so fi la nu) : bb_K b' s P vals N R lv par lo hi c cl cn ms so fi la nu := by
  obtain ⟨top, own, ⟨h1, h2, h3, h4⟩, h5⟩ := h
  exact ⟨top, own, ⟨h1, h2, h3, fun n hn => Nat.le_trans (h4 n hn) hb⟩, h5⟩
theorem bb_K0 {s : Nat → Option Int32} {P : Int64} {vals : Nat → Int32} {N R : Nat} {lv : Nat → Nat} {par : Nat → Int32} {lo hi c cl cn ms : Nat → Nat} {so fi la nu : Nat → Int32} (h : bb_K 0 s P vals N R lv par lo hi c cl cn ms so fi la nu) : ∀ k, k < 64 → bb_lf P vals k = s k := by
  obtain ⟨top, own, ⟨h1, h2, h3, h4⟩, h5⟩ := h
  intro k hk
  rw [← h5 k hk]
  have A : ∀ L, L ≤ top + 1 → bb_sv own (bb_fn ms so fi la nu) (bb_lf P vals) k L = bb_lf P vals k := by
    intro L
    induction L with
    | zero => intro _; rfl
    | succ L ih =>
      intro hL
      show bb_fn ms so fi la nu (own L k) k (bb_sv own (bb_fn ms so fi la nu) (bb_lf P vals) k L) = _
      have o := (h1.2.2.2.1 L (by omega) k hk).1
      have z : ms (own L k) = 0 := by have := h4 _ o; omega
      unfold bb_fn
      rw [z]
      exact ih (by omega)
  exact (A (top + 1) (Nat.le_refl _)).symm
section
variable {P : Int64} {N R : Nat} {W : Int32} {M : Nat} {vals : Nat → Int32} {lv : Nat → Nat} {par : Nat → Int32} {lo hi c cl cn ms : Nat → Nat} {so fi la nu : Nat → Int32} {q : Nat → Nat} {mp : Nat → Int64} {mv : Nat → Int32}
theorem bb_one_in {post : Int32 → SX → Prop} {J : Int32 → Prop} {b x top : Nat} {own : Nat → Nat → Nat} {s : Nat → Option Int32} (b47 : b ≤ 47)
    (hJ : bb_J b N R top lv par lo hi c cl cn ms own) (hS : bb_S s P vals top ms so fi la nu own) (hx : x < N) (H0 : J (nI (x + 1)))
    (H : ∀ N R lv par lo hi c cl cn ms so fi la nu, bb_K b s P vals N R lv par lo hi c cl cn ms so fi la nu → post 1 (P, nI N, nI R, W, nI M, vals, bb_enc lv, par, bb_enc lo, bb_enc hi, bb_enc c, bb_enc cl, bb_enc cn, bb_enc ms, so, fi, la, nu, bb_enc q, mp, mv)) :
    ∀ n i, c x < n + i → i ≤ c x → wX_partOne_12 post J (nI x) P (nI N) (nI R) W (nI M) vals (bb_enc lv) par (bb_enc lo) (bb_enc hi) (bb_enc c) (bb_enc cl) (bb_enc cn) (bb_enc ms) so fi la nu (bb_enc q) mp mv n (nI i) := by
  obtain ⟨hT, hw, hc4, hb⟩ := hJ
  have t3 := bb_top3 hT hw
  have n15 := bb_N15 hT hw
  have x2 := hT.2.1 x hx
  have x4 := hc4 x hx
  have ix : vp_in (nI x) 24 := vp_in_nI (by omega) (by omega)
  intro n
  induction n with
  | zero => intro i h1 h2; omega
  | succ n ih =>
    intro i h1 h2
    unfold wX_partOne_12
    rw [nI_clamp (show x < 2 ^ 31 by omega)]
    refine ⟨ix, pk_le (c x) i (fun g => nm_r (nI_1 x) H0) (fun g => ⟨ix, pk_eq (lv x) 0 (fun l0 => ?_) (fun l0 => nm_r (nI_1 x) H0)⟩)⟩
    obtain ⟨g1, g2, g3⟩ := bb_T_in hT hx g
    rw [bb_m5, nI_add, nI_clamp (show 5 * x + i < 2 ^ 31 by omega)]
    refine ⟨vp_in_nI (by omega) (by omega), nm_r (bb_ea cl _) (bb_childEnd (by omega) (by omega) (by omega) (bb_keysIn (by omega) (by omega) ?_))⟩
    have t64 := bb_ct_le P (cl (5 * x + i)) (bb_ce hi c cl x i - cl (5 * x + i))
    refine pk_le (bb_ct P (cl (5 * x + i)) (bb_ce hi c cl x i - cl (5 * x + i))) 8 (fun g4 => ?_) (fun g4 => ⟨by decide, ?_⟩)
    · exact nm_r (nI_1 i) (ih (i + 1) (by omega) (by omega))
    · rw [show nI (bb_ct P (cl (5 * x + i)) (bb_ce hi c cl x i - cl (5 * x + i))) / 2 = nI (bb_ct P (cl (5 * x + i)) (bb_ce hi c cl x i - cl (5 * x + i)) / 2) from pk_div (d := 2) (by omega) (by omega) (by omega)]
      refine bb_mid (e := bb_ce hi c cl x i) (by omega) (by omega) rfl g4 (fun m m1 m2 => ?_)
      rw [nI_1 i]
      refine bb_insert (f := 0) (by omega) (by omega) x4 (fun cl' cn' s1 s2 => ?_)
      dsimp only
      refine bb_partNodes b47 (fun N R lv par lo hi c cl cn ms so fi la nu hK => ?_) (s := s) ?_
      · exact H _ _ _ _ _ _ _ _ _ _ _ _ _ _ hK
      · refine ⟨top, own, bb_T_leaf hT hx l0 g x4 m1 m2 ⟨bb_ups _ _ _, s1.2.1, s1.2.2.1, s1.2.2.2⟩ (fun n hn => bb_upn hn) s1.1 s2.1, ⟨fun n hn nR => ?_, fun t0 => ?_⟩, fun n hn nx => ?_, hb, hx, hS⟩
        · by_cases e : n = x
          · rw [e, bb_ups]; have := hw.1 n hn nR; rw [e] at this; omega
          · rw [bb_upn e]; exact hw.1 n hn nR
        · by_cases e : R = x
          · rw [e, bb_ups]; have := hw.2 t0; rw [e] at this; omega
          · rw [bb_upn e]; exact hw.2 t0
        · rw [bb_upn nx]; exact hc4 n hn
theorem bb_partOne {post : Int32 → SX → Prop} {b : Nat} {s : Nat → Option Int32} (b47 : b ≤ 47)
    (H : ∀ r N R lv par lo hi c cl cn ms so fi la nu, bb_K b s P vals N R lv par lo hi c cl cn ms so fi la nu → post r (P, nI N, nI R, W, nI M, vals, bb_enc lv, par, bb_enc lo, bb_enc hi, bb_enc c, bb_enc cl, bb_enc cn, bb_enc ms, so, fi, la, nu, bb_enc q, mp, mv))
    (hK : bb_K b s P vals N R lv par lo hi c cl cn ms so fi la nu) : wpX_partOne post (P, nI N, nI R, W, nI M, vals, bb_enc lv, par, bb_enc lo, bb_enc hi, bb_enc c, bb_enc cl, bb_enc cn, bb_enc ms, so, fi, la, nu, bb_enc q, mp, mv) := by
  have hK' := hK
  obtain ⟨top, own, hJ, hS⟩ := hK
  have n15 := bb_N15 hJ.1 hJ.2.1
  have lp : ∀ n x, N < n + x → x ≤ N → wX_partOne_2 post P (nI N) (nI R) W (nI M) vals (bb_enc lv) par (bb_enc lo) (bb_enc hi) (bb_enc c) (bb_enc cl) (bb_enc cn) (bb_enc ms) so fi la nu (bb_enc q) mp mv n (nI x) := by
    intro n
    induction n with
    | zero => intro x h1 h2; omega
    | succ n ih =>
      intro x h1 h2
      unfold wX_partOne_2
      refine pk_le N x (fun g => H _ _ _ _ _ _ _ _ _ _ _ _ _ _ _ hK') (fun g => ?_)
      have x5 := (hJ.1.2.1 x g)
      exact ⟨c x + 1, bb_one_in b47 hJ hS g (ih (x + 1) (by omega) (by omega)) (fun N R lv par lo hi c cl cn ms so fi la nu hK => H _ _ _ _ _ _ _ _ _ _ _ _ _ _ _ hK) (c x + 1) 0 (by omega) (by omega)⟩
  unfold wpX_partOne
  exact ⟨N + 1, lp (N + 1) 0 (by omega) (by omega)⟩
theorem bb_partLeaves {post : SX → Prop} {b : Nat} {s : Nat → Option Int32} (b47 : b ≤ 47)
    (H : ∀ N R lv par lo hi c cl cn ms so fi la nu, bb_K b s P vals N R lv par lo hi c cl cn ms so fi la nu → post (P, nI N, nI R, W, nI M, vals, bb_enc lv, par, bb_enc lo, bb_enc hi, bb_enc c, bb_enc cl, bb_enc cn, bb_enc ms, so, fi, la, nu, bb_enc q, mp, mv))
    (hK : bb_K b s P vals N R lv par lo hi c cl cn ms so fi la nu) : wpX_partLeaves post (P, nI N, nI R, W, nI M, vals, bb_enc lv, par, bb_enc lo, bb_enc hi, bb_enc c, bb_enc cl, bb_enc cn, bb_enc ms, so, fi, la, nu, bb_enc q, mp, mv) := by
  have lp : ∀ n i r N R lv par lo hi c cl cn ms so fi la nu, 64 < n + i → i ≤ 64 → bb_K b s P vals N R lv par lo hi c cl cn ms so fi la nu → wX_partLeaves_4 post n r (nI i) P (nI N) (nI R) W (nI M) vals (bb_enc lv) par (bb_enc lo) (bb_enc hi) (bb_enc c) (bb_enc cl) (bb_enc cn) (bb_enc ms) so fi la nu (bb_enc q) mp mv := by
    intro n
    induction n with
    | zero => intro i r N R lv par lo hi c cl cn ms so fi la nu h1 h2; omega
    | succ n ih =>
      intro i r N R lv par lo hi c cl cn ms so fi la nu h1 h2 hK
      unfold wX_partLeaves_4
      refine pk_le 64 i (fun g => H _ _ _ _ _ _ _ _ _ _ _ _ _ _ hK) (fun g => br_c (fun _ => H _ _ _ _ _ _ _ _ _ _ _ _ _ _ hK) (fun _ => ?_))
      refine bb_partOne b47 (fun r N R lv par lo hi c cl cn ms so fi la nu hK => ?_) hK
      dsimp only
      exact nm_r (nI_1 i) (ih (i + 1) r N R lv par lo hi c cl cn ms so fi la nu (by omega) (by omega) hK)
  unfold wpX_partLeaves
  exact ⟨65, lp 65 0 1 N R lv par lo hi c cl cn ms so fi la nu (by omega) (by omega) hK⟩
theorem bb_all_in {post : SX → Prop} {J : Int32 → Int64 → Int32 → Int32 → Int32 → Int32 → (Nat → Int32) → (Nat → Int32) → (Nat → Int32) → (Nat → Int32) → (Nat → Int32) → (Nat → Int32) → (Nat → Int32) → (Nat → Int32) → (Nat → Int32) → (Nat → Int32) → (Nat → Int32) → (Nat → Int32) → (Nat → Int32) → (Nat → Int32) → (Nat → Int64) → (Nat → Int32) → Prop} {top l : Nat} {own : Nat → Nat → Nat} {s : Nat → Option Int32}
    (hT : bb_T (fun n => n < N) R top lv par lo hi c cl cn own) (hN : N ≤ 15) (t3 : top ≤ 3) (hl : l ≤ 3)
    (H : ∀ P vals ms so fi la nu, (∀ n, n < N → l ≤ lv n → ms n = 0) → (∀ k, k < 64 → bb_pz own ms k (top + 1) ≤ 40) → bb_S s P vals top ms so fi la nu own → J (bb_dn l) P (nI N) (nI R) W (nI M) vals (bb_enc lv) par (bb_enc lo) (bb_enc hi) (bb_enc c) (bb_enc cl) (bb_enc cn) (bb_enc ms) so fi la nu (bb_enc q) mp mv) :
    ∀ n y P vals ms so fi la nu, N < n + y → y ≤ N → (∀ n, n < N → (l < lv n ∨ (lv n = l ∧ n < y)) → ms n = 0) → (∀ k, k < 64 → bb_pz own ms k (top + 1) ≤ 40) → bb_S s P vals top ms so fi la nu own → wX_flushAll_16 post J (nI l) n (nI y) P (nI N) (nI R) W (nI M) vals (bb_enc lv) par (bb_enc lo) (bb_enc hi) (bb_enc c) (bb_enc cl) (bb_enc cn) (bb_enc ms) so fi la nu (bb_enc q) mp mv := by
  intro n
  induction n with
  | zero => intro y P vals ms so fi la nu h1 h2; omega
  | succ n ih =>
    intro y P vals ms so fi la nu h1 h2 hI hz hS
    unfold wX_flushAll_16
    refine pk_le N y (fun g => ?_) (fun g => ?_)
    · refine nm_e (H P vals ms so fi la nu (fun m hm hl' => hI m hm ?_) hz hS)
      omega
    · rw [nI_clamp (show y < 2 ^ 31 by omega)]
      have y3 := (hT.2.1 y g).1
      refine ⟨vp_in_nI (by omega) (by omega), pk_eq (lv y) l (fun e => ?_) (fun e => ?_)⟩
      · refine bb_flush hT (by omega) t3 g hz (fun P' vals' ms' so' fi' la' nu' hF => ?_)
        obtain ⟨f1, f2, f3, f4⟩ := hF
        dsimp only
        refine nm_r (nI_1 y) (ih (y + 1) P' vals' ms' so' fi' la' nu' (by omega) (by omega) (fun m hm hl' => ?_) (fun k hk => Nat.le_trans (f4 k hk) (hz k hk)) (fun k hk => (f3 k hk).trans (hS k hk)))
        by_cases z : m = y
        · rw [z]; exact f1
        · rw [f2 m hm z]
          · exact hI m hm (by omega)
          · by_cases l0 : lv y = 0
            · exact Or.inl l0
            · refine Or.inr (fun i hi' w => ?_)
              have := (hT.2.2.2.2.2.2.1 y g (by omega) i hi').2.1
              rw [← w] at this
              omega
      · exact nm_r (nI_1 y) (ih (y + 1) P vals ms so fi la nu (by omega) (by omega) (fun m hm hl' => hI m hm (by
          by_cases z : m = y
          · rw [z] at hl' ⊢; omega
          · omega)) hz hS)
theorem bb_flushAll {post : SX → Prop} {s : Nat → Option Int32}
    (H : ∀ P vals N R lv par lo hi c cl cn ms so fi la nu, bb_K 0 s P vals N R lv par lo hi c cl cn ms so fi la nu → post (P, nI N, nI R, W, nI M, vals, bb_enc lv, par, bb_enc lo, bb_enc hi, bb_enc c, bb_enc cl, bb_enc cn, bb_enc ms, so, fi, la, nu, bb_enc q, mp, mv))
    (hK : bb_K 6 s P vals N R lv par lo hi c cl cn ms so fi la nu) : wpX_flushAll post (P, nI N, nI R, W, nI M, vals, bb_enc lv, par, bb_enc lo, bb_enc hi, bb_enc c, bb_enc cl, bb_enc cn, bb_enc ms, so, fi, la, nu, bb_enc q, mp, mv) := by
  obtain ⟨top, own, ⟨hT, hw, hc4, hb⟩, hS⟩ := hK
  have t3 := bb_top3 hT hw
  have n15 := bb_N15 hT hw
  have hz : ∀ k, k < 64 → bb_pz own ms k (top + 1) ≤ 40 := by
    intro k hk
    have := bb_pz_le (own := own) (ms := ms) (k := k) (b := 6) (top + 1) (fun l hl => hb _ (hT.2.2.2.1 l (by omega) k hk).1)
    omega
  have outer : ∀ L n P vals ms so fi la nu, L < n → L ≤ 4 → (∀ n, n < N → L ≤ lv n → ms n = 0) → (∀ k, k < 64 → bb_pz own ms k (top + 1) ≤ 40) → bb_S s P vals top ms so fi la nu own → wX_flushAll_10 post n (bb_dn L) P (nI N) (nI R) W (nI M) vals (bb_enc lv) par (bb_enc lo) (bb_enc hi) (bb_enc c) (bb_enc cl) (bb_enc cn) (bb_enc ms) so fi la nu (bb_enc q) mp mv := by
    intro L
    induction L with
    | zero =>
      intro n P vals ms so fi la nu h1 _ h2 hz hS
      obtain ⟨n, rfl⟩ : ∃ m, n = m + 1 := ⟨n - 1, by omega⟩
      unfold wX_flushAll_10
      refine br_t bb_dn0 (bb_partLeaves (b := 0) (s := s) (by omega) (fun N R lv par lo hi c cl cn ms so fi la nu hK => ?_) ⟨top, own, ⟨hT, hw, hc4, fun m hm => by rw [h2 m hm (Nat.zero_le _)]; exact Nat.le_refl _⟩, hS⟩)
      exact H _ _ _ _ _ _ _ _ _ _ _ _ _ _ _ _ hK
    | succ L ih =>
      intro n P vals ms so fi la nu h1 h4 h2 hz hS
      obtain ⟨n, rfl⟩ : ∃ m, n = m + 1 := ⟨n - 1, by omega⟩
      unfold wX_flushAll_10
      rw [bb_dns]
      refine br_f (nI_pos (by omega)) ⟨N + 1, bb_all_in hT n15 t3 (by omega) (fun P vals ms so fi la nu g1 g2 g3 => ih n P vals ms so fi la nu (by omega) (by omega) g1 g2 g3) (N + 1) 0 P vals ms so fi la nu (by omega) (by omega) (fun m hm hl' => h2 m hm (by omega)) hz hS⟩
  have rN : R < N := hT.1.1
  unfold wpX_flushAll
  dsimp only
  rw [nI_clamp (show R < 2 ^ 31 by omega)]
  refine ⟨vp_in_nI (by omega) (by omega), nm_r (e' := bb_dn (top + 1)) ?_ ⟨top + 2, outer (top + 1) (top + 2) P vals ms so fi la nu (by omega) (by omega) (fun m hm hl' => ?_) hz hS⟩⟩
  · rw [bb_dns, bb_ea, hT.1.2.1]
  · have := (hT.2.1 m hm).1
    omega
end
end
section
/-! one key looked up -/
def bb_or (o : Option Int32) (x4 x5 : Int32) : Prop := x4 = bb_bi o.isSome ∧ (∀ y, o = some y → x5 = y)
def bb_ans (x2 : Int32) (o : Option Int32) : Int32 := if x2 = 0 then bb_bi o.isSome else o.getD 0
theorem bb_or_act {o : Option Int32} {kd v x5 : Int32} (h : ∀ y, o = some y → x5 = y) : bb_or (bb_act kd v o) (bb_bi (bb_sp kd o.isSome)) (bb_nv kd o.isSome x5 v) := by
  unfold bb_act
  cases hs : bb_sp kd o.isSome
  · rw [if_neg (by decide)]
    exact ⟨rfl, fun y hy => by cases hy⟩
  · rw [if_pos rfl]
    refine ⟨rfl, fun y hy => ?_⟩
    injection hy with hy
    rw [← hy]
    cases o with
    | none => exact bb_nv_f _ _ _ _
    | some z => rw [h z rfl]; rfl
section
variable {P : Int64} {N R : Nat} {W : Int32} {M : Nat} {vals : Nat → Int32} {lv : Nat → Nat} {par : Nat → Int32} {lo hi c cl cn ms : Nat → Nat} {so fi la nu : Nat → Int32} {q : Nat → Nat} {mp : Nat → Int64} {mv : Nat → Int32}
theorem bb_look_in {post : Int32 → Prop} {J : Int32 → Int32 → Int32 → Int32 → Prop} {k y : Nat} {x2 x6 : Int32} {o : Option Int32} (hy : y < 24) (hm : ms y ≤ 48)
    (H : ∀ x4 x5, bb_or (bb_fn ms so fi la nu y k o) x4 x5 → J (par y) x4 x5 (x6 + 1)) :
    ∀ n m x4 x5, ms y < n + m → m ≤ ms y → bb_or (bb_fo so fi la nu k (48 * y) m o) x4 x5 → wX_lookUp_81 post J (nI k) x2 (nI y) x6 P (nI N) (nI R) W (nI M) vals (bb_enc lv) par (bb_enc lo) (bb_enc hi) (bb_enc c) (bb_enc cl) (bb_enc cn) (bb_enc ms) so fi la nu (bb_enc q) mp mv n x4 x5 (nI m) := by
  have iy : vp_in (nI y) 24 := vp_in_nI hy (by omega)
  intro n
  induction n with
  | zero => intro m x4 x5 h1 h2; omega
  | succ n ih =>
    intro m x4 x5 h1 h2 hI
    unfold wX_lookUp_81
    rw [nI_clamp (show y < 2 ^ 31 by omega)]
    refine ⟨iy, pk_le (ms y) m (fun g => ?_) (fun g => nm_r (e' := nI (48 * y + m)) (by rw [bb_m48, nI_add]) ?_)⟩
    · have e : m = ms y := by omega
      rw [e] at hI
      exact ⟨iy, nm_e (nm_e (H x4 x5 hI))⟩
    · have ia : vp_in (nI (48 * y + m)) 1152 := vp_in_nI (by omega) (by omega)
      rw [nI_clamp (show 48 * y + m < 2 ^ 31 by omega)]
      have ef : bb_fo so fi la nu k (48 * y) (m + 1) o = bb_st so fi la nu k (48 * y + m) (bb_fo so fi la nu k (48 * y) m o) := rfl
      refine ⟨ia, br_c (fun g1 => ?_) (fun g1 => ⟨ia, br_c (fun g2 => ?_) (fun g2 => ⟨ia, ia, ?_⟩)⟩)⟩
      · refine nm_r (nI_1 m) (ih (m + 1) x4 x5 (by omega) (by omega) ?_)
        rw [ef]
        unfold bb_st
        rw [if_neg (fun z => Int32.not_lt.mpr z.1 g1)]
        exact hI
      · refine nm_r (nI_1 m) (ih (m + 1) x4 x5 (by omega) (by omega) ?_)
        rw [ef]
        unfold bb_st
        rw [if_neg (fun z => Int32.not_lt.mpr z.2 g2)]
        exact hI
      · rw [hI.1]
        refine bb_newv ⟨ia, bb_stays (nm_r (nI_1 m) (ih (m + 1) _ _ (by omega) (by omega) ?_))⟩
        rw [ef]
        unfold bb_st
        rw [if_pos ⟨Int32.not_lt.mp g1, Int32.not_lt.mp g2⟩]
        exact bb_or_act hI.2
theorem bb_look_end {post : Int32 → Prop} {x2 x4 x5 : Int32} {o : Option Int32} (h : post (bb_ans x2 o)) (ho : bb_or o x4 x5) : wX_lookUp_179 post x2 x4 x5 P (nI N) (nI R) W (nI M) vals (bb_enc lv) par (bb_enc lo) (bb_enc hi) (bb_enc c) (bb_enc cl) (bb_enc cn) (bb_enc ms) so fi la nu (bb_enc q) mp mv := by
  unfold wX_lookUp_179
  unfold bb_ans at h
  obtain ⟨h4, h5⟩ := ho
  rw [h4]
  cases o with
  | none =>
    by_cases g : x2 = 0
    · rw [if_pos g] at h
      exact br_t g (br_t rfl h)
    · rw [if_neg g] at h
      exact br_f g (br_t rfl h)
  | some z =>
    have e := h5 z rfl
    by_cases g : x2 = 0
    · rw [if_pos g] at h
      exact br_t g (br_f (show ¬ bb_bi true = 0 by decide) h)
    · rw [if_neg g] at h
      rw [e]
      exact br_f g (br_f (show ¬ bb_bi true = 0 by decide) h)
theorem bb_look_up {post : Int32 → Prop} {k top : Nat} {x2 : Int32} {own : Nat → Nat → Nat} {o : Option Int32} (hT : bb_T (fun n => n < N) R top lv par lo hi c cl cn own) (hN : N ≤ 15) (t3 : top ≤ 3) (hb : ∀ n, n < N → ms n ≤ 48) (hk : k < 64) (ho : bb_sv own (bb_fn ms so fi la nu) (bb_lf P vals) k (top + 1) = o) (h : post (bb_ans x2 o)) :
    ∀ n l x3 x4 x5, top + 1 < n + l → l ≤ top + 1 → (x3 = if l ≤ top then nI (own l k) else -1) → bb_or (bb_sv own (bb_fn ms so fi la nu) (bb_lf P vals) k l) x4 x5 → wX_lookUp_67 post (nI k) x2 P (nI N) (nI R) W (nI M) vals (bb_enc lv) par (bb_enc lo) (bb_enc hi) (bb_enc c) (bb_enc cl) (bb_enc cn) (bb_enc ms) so fi la nu (bb_enc q) mp mv n x3 x4 x5 (nI l) := by
  intro n
  induction n with
  | zero => intro l x3 x4 x5 h1 h2; omega
  | succ n ih =>
    intro l x3 x4 x5 h1 h2 h3 hI
    unfold wX_lookUp_67
    refine br_f (nI_ge (b := 24) (by omega) (by decide)) ?_
    by_cases g : l ≤ top
    · rw [if_pos g] at h3
      subst h3
      obtain ⟨a1, a2, a3, a4⟩ := hT.2.2.2.1 l g k hk
      have a1' : own l k < N := a1
      refine br_f (nI_pos (by omega)) ⟨ms (own l k) + 1, ?_⟩
      refine bb_look_in (y := own l k) (o := bb_sv own (bb_fn ms so fi la nu) (bb_lf P vals) k l) (by omega) (hb _ a1) (fun x4 x5 hI' => ?_) (ms (own l k) + 1) 0 x4 x5 (by omega) (by omega) hI
      rw [nI_1]
      refine ih (l + 1) _ x4 x5 (by omega) (by omega) ?_ hI'
      by_cases g2 : l + 1 ≤ top
      · rw [if_pos g2]
        exact hT.2.2.2.2.1 l (by omega) k hk
      · rw [if_neg g2]
        have e : l = top := by omega
        rw [e, bb_T_Rown hT hk]
        exact hT.1.2.2.2.2
    · rw [if_neg g] at h3
      subst h3
      have e : l = top + 1 := by omega
      rw [e, ho] at hI
      exact br_t (by decide) (bb_look_end h hI)
theorem bb_look_dn {post : Int32 → Prop} {k top : Nat} {x2 : Int32} {own : Nat → Nat → Nat} {o : Option Int32} (hT : bb_T (fun n => n < N) R top lv par lo hi c cl cn own) (hN : N ≤ 15) (t3 : top ≤ 3) (hb : ∀ n, n < N → ms n ≤ 48) (hk : k < 64) (ho : bb_sv own (bb_fn ms so fi la nu) (bb_lf P vals) k (top + 1) = o) (h : post (bb_ans x2 o)) :
    ∀ n l, l < n → l ≤ top → wX_lookUp_5 post (nI k) x2 P (nI N) (nI R) W (nI M) vals (bb_enc lv) par (bb_enc lo) (bb_enc hi) (bb_enc c) (bb_enc cl) (bb_enc cn) (bb_enc ms) so fi la nu (bb_enc q) mp mv n (nI (own l k)) := by
  intro n
  induction n with
  | zero => intro l h1; omega
  | succ n ih =>
    intro l h1 h2
    obtain ⟨a1, a2, a3, a4⟩ := hT.2.2.2.1 l h2 k hk
    have a1' : own l k < N := a1
    have c5 := hT.2.1 _ a1
    unfold wX_lookUp_5
    rw [nI_clamp (show own l k < 2 ^ 31 by omega)]
    refine ⟨vp_in_nI (by omega) (by omega), pk_le (lv (own l k)) 0 (fun g => bb_bit hk (bb_bi_br (fun e => ⟨6, ?_⟩) (fun e => ?_))) (fun g => ?_)⟩
    · have l0 : l = 0 := by omega
      subst l0
      refine bb_look_up hT hN t3 hb hk ho h 6 0 _ _ _ (by omega) (by omega) (by rw [if_pos h2]) ?_
      show bb_or (bb_lf P vals k) _ _
      rw [bb_lf_f e, e]
      exact ⟨rfl, fun y hy => by cases hy⟩
    · have l0 : l = 0 := by omega
      subst l0
      rw [nI_clamp (show k < 2 ^ 31 by omega)]
      refine ⟨vp_in_nI hk (by omega), nm_e ⟨6, ?_⟩⟩
      refine bb_look_up hT hN t3 hb hk ho h 6 0 _ _ _ (by omega) (by omega) (by rw [if_pos h2]) ?_
      show bb_or (bb_lf P vals k) _ _
      rw [bb_lf_t e, e]
      exact ⟨rfl, fun y hy => by injection hy⟩
    · refine bb_childFor (by omega) (by omega) (by omega) (fun j hj => ?_) (by omega) (fun r r1 r2 r3 => ?_)
      · have q := bb_T_in hT a1 hj
        omega
      · have k1 : cl (5 * own l k + r) ≤ k := by
          rcases r2 with z | z
          · rw [z]
            show cl (5 * own l k) ≤ k
            omega
          · exact z
        have k2 : k < bb_ce hi c cl (own l k) r := by
          by_cases z : r + 1 < c (own l k)
          · rw [bb_ce_t z]; exact r3 (r + 1) (by omega) z
          · rw [bb_ce_f z]; exact a4
        have q := bb_T_cown hT a1 (l := l - 1) (by omega) r1 k1 k2
        rw [bb_m5, nI_add, nI_clamp (show 5 * own l k + r < 2 ^ 31 by omega)]
        refine ⟨vp_in_nI (by omega) (by omega), nm_r (e' := nI (own (l - 1) k)) (by rw [bb_ea, q]) (ih (l - 1) (by omega) (by omega))⟩
theorem bb_lookUp {post : Int32 → Prop} {k : Nat} {x2 : Int32} {s : Nat → Option Int32} (hK : bb_K 6 s P vals N R lv par lo hi c cl cn ms so fi la nu) (hk : k < 64) (h : post (bb_ans x2 (s k))) : wpX_lookUp post (P, nI N, nI R, W, nI M, vals, bb_enc lv, par, bb_enc lo, bb_enc hi, bb_enc c, bb_enc cl, bb_enc cn, bb_enc ms, so, fi, la, nu, bb_enc q, mp, mv) (nI k) x2 := by
  obtain ⟨top, own, ⟨hT, hw, hc4, hb⟩, hS⟩ := hK
  have t3 := bb_top3 hT hw
  have n15 := bb_N15 hT hw
  unfold wpX_lookUp
  dsimp only
  have := bb_look_dn (W := W) (M := M) (q := q) (mp := mp) (mv := mv) (post := post) (x2 := x2) hT n15 t3 (fun n hn => Nat.le_trans (hb n hn) (by omega)) hk (hS k hk) h (top + 1) top (by omega) (Nat.le_refl _)
  rw [bb_T_Rown hT hk] at this
  exact ⟨top + 1, this⟩
end
end
section
/-! a change: a message at the root -/
def bb_ky (x : Int32) : Bool := decide (¬ x < 0 ∧ ¬ 64 ≤ x)
theorem bb_ky_n {i : Nat} (h : i < 64) : bb_ky (nI i) = true := decide_eq_true ⟨nI_pos (by omega), nI_ge (b := 64) h (by decide)⟩
theorem bb_ky_t {x : Int32} (h : bb_ky x = true) : ∃ i, i < 64 ∧ x = nI i := by
  have h := of_decide_eq_true h
  rcases pk_ix x (n := 64) (by omega) with g | g | g
  · exact absurd g h.1
  · exact absurd g h.2
  · exact g
theorem bb_isKey {post : Int32 → Prop} {x : Int32} (h : post (bb_bi (bb_ky x))) : wpX_isKey post x := by
  unfold wpX_isKey
  by_cases g1 : x < 0
  · have e : bb_ky x = false := decide_eq_false (fun z => z.1 g1)
    rw [e] at h
    exact br_t g1 h
  · by_cases g2 : 64 ≤ x
    · have e : bb_ky x = false := decide_eq_false (fun z => z.2 g2)
      rw [e] at h
      exact br_f g1 (br_t g2 h)
    · have e : bb_ky x = true := decide_eq_true ⟨g1, g2⟩
      rw [e] at h
      exact br_f g1 (br_f g2 h)
theorem bb_K_s {b : Nat} {s s' : Nat → Option Int32} {P : Int64} {vals : Nat → Int32} {N R : Nat} {lv : Nat → Nat} {par : Nat → Int32} {lo hi c cl cn ms : Nat → Nat} {so fi la nu : Nat → Int32} (e : ∀ k, k < 64 → s' k = s k) (h : bb_K b s P vals N R lv par lo hi c cl cn ms so fi la nu) : bb_K b s' P vals N R lv par lo hi c cl cn ms so fi la nu := by
  obtain ⟨top, own, h1, h2⟩ := h
  exact ⟨top, own, h1, fun k hk => (h2 k hk).trans (e k hk).symm⟩
section
variable {P : Int64} {N R : Nat} {W : Int32} {M : Nat} {vals : Nat → Int32} {lv : Nat → Nat} {par : Nat → Int32} {lo hi c cl cn ms : Nat → Nat} {so fi la nu : Nat → Int32} {q : Nat → Nat} {mp : Nat → Int64} {mv : Nat → Int32}
theorem bb_change0 {post : Int32 → SX → Prop} {kd a b v : Int32} (h : bb_ky a = false ∨ bb_ky b = false) (H : post (-1) (P, nI N, nI R, W, nI M, vals, bb_enc lv, par, bb_enc lo, bb_enc hi, bb_enc c, bb_enc cl, bb_enc cn, bb_enc ms, so, fi, la, nu, bb_enc q, mp, mv)) : wpX_change post (P, nI N, nI R, W, nI M, vals, bb_enc lv, par, bb_enc lo, bb_enc hi, bb_enc c, bb_enc cl, bb_enc cn, bb_enc ms, so, fi, la, nu, bb_enc q, mp, mv) kd a b v := by
  unfold wpX_change
  dsimp only
  refine bb_isKey (bb_bi_br (fun _ => H) (fun e => bb_isKey (bb_bi_br (fun _ => H) (fun e2 => ?_))))
  rcases h with h | h
  · rw [e] at h; cases h
  · rw [e2] at h; cases h
theorem bb_change {post : Int32 → SX → Prop} {i j : Nat} {kd v : Int32} {s : Nat → Option Int32} (hi' : i < 64) (hj : j < 64)
    (H : ∀ P W vals N R lv par lo hi c cl cn ms so fi la nu q, bb_K 6 (fun k => if i ≤ k ∧ k ≤ j then bb_act kd v (s k) else s k) P vals N R lv par lo hi c cl cn ms so fi la nu → post 1 (P, nI N, nI R, W, nI M, vals, bb_enc lv, par, bb_enc lo, bb_enc hi, bb_enc c, bb_enc cl, bb_enc cn, bb_enc ms, so, fi, la, nu, bb_enc q, mp, mv))
    (hK : bb_K 6 s P vals N R lv par lo hi c cl cn ms so fi la nu) : wpX_change post (P, nI N, nI R, W, nI M, vals, bb_enc lv, par, bb_enc lo, bb_enc hi, bb_enc c, bb_enc cl, bb_enc cn, bb_enc ms, so, fi, la, nu, bb_enc q, mp, mv) kd (nI i) (nI j) v := by
  unfold wpX_change
  dsimp only
  refine bb_isKey ?_
  rw [bb_ky_n hi']
  refine br_f (show ¬ bb_bi true = 0 by decide) (bb_isKey ?_)
  rw [bb_ky_n hj]
  refine br_f (show ¬ bb_bi true = 0 by decide) (pk_lt j i (fun g => ?_) (fun g => ?_))
  · refine H _ _ _ _ _ _ _ _ _ _ _ _ _ _ _ _ _ _ (bb_K_s (fun k hk => ?_) hK)
    exact if_neg (by omega)
  · obtain ⟨top, own, ⟨hT, hw, hc4, hb⟩, hS⟩ := hK
    have t3 := bb_top3 hT hw
    have n15 := bb_N15 hT hw
    have rN : R < N := hT.1.1
    have mR := hb R rN
    have hS' : bb_S (fun k => if i ≤ k ∧ k ≤ j then bb_act kd v (s k) else s k) P vals top (bb_up ms R (ms R + 1)) (upd so (48 * R + ms R) kd) (upd fi (48 * R + ms R) (nI i)) (upd la (48 * R + ms R) (nI j)) (upd nu (48 * R + ms R) v) own := by
      intro k hk
      dsimp only
      rw [← hS k hk]
      show bb_fn (bb_up ms R (ms R + 1)) (upd so (48 * R + ms R) kd) (upd fi (48 * R + ms R) (nI i)) (upd la (48 * R + ms R) (nI j)) (upd nu (48 * R + ms R) v) (own top k) k (bb_sv own (bb_fn (bb_up ms R (ms R + 1)) (upd so (48 * R + ms R) kd) (upd fi (48 * R + ms R) (nI i)) (upd la (48 * R + ms R) (nI j)) (upd nu (48 * R + ms R) v)) (bb_lf P vals) k top) =
        if i ≤ k ∧ k ≤ j then bb_act kd v (bb_fn ms so fi la nu (own top k) k (bb_sv own (bb_fn ms so fi la nu) (bb_lf P vals) k top)) else bb_fn ms so fi la nu (own top k) k (bb_sv own (bb_fn ms so fi la nu) (bb_lf P vals) k top)
      rw [bb_T_Rown hT hk, bb_app]
      have es : bb_sv own (bb_fn (bb_up ms R (ms R + 1)) (upd so (48 * R + ms R) kd) (upd fi (48 * R + ms R) (nI i)) (upd la (48 * R + ms R) (nI j)) (upd nu (48 * R + ms R) v)) (bb_lf P vals) k top = bb_sv own (bb_fn ms so fi la nu) (bb_lf P vals) k top := by
        refine bb_sv_congr top (fun l hl o => ?_) rfl
        obtain ⟨a1, a2, _, _⟩ := hT.2.2.2.1 l (by omega) k hk
        have nR : own l k ≠ R := fun z => by rw [z, hT.1.2.1] at a2; omega
        have := hb _ a1
        exact bb_fn_cs (bb_app_cs (by omega) nR) (bb_upn nR) (by omega)
      rw [es]
      have q1 := nI_leI (show i < 2 ^ 31 by omega) (show k < 2 ^ 31 by omega)
      have q2 := nI_leI (show k < 2 ^ 31 by omega) (show j < 2 ^ 31 by omega)
      by_cases w : i ≤ k ∧ k ≤ j
      · rw [if_pos w, if_pos ⟨q1.mpr w.1, q2.mpr w.2⟩]
      · rw [if_neg w, if_neg (fun z => w ⟨q1.mp z.1, q2.mp z.2⟩)]
    refine bb_post (by omega) (by omega) ?_
    dsimp only
    rw [nI_clamp (show R < 2 ^ 31 by omega)]
    refine ⟨vp_in_nI (by omega) (by omega), pk_le (bb_up ms R (ms R + 1) R) 6 (fun g => ?_) (fun g => ?_) rfl rfl (by rw [bb_ups]; omega)⟩
    · refine H _ _ _ _ _ _ _ _ _ _ _ _ _ _ _ _ _ _ ⟨top, own, ⟨hT, hw, hc4, fun n hn => ?_⟩, hS'⟩
      by_cases e : n = R
      · rw [e]; exact g
      · rw [bb_upn e]; exact hb n hn
    · refine bb_down hT n15 t3 (fun n hn nR => by rw [bb_upn nR]; exact hb n hn) (by rw [bb_ups]; omega) (fun P' W' vals' ms' so' fi' la' nu' q' h6 hs => ?_)
      dsimp only
      refine bb_partLeaves (b := 6) (s := fun k => if i ≤ k ∧ k ≤ j then bb_act kd v (s k) else s k) (by omega) (fun N R lv par lo hi c cl cn ms so fi la nu hK => ?_) ⟨top, own, ⟨hT, hw, hc4, h6⟩, fun k hk => (hs k hk).trans (hS' k hk)⟩
      exact H _ _ _ _ _ _ _ _ _ _ _ _ _ _ _ _ _ _ hK
end
end
section
/-! the reference's changes -/
def bb_yl (pr va : Nat → Int32) (k : Nat) : Option Int32 := if pr k = 0 then none else some (va k)
def bb_01 (pr : Nat → Int32) : Prop := ∀ k, pr k = 0 ∨ pr k = 1
theorem bb_yl_0 {pr va : Nat → Int32} {k : Nat} (h : pr k = 0) : bb_yl pr va k = none := if_pos h
theorem bb_yl_1 {pr va : Nat → Int32} {k : Nat} (h : ¬ pr k = 0) : bb_yl pr va k = some (va k) := if_neg h
theorem bb_01_up {pr : Nat → Int32} {k : Nat} {x : Int32} (h : bb_01 pr) (hx : x = 0 ∨ x = 1) : bb_01 (upd pr k x) := by
  intro j
  by_cases e : j = k
  · rw [e, pk_us]; exact hx
  · rw [pk_un e]; exact h j
theorem bb_a0 (v : Int32) (o : Option Int32) : bb_act 0 v o = some v := by cases o <;> rfl
theorem bb_a1 (v : Int32) (o : Option Int32) : bb_act 1 v o = none := by cases o <;> rfl
theorem bb_a2n (v : Int32) : bb_act 2 v none = some v := rfl
theorem bb_a2s (v x : Int32) : bb_act 2 v (some x) = some (x + v) := rfl
theorem bb_a3n (v : Int32) : bb_act 3 v none = none := rfl
theorem bb_a3s (v x : Int32) : bb_act 3 v (some x) = some (x + v) := rfl
theorem bb_a4n (v : Int32) : bb_act 4 v none = none := rfl
theorem bb_a4s (v x : Int32) : bb_act 4 v (some x) = some (if x ≤ v then v else x) := rfl
theorem bb_a5n (v : Int32) : bb_act 5 v none = some v := rfl
theorem bb_a5s (v x : Int32) : bb_act 5 v (some x) = some x := rfl
theorem bb_yisKey {post : Int32 → Prop} {y : SY} {x : Int32} (h : post (bb_bi (bb_ky x))) : wpY_isKey post y x := by
  unfold wpY_isKey
  dsimp only
  by_cases g1 : x < 0
  · have e : bb_ky x = false := decide_eq_false (fun z => z.1 g1)
    rw [e] at h
    exact br_t g1 h
  · have q : (63 < x) ↔ 64 ≤ x := by
      rw [Int32.lt_iff_toInt_lt, Int32.le_iff_toInt_le, show (63 : Int32).toInt = 63 from by decide, show (64 : Int32).toInt = 64 from by decide]
      omega
    by_cases g2 : 64 ≤ x
    · have e : bb_ky x = false := decide_eq_false (fun z => z.2 g2)
      rw [e] at h
      exact br_f g1 (br_t (q.mpr g2) h)
    · have e : bb_ky x = true := decide_eq_true ⟨g1, g2⟩
      rw [e] at h
      exact br_f g1 (br_f (fun z => g2 (q.mp z)) h)
theorem bb_yisPair {post : Int32 → Prop} {y : SY} {a b : Int32} (h : post (bb_bi (bb_ky a && bb_ky b))) : wpY_isPair post y a b := by
  unfold wpY_isPair
  dsimp only
  refine bb_yisKey (bb_bi_br (fun e => ?_) (fun e => bb_yisKey (bb_bi_br (fun e2 => ?_) (fun e2 => ?_))))
  · rw [e] at h; exact h
  · rw [e, e2] at h; exact h
  · rw [e, e2] at h; exact h
section
variable {M : Int32} {pr va kp kv : Nat → Int32}
/-- keys i up to below k have got the message -/
def bb_yI (kd v : Int32) (i k : Nat) (f : Nat → Option Int32) (pr va : Nat → Int32) : Prop :=
  bb_01 pr ∧ ∀ m, m < 64 → bb_yl pr va m = if i ≤ m ∧ m < k then bb_act kd v (f m) else f m
theorem bb_yI_0 {kd v : Int32} {i : Nat} (h : bb_01 pr) : bb_yI kd v i i (bb_yl pr va) pr va := ⟨h, fun m hm => by rw [if_neg (by omega)]⟩
theorem bb_yI_s {kd v : Int32} {i k : Nat} {f : Nat → Option Int32} {pr' va' : Nat → Int32} (h : bb_yI kd v i k f pr va) (hk : k < 64) (ik : i ≤ k) (h01 : bb_01 pr') (hs : ∀ m, m ≠ k → bb_yl pr' va' m = bb_yl pr va m) (hk' : bb_yl pr' va' k = bb_act kd v (bb_yl pr va k)) : bb_yI kd v i (k + 1) f pr' va' := by
  refine ⟨h01, fun m hm => ?_⟩
  by_cases e : m = k
  · rw [e, hk', h.2 k hk, if_neg (by omega), if_pos (by omega)]
  · rw [hs m e, h.2 m hm]
    by_cases w : i ≤ m ∧ m < k
    · rw [if_pos w, if_pos (by omega)]
    · rw [if_neg w, if_neg (by omega)]
theorem bb_yI_e {kd v : Int32} {i j k : Nat} {f : Nat → Option Int32} (h : bb_yI kd v i k f pr va) (hk : k = j + 1 ∨ (k = i ∧ j < i)) : bb_01 pr ∧ ∀ m, m < 64 → bb_yl pr va m = if i ≤ m ∧ m ≤ j then bb_act kd v (f m) else f m := by
  refine ⟨h.1, fun m hm => ?_⟩
  rw [h.2 m hm]
  by_cases w : i ≤ m ∧ m < k
  · rw [if_pos w, if_pos (by omega)]
  · rw [if_neg w, if_neg (by omega)]
theorem bb_yl_va {x : Int32} {k m : Nat} (h : m ≠ k) : bb_yl pr (upd va k x) m = bb_yl pr va m := by
  unfold bb_yl
  rw [pk_un h]
theorem bb_yl_pr {x : Int32} {k m : Nat} (h : m ≠ k) : bb_yl (upd pr k x) va m = bb_yl pr va m := by
  unfold bb_yl
  rw [pk_un h]
theorem bb_yput {post : Int32 → SY → Prop} {i : Nat} {v : Int32} (hi' : i < 64) (h01 : bb_01 pr)
    (H : ∀ pr' va', (bb_01 pr' ∧ ∀ m, m < 64 → bb_yl pr' va' m = if i ≤ m ∧ m ≤ i then bb_act 0 v (bb_yl pr va m) else bb_yl pr va m) → post 1 (M, pr', va', kp, kv)) : wpY_put post (M, pr, va, kp, kv) (nI i) v := by
  have ii : vp_in (nI i) 64 := vp_in_nI hi' (by omega)
  unfold wpY_put
  dsimp only
  refine bb_yisKey ?_
  rw [bb_ky_n hi', nI_clamp (show i < 2 ^ 31 by omega)]
  refine br_f (show ¬ bb_bi true = 0 by decide) ⟨ii, nm_r (show _ = upd pr i 1 from rfl) ⟨ii, nm_e (H _ _ (bb_yI_e (bb_yI_s (bb_yI_0 h01) hi' (Nat.le_refl _) (bb_01_up h01 (Or.inr rfl)) (fun m hm => (bb_yl_va hm).trans (bb_yl_pr hm)) ?_) (Or.inl rfl)))⟩⟩
  rw [bb_a0, bb_yl_1 (by rw [pk_us]; decide), pk_us]
theorem bb_yremove {post : Int32 → SY → Prop} {i : Nat} {v : Int32} (hi' : i < 64) (h01 : bb_01 pr)
    (H : ∀ pr' va', (bb_01 pr' ∧ ∀ m, m < 64 → bb_yl pr' va' m = if i ≤ m ∧ m ≤ i then bb_act 1 v (bb_yl pr va m) else bb_yl pr va m) → post 1 (M, pr', va', kp, kv)) : wpY_remove post (M, pr, va, kp, kv) (nI i) := by
  have ii : vp_in (nI i) 64 := vp_in_nI hi' (by omega)
  unfold wpY_remove
  dsimp only
  refine bb_yisKey ?_
  rw [bb_ky_n hi', nI_clamp (show i < 2 ^ 31 by omega)]
  refine br_f (show ¬ bb_bi true = 0 by decide) ⟨ii, nm_r (show _ = upd pr i 0 from rfl) (H _ _ (bb_yI_e (bb_yI_s (bb_yI_0 h01) hi' (Nat.le_refl _) (bb_01_up h01 (Or.inl rfl)) (fun m hm => bb_yl_pr hm) ?_) (Or.inl rfl)))⟩
  rw [bb_a1, bb_yl_0 pk_us]
theorem bb_yadd {post : Int32 → SY → Prop} {i : Nat} {v : Int32} (hi' : i < 64) (h01 : bb_01 pr)
    (H : ∀ pr' va', (bb_01 pr' ∧ ∀ m, m < 64 → bb_yl pr' va' m = if i ≤ m ∧ m ≤ i then bb_act 2 v (bb_yl pr va m) else bb_yl pr va m) → post 1 (M, pr', va', kp, kv)) : wpY_add post (M, pr, va, kp, kv) (nI i) v := by
  have ii : vp_in (nI i) 64 := vp_in_nI hi' (by omega)
  unfold wpY_add
  dsimp only
  refine bb_yisKey ?_
  rw [bb_ky_n hi', nI_clamp (show i < 2 ^ 31 by omega)]
  refine br_f (show ¬ bb_bi true = 0 by decide) ⟨ii, br_c (fun g => ?_) (fun g => ⟨ii, ?_⟩)⟩
  · unfold wY_add_36
    rw [nI_clamp (show i < 2 ^ 31 by omega)]
    refine ⟨ii, nm_e ⟨ii, nm_r (show _ = upd pr i 1 from rfl) (H _ _ (bb_yI_e (bb_yI_s (bb_yI_0 h01) hi' (Nat.le_refl _) (bb_01_up h01 (Or.inr rfl)) (fun m hm => (bb_yl_va hm).trans (bb_yl_pr hm)) ?_) (Or.inl rfl)))⟩⟩
    rw [bb_yl_0 g, bb_a2n, bb_yl_1 (by rw [pk_us]; decide), pk_us]
  · unfold wY_add_36
    rw [nI_clamp (show i < 2 ^ 31 by omega)]
    refine ⟨ii, nm_e ⟨ii, nm_r (show _ = upd pr i 1 from rfl) (H _ _ (bb_yI_e (bb_yI_s (bb_yI_0 h01) hi' (Nat.le_refl _) (bb_01_up h01 (Or.inr rfl)) (fun m hm => (bb_yl_va hm).trans (bb_yl_pr hm)) ?_) (Or.inl rfl)))⟩⟩
    rw [bb_yl_1 g, bb_a2s, bb_yl_1 (by rw [pk_us]; decide), pk_us]
theorem bb_yremoveRange {post : Int32 → SY → Prop} {i j : Nat} {v : Int32} (hi' : i < 64) (hj : j < 64) (h01 : bb_01 pr)
    (H : ∀ pr' va', (bb_01 pr' ∧ ∀ m, m < 64 → bb_yl pr' va' m = if i ≤ m ∧ m ≤ j then bb_act 1 v (bb_yl pr va m) else bb_yl pr va m) → post 1 (M, pr', va', kp, kv)) : wpY_removeRange post (M, pr, va, kp, kv) (nI i) (nI j) := by
  unfold wpY_removeRange
  dsimp only
  refine bb_yisPair ?_
  rw [bb_ky_n hi', bb_ky_n hj]
  refine br_f (show ¬ bb_bi true = 0 by decide) ⟨66, ?_⟩
  have lp : ∀ n k pr' va', 65 < n + k → i ≤ k → (k ≤ j + 1 ∨ k = i) → bb_yI 1 v i k (bb_yl pr va) pr' va' → wY_removeRange_13 post (nI j) M n (nI k) pr' va' kp kv := by
    intro n
    induction n with
    | zero => intro k pr' va' h1 h2 h3; omega
    | succ n ih =>
      intro k pr' va' h1 h2 h3 hI
      unfold wY_removeRange_13
      refine pk_lt j k (fun g => H _ _ (bb_yI_e hI (by omega))) (fun g => ?_)
      rw [nI_clamp (show k < 2 ^ 31 by omega)]
      refine ⟨vp_in_nI (by omega) (by omega), nm_r (show _ = upd pr' k 0 from rfl) (nm_r (nI_1 k) (ih (k + 1) _ _ (by omega) (by omega) (by omega) (bb_yI_s hI (by omega) h2 (bb_01_up hI.1 (Or.inl rfl)) (fun m hm => bb_yl_pr hm) ?_)))⟩
      rw [bb_a1, bb_yl_0 pk_us]
  exact lp 66 i pr va (by omega) (Nat.le_refl _) (Or.inr rfl) (bb_yI_0 h01)
theorem bb_yaddRange {post : Int32 → SY → Prop} {i j : Nat} {v : Int32} (hi' : i < 64) (hj : j < 64) (h01 : bb_01 pr)
    (H : ∀ pr' va', (bb_01 pr' ∧ ∀ m, m < 64 → bb_yl pr' va' m = if i ≤ m ∧ m ≤ j then bb_act 3 v (bb_yl pr va m) else bb_yl pr va m) → post 1 (M, pr', va', kp, kv)) : wpY_addRange post (M, pr, va, kp, kv) (nI i) (nI j) v := by
  unfold wpY_addRange
  dsimp only
  refine bb_yisPair ?_
  rw [bb_ky_n hi', bb_ky_n hj]
  refine br_f (show ¬ bb_bi true = 0 by decide) ⟨66, ?_⟩
  have lp : ∀ n k pr' va', 65 < n + k → i ≤ k → (k ≤ j + 1 ∨ k = i) → bb_yI 3 v i k (bb_yl pr va) pr' va' → wY_addRange_14 post (nI j) v M n (nI k) pr' va' kp kv := by
    intro n
    induction n with
    | zero => intro k pr' va' h1 h2 h3; omega
    | succ n ih =>
      intro k pr' va' h1 h2 h3 hI
      unfold wY_addRange_14
      refine pk_lt j k (fun g => H _ _ (bb_yI_e hI (by omega))) (fun g => ?_)
      rw [nI_clamp (show k < 2 ^ 31 by omega)]
      have ik : vp_in (nI k) 64 := vp_in_nI (by omega) (by omega)
      refine ⟨ik, ik, nm_e (nm_r (nI_1 k) (ih (k + 1) _ _ (by omega) (by omega) (by omega) (bb_yI_s hI (by omega) h2 hI.1 (fun m hm => bb_yl_va hm) ?_)))⟩
      by_cases z : pr' k = 0
      · rw [bb_yl_0 z, bb_yl_0 z, bb_a3n]
      · rw [bb_yl_1 z, bb_yl_1 z, bb_a3s, pk_us]
  exact lp 66 i pr va (by omega) (Nat.le_refl _) (Or.inr rfl) (bb_yI_0 h01)
theorem bb_yraiseRange {post : Int32 → SY → Prop} {i j : Nat} {v : Int32} (hi' : i < 64) (hj : j < 64) (h01 : bb_01 pr)
    (H : ∀ pr' va', (bb_01 pr' ∧ ∀ m, m < 64 → bb_yl pr' va' m = if i ≤ m ∧ m ≤ j then bb_act 4 v (bb_yl pr va m) else bb_yl pr va m) → post 1 (M, pr', va', kp, kv)) : wpY_raiseRange post (M, pr, va, kp, kv) (nI i) (nI j) v := by
  unfold wpY_raiseRange
  dsimp only
  refine bb_yisPair ?_
  rw [bb_ky_n hi', bb_ky_n hj]
  refine br_f (show ¬ bb_bi true = 0 by decide) ⟨66, ?_⟩
  have lp : ∀ n k pr' va', 65 < n + k → i ≤ k → (k ≤ j + 1 ∨ k = i) → bb_yI 4 v i k (bb_yl pr va) pr' va' → wY_raiseRange_14 post (nI j) v M n (nI k) pr' va' kp kv := by
    intro n
    induction n with
    | zero => intro k pr' va' h1 h2 h3; omega
    | succ n ih =>
      intro k pr' va' h1 h2 h3 hI
      unfold wY_raiseRange_14
      refine pk_lt j k (fun g => H _ _ (bb_yI_e hI (by omega))) (fun g => ?_)
      rw [nI_clamp (show k < 2 ^ 31 by omega)]
      have ik : vp_in (nI k) 64 := vp_in_nI (by omega) (by omega)
      refine ⟨ik, br_c (fun g2 => ⟨ik, ik, nm_e (nm_r (nI_1 k) (ih (k + 1) _ _ (by omega) (by omega) (by omega) (bb_yI_s hI (by omega) h2 hI.1 (fun m hm => bb_yl_va hm) ?_)))⟩) (fun g2 => ⟨ik, nm_e (nm_r (nI_1 k) (ih (k + 1) _ _ (by omega) (by omega) (by omega) (bb_yI_s hI (by omega) h2 hI.1 (fun m hm => bb_yl_va hm) ?_)))⟩)⟩
      · by_cases z : pr' k = 0
        · rw [bb_yl_0 z, bb_yl_0 z, bb_a4n]
        · rw [bb_yl_1 z, bb_yl_1 z, bb_a4s, pk_us]
          by_cases w : va' k ≤ v
          · rw [if_pos w, Int32.le_antisymm w g2]
          · rw [if_neg w]
      · by_cases z : pr' k = 0
        · rw [bb_yl_0 z, bb_yl_0 z, bb_a4n]
        · rw [bb_yl_1 z, bb_yl_1 z, bb_a4s, pk_us, if_pos]
          rw [Int32.le_iff_toInt_le] at *
          omega
  exact lp 66 i pr va (by omega) (Nat.le_refl _) (Or.inr rfl) (bb_yI_0 h01)
theorem bb_yfillRange {post : Int32 → SY → Prop} {i j : Nat} {v : Int32} (hi' : i < 64) (hj : j < 64) (h01 : bb_01 pr)
    (H : ∀ pr' va', (bb_01 pr' ∧ ∀ m, m < 64 → bb_yl pr' va' m = if i ≤ m ∧ m ≤ j then bb_act 5 v (bb_yl pr va m) else bb_yl pr va m) → post 1 (M, pr', va', kp, kv)) : wpY_fillRange post (M, pr, va, kp, kv) (nI i) (nI j) v := by
  unfold wpY_fillRange
  dsimp only
  refine bb_yisPair ?_
  rw [bb_ky_n hi', bb_ky_n hj]
  refine br_f (show ¬ bb_bi true = 0 by decide) ⟨66, ?_⟩
  have lp : ∀ n k pr' va', 65 < n + k → i ≤ k → (k ≤ j + 1 ∨ k = i) → bb_yI 5 v i k (bb_yl pr va) pr' va' → wY_fillRange_14 post (nI j) v M n (nI k) pr' va' kp kv := by
    intro n
    induction n with
    | zero => intro k pr' va' h1 h2 h3; omega
    | succ n ih =>
      intro k pr' va' h1 h2 h3 hI
      unfold wY_fillRange_14
      refine pk_lt j k (fun g => H _ _ (bb_yI_e hI (by omega))) (fun g => ?_)
      have ik : vp_in (nI k) 64 := vp_in_nI (by omega) (by omega)
      rw [nI_clamp (show k < 2 ^ 31 by omega)]
      refine ⟨ik, br_c (fun g2 => ?_) (fun g2 => ⟨ik, ?_⟩)⟩
      · unfold wY_fillRange_47
        rw [nI_clamp (show k < 2 ^ 31 by omega)]
        refine ⟨ik, nm_e ⟨ik, nm_r (show _ = upd pr' k 1 from rfl) (nm_r (nI_1 k) (ih (k + 1) _ _ (by omega) (by omega) (by omega) (bb_yI_s hI (by omega) h2 (bb_01_up hI.1 (Or.inr rfl)) (fun m hm => (bb_yl_va hm).trans (bb_yl_pr hm)) ?_)))⟩⟩
        rw [bb_yl_0 g2, bb_a5n, bb_yl_1 (by rw [pk_us]; decide), pk_us]
      · unfold wY_fillRange_47
        rw [nI_clamp (show k < 2 ^ 31 by omega)]
        refine ⟨ik, nm_e ⟨ik, nm_r (show _ = upd pr' k 1 from rfl) (nm_r (nI_1 k) (ih (k + 1) _ _ (by omega) (by omega) (by omega) (bb_yI_s hI (by omega) h2 (bb_01_up hI.1 (Or.inr rfl)) (fun m hm => (bb_yl_va hm).trans (bb_yl_pr hm)) ?_)))⟩⟩
        rw [bb_yl_1 g2, bb_a5s, bb_yl_1 (by rw [pk_us]; decide), pk_us]
  exact lp 66 i pr va (by omega) (Nat.le_refl _) (Or.inr rfl) (bb_yI_0 h01)
end
end
section
/-! the relation; the constructors; changes -/
def bb_MK (M : Nat) (mp : Nat → Int64) (mv kp kv : Nat → Int32) : Prop := M ≤ 3 ∧ bb_01 kp ∧ ∀ j, j < M → ∀ k, k < 64 → bb_lf (mp j) (fun k => mv (64 * j + k)) k = bb_yl kp kv (64 * j + k)
/-- the relation at the head of a turn: whatever holds of all such pairs of states holds of u and v -/
def i_Rel (k : Nat) (u : SX) (v : SY) : Prop := ∀ Q : SX → SY → Prop,
  (∀ (P : Int64) (N R : Nat) (W : Int32) (M : Nat) (vals : Nat → Int32) (lv : Nat → Nat) (par : Nat → Int32) (lo hi c cl cn ms : Nat → Nat) (so fi la nu : Nat → Int32) (q : Nat → Nat) (mp : Nat → Int64) (mv : Nat → Int32) (pr va kp kv : Nat → Int32),
    bb_K 6 (bb_yl pr va) P vals N R lv par lo hi c cl cn ms so fi la nu → bb_01 pr → bb_MK M mp mv kp kv → Q (P, nI N, nI R, W, nI M, vals, bb_enc lv, par, bb_enc lo, bb_enc hi, bb_enc c, bb_enc cl, bb_enc cn, bb_enc ms, so, fi, la, nu, bb_enc q, mp, mv) (nI M, pr, va, kp, kv)) → Q u v
theorem i_up {k : Nat} {u : SX} {v : SY} (h : i_Rel k u v) : i_Rel (k + 4) u v := h
section
variable {P : Int64} {N R : Nat} {W : Int32} {M : Nat} {vals : Nat → Int32} {lv : Nat → Nat} {par : Nat → Int32} {lo hi c cl cn ms : Nat → Nat} {so fi la nu : Nat → Int32} {q : Nat → Nat} {mp : Nat → Int64} {mv : Nat → Int32}
theorem bb_ri {k : Nat} {pr va kp kv : Nat → Int32} (h1 : bb_K 6 (bb_yl pr va) P vals N R lv par lo hi c cl cn ms so fi la nu) (h2 : bb_01 pr) (h3 : bb_MK M mp mv kp kv) : i_Rel k (P, nI N, nI R, W, nI M, vals, bb_enc lv, par, bb_enc lo, bb_enc hi, bb_enc c, bb_enc cl, bb_enc cn, bb_enc ms, so, fi, la, nu, bb_enc q, mp, mv) (nI M, pr, va, kp, kv) :=
  fun Q h => h P N R W M vals lv par lo hi c cl cn ms so fi la nu q mp mv pr va kp kv h1 h2 h3
theorem bb_plant {post : SX → Prop} (H : post (P, nI 1, nI 0, W, nI M, vals, bb_enc (bb_up lv 0 0), (upd par 0 (-1)), bb_enc (bb_up lo 0 0), bb_enc (bb_up hi 0 64), bb_enc (bb_up c 0 1), bb_enc (bb_up cl 0 0), bb_enc cn, bb_enc (bb_up ms 0 0), so, fi, la, nu, bb_enc q, mp, mv)) : wpX_plant post (P, nI N, nI R, W, nI M, vals, bb_enc lv, par, bb_enc lo, bb_enc hi, bb_enc c, bb_enc cl, bb_enc cn, bb_enc ms, so, fi, la, nu, bb_enc q, mp, mv) := by
  unfold wpX_plant
  dsimp only
  exact nm_r (bb_eu lv 0 0) (nm_e (nm_r (bb_eu lo 0 0) (nm_r (bb_eu hi 0 64) (nm_r (bb_eu c 0 1) (nm_r (bb_eu cl 0 0) (nm_r (bb_eu ms 0 0) H))))))
theorem bb_K_plant : bb_K 0 (bb_lf P vals) P vals 1 0 (bb_up lv 0 0) (upd par 0 (-1)) (bb_up lo 0 0) (bb_up hi 0 64) (bb_up c 0 1) (bb_up cl 0 0) cn (bb_up ms 0 0) so fi la nu := by
  have z : ∀ n, n < 1 → n = 0 := fun n hn => by omega
  have ce0 : bb_ce (bb_up hi 0 64) (bb_up c 0 1) (bb_up cl 0 0) 0 0 = 64 := by
    rw [bb_ce_f (by rw [bb_ups]; omega), bb_ups]
  have cl0 : bb_up cl 0 0 (5 * 0 + 0) = 0 := bb_ups _ _ _
  refine ⟨0, fun _ _ => 0, ⟨⟨⟨by omega, bb_ups _ _ _, bb_ups _ _ _, bb_ups _ _ _, pk_us⟩, ?_, ?_, ?_, ?_, ?_, ?_, ?_⟩, ⟨?_, ?_⟩, ?_, ?_⟩, ?_⟩
  · intro n hn
    rw [z n hn, bb_ups, bb_ups, bb_ups, bb_ups]
    exact ⟨by omega, by omega, by omega, by omega, (bb_ups _ _ _).symm⟩
  · intro n hn k _ _
    exact (z n hn).symm
  · intro l hl k hk
    dsimp only
    rw [bb_ups, bb_ups, bb_ups]
    exact ⟨by omega, by omega, by omega, hk⟩
  · intro l hl
    omega
  · intro n hn i hi'
    rw [z n hn, bb_ups] at hi'
    rw [z n hn, show i = 0 from by omega, ce0, cl0]
    omega
  · intro n hn l0
    rw [z n hn, bb_ups] at l0
    omega
  · intro n hn l0 i hi'
    rw [z n hn, bb_ups] at hi'
    rw [z n hn, show i = 0 from by omega, ce0, cl0]
    omega
  · intro n hn n0
    exact absurd (z n hn) n0
  · intro t0
    omega
  · intro n hn
    rw [z n hn, bb_ups]
    omega
  · intro n hn
    rw [z n hn, bb_ups]
    omega
  · intro k hk
    show bb_fn (bb_up ms 0 0) so fi la nu 0 k (bb_lf P vals k) = bb_lf P vals k
    unfold bb_fn
    rw [bb_ups]
    rfl
end
theorem bb_lf0 (vals : Nat → Int32) (k : Nat) : bb_lf 0 vals k = none := bb_lf_f BitVec.getLsbD_zero
theorem i_vc0 : wpX_init (fun u => wpY_init (fun v => i_Rel 0 u v)) := by
  unfold wpX_init
  refine bb_plant (P := 0) (N := 0) (R := 0) (W := 0) (M := 0) (vals := fun _ => 0) (lv := fun _ => 0) (par := fun _ => 0) (lo := fun _ => 0) (hi := fun _ => 0) (c := fun _ => 0) (cl := fun _ => 0) (cn := fun _ => 0) (ms := fun _ => 0) (so := fun _ => 0) (fi := fun _ => 0) (la := fun _ => 0) (nu := fun _ => 0) (q := fun _ => 0) (mp := fun _ => 0) (mv := fun _ => 0) ?_
  dsimp only
  unfold wpY_init
  refine bb_ri (M := 0) (bb_K_s (fun k hk => ?_) (bb_K_le (Nat.zero_le 6) bb_K_plant)) (fun _ => Or.inl rfl) ⟨by omega, fun _ => Or.inl rfl, fun j hj => by omega⟩
  rw [bb_lf0]
  rfl
theorem i_vc_put {k : Nat} {u : SX} {v : SY} (I : i_Rel k u v) (hk : k + 4 ≤ 2048) (v1 : Int32) (v2 : Int32) : wpX_put (fun r u' => wpY_put (fun r' v' => r' = r ∧ i_Rel (k + 4) u' v') v v1 v2) u v1 v2 := by
  refine I (fun u v => wpX_put (fun r u' => wpY_put (fun r' v' => r' = r ∧ i_Rel (k + 4) u' v') v v1 v2) u v1 v2) ?_
  intro P N R W M vals lv par lo hi c cl cn ms so fi la nu q mp mv pr va kp kv hK h01 hM
  unfold wpX_put
  dsimp only
  cases g : bb_ky v1
  · refine bb_change0 (Or.inl g) ?_
    dsimp only
    unfold wpY_put
    dsimp only
    refine bb_yisKey ?_
    rw [g]
    exact br_t rfl ⟨rfl, bb_ri hK h01 hM⟩
  · obtain ⟨i, hi', rfl⟩ := bb_ky_t g
    refine bb_change (s := bb_yl pr va) hi' hi' (fun P W vals N R lv par lo hi c cl cn ms so fi la nu q hK' => ?_) hK
    dsimp only
    exact bb_yput (v := v2) hi' h01 (fun pr' va' hy => ⟨rfl, bb_ri (bb_K_s hy.2 hK') hy.1 hM⟩)
theorem i_vc_remove {k : Nat} {u : SX} {v : SY} (I : i_Rel k u v) (hk : k + 4 ≤ 2048) (v1 : Int32) : wpX_remove (fun r u' => wpY_remove (fun r' v' => r' = r ∧ i_Rel (k + 4) u' v') v v1) u v1 := by
  refine I (fun u v => wpX_remove (fun r u' => wpY_remove (fun r' v' => r' = r ∧ i_Rel (k + 4) u' v') v v1) u v1) ?_
  intro P N R W M vals lv par lo hi c cl cn ms so fi la nu q mp mv pr va kp kv hK h01 hM
  unfold wpX_remove
  dsimp only
  cases g : bb_ky v1
  · refine bb_change0 (Or.inl g) ?_
    dsimp only
    unfold wpY_remove
    dsimp only
    refine bb_yisKey ?_
    rw [g]
    exact br_t rfl ⟨rfl, bb_ri hK h01 hM⟩
  · obtain ⟨i, hi', rfl⟩ := bb_ky_t g
    refine bb_change (s := bb_yl pr va) hi' hi' (fun P W vals N R lv par lo hi c cl cn ms so fi la nu q hK' => ?_) hK
    dsimp only
    exact bb_yremove (v := 0) hi' h01 (fun pr' va' hy => ⟨rfl, bb_ri (bb_K_s hy.2 hK') hy.1 hM⟩)
theorem i_vc_add {k : Nat} {u : SX} {v : SY} (I : i_Rel k u v) (hk : k + 4 ≤ 2048) (v1 : Int32) (v2 : Int32) : wpX_add (fun r u' => wpY_add (fun r' v' => r' = r ∧ i_Rel (k + 4) u' v') v v1 v2) u v1 v2 := by
  refine I (fun u v => wpX_add (fun r u' => wpY_add (fun r' v' => r' = r ∧ i_Rel (k + 4) u' v') v v1 v2) u v1 v2) ?_
  intro P N R W M vals lv par lo hi c cl cn ms so fi la nu q mp mv pr va kp kv hK h01 hM
  unfold wpX_add
  dsimp only
  cases g : bb_ky v1
  · refine bb_change0 (Or.inl g) ?_
    dsimp only
    unfold wpY_add
    dsimp only
    refine bb_yisKey ?_
    rw [g]
    exact br_t rfl ⟨rfl, bb_ri hK h01 hM⟩
  · obtain ⟨i, hi', rfl⟩ := bb_ky_t g
    refine bb_change (s := bb_yl pr va) hi' hi' (fun P W vals N R lv par lo hi c cl cn ms so fi la nu q hK' => ?_) hK
    dsimp only
    exact bb_yadd (v := v2) hi' h01 (fun pr' va' hy => ⟨rfl, bb_ri (bb_K_s hy.2 hK') hy.1 hM⟩)
theorem i_vc_removeRange {k : Nat} {u : SX} {v : SY} (I : i_Rel k u v) (hk : k + 4 ≤ 2048) (v1 : Int32) (v2 : Int32) : wpX_removeRange (fun r u' => wpY_removeRange (fun r' v' => r' = r ∧ i_Rel (k + 4) u' v') v v1 v2) u v1 v2 := by
  refine I (fun u v => wpX_removeRange (fun r u' => wpY_removeRange (fun r' v' => r' = r ∧ i_Rel (k + 4) u' v') v v1 v2) u v1 v2) ?_
  intro P N R W M vals lv par lo hi c cl cn ms so fi la nu q mp mv pr va kp kv hK h01 hM
  unfold wpX_removeRange
  dsimp only
  cases g : (bb_ky v1 && bb_ky v2)
  · refine bb_change0 ?_ ?_
    · cases g1 : bb_ky v1
      · exact Or.inl rfl
      · rw [g1] at g; exact Or.inr g
    · dsimp only
      unfold wpY_removeRange
      dsimp only
      refine bb_yisPair ?_
      rw [g]
      exact br_t rfl ⟨rfl, bb_ri hK h01 hM⟩
  · rw [Bool.and_eq_true] at g
    obtain ⟨i, hi', rfl⟩ := bb_ky_t g.1
    obtain ⟨j, hj, rfl⟩ := bb_ky_t g.2
    refine bb_change (s := bb_yl pr va) hi' hj (fun P W vals N R lv par lo hi c cl cn ms so fi la nu q hK' => ?_) hK
    dsimp only
    exact bb_yremoveRange (v := 0) hi' hj h01 (fun pr' va' hy => ⟨rfl, bb_ri (bb_K_s hy.2 hK') hy.1 hM⟩)
theorem i_vc_addRange {k : Nat} {u : SX} {v : SY} (I : i_Rel k u v) (hk : k + 4 ≤ 2048) (v1 : Int32) (v2 : Int32) (v3 : Int32) : wpX_addRange (fun r u' => wpY_addRange (fun r' v' => r' = r ∧ i_Rel (k + 4) u' v') v v1 v2 v3) u v1 v2 v3 := by
  refine I (fun u v => wpX_addRange (fun r u' => wpY_addRange (fun r' v' => r' = r ∧ i_Rel (k + 4) u' v') v v1 v2 v3) u v1 v2 v3) ?_
  intro P N R W M vals lv par lo hi c cl cn ms so fi la nu q mp mv pr va kp kv hK h01 hM
  unfold wpX_addRange
  dsimp only
  cases g : (bb_ky v1 && bb_ky v2)
  · refine bb_change0 ?_ ?_
    · cases g1 : bb_ky v1
      · exact Or.inl rfl
      · rw [g1] at g; exact Or.inr g
    · dsimp only
      unfold wpY_addRange
      dsimp only
      refine bb_yisPair ?_
      rw [g]
      exact br_t rfl ⟨rfl, bb_ri hK h01 hM⟩
  · rw [Bool.and_eq_true] at g
    obtain ⟨i, hi', rfl⟩ := bb_ky_t g.1
    obtain ⟨j, hj, rfl⟩ := bb_ky_t g.2
    refine bb_change (s := bb_yl pr va) hi' hj (fun P W vals N R lv par lo hi c cl cn ms so fi la nu q hK' => ?_) hK
    dsimp only
    exact bb_yaddRange (v := v3) hi' hj h01 (fun pr' va' hy => ⟨rfl, bb_ri (bb_K_s hy.2 hK') hy.1 hM⟩)
theorem i_vc_raiseRange {k : Nat} {u : SX} {v : SY} (I : i_Rel k u v) (hk : k + 4 ≤ 2048) (v1 : Int32) (v2 : Int32) (v3 : Int32) : wpX_raiseRange (fun r u' => wpY_raiseRange (fun r' v' => r' = r ∧ i_Rel (k + 4) u' v') v v1 v2 v3) u v1 v2 v3 := by
  refine I (fun u v => wpX_raiseRange (fun r u' => wpY_raiseRange (fun r' v' => r' = r ∧ i_Rel (k + 4) u' v') v v1 v2 v3) u v1 v2 v3) ?_
  intro P N R W M vals lv par lo hi c cl cn ms so fi la nu q mp mv pr va kp kv hK h01 hM
  unfold wpX_raiseRange
  dsimp only
  cases g : (bb_ky v1 && bb_ky v2)
  · refine bb_change0 ?_ ?_
    · cases g1 : bb_ky v1
      · exact Or.inl rfl
      · rw [g1] at g; exact Or.inr g
    · dsimp only
      unfold wpY_raiseRange
      dsimp only
      refine bb_yisPair ?_
      rw [g]
      exact br_t rfl ⟨rfl, bb_ri hK h01 hM⟩
  · rw [Bool.and_eq_true] at g
    obtain ⟨i, hi', rfl⟩ := bb_ky_t g.1
    obtain ⟨j, hj, rfl⟩ := bb_ky_t g.2
    refine bb_change (s := bb_yl pr va) hi' hj (fun P W vals N R lv par lo hi c cl cn ms so fi la nu q hK' => ?_) hK
    dsimp only
    exact bb_yraiseRange (v := v3) hi' hj h01 (fun pr' va' hy => ⟨rfl, bb_ri (bb_K_s hy.2 hK') hy.1 hM⟩)
theorem i_vc_fillRange {k : Nat} {u : SX} {v : SY} (I : i_Rel k u v) (hk : k + 4 ≤ 2048) (v1 : Int32) (v2 : Int32) (v3 : Int32) : wpX_fillRange (fun r u' => wpY_fillRange (fun r' v' => r' = r ∧ i_Rel (k + 4) u' v') v v1 v2 v3) u v1 v2 v3 := by
  refine I (fun u v => wpX_fillRange (fun r u' => wpY_fillRange (fun r' v' => r' = r ∧ i_Rel (k + 4) u' v') v v1 v2 v3) u v1 v2 v3) ?_
  intro P N R W M vals lv par lo hi c cl cn ms so fi la nu q mp mv pr va kp kv hK h01 hM
  unfold wpX_fillRange
  dsimp only
  cases g : (bb_ky v1 && bb_ky v2)
  · refine bb_change0 ?_ ?_
    · cases g1 : bb_ky v1
      · exact Or.inl rfl
      · rw [g1] at g; exact Or.inr g
    · dsimp only
      unfold wpY_fillRange
      dsimp only
      refine bb_yisPair ?_
      rw [g]
      exact br_t rfl ⟨rfl, bb_ri hK h01 hM⟩
  · rw [Bool.and_eq_true] at g
    obtain ⟨i, hi', rfl⟩ := bb_ky_t g.1
    obtain ⟨j, hj, rfl⟩ := bb_ky_t g.2
    refine bb_change (s := bb_yl pr va) hi' hj (fun P W vals N R lv par lo hi c cl cn ms so fi la nu q hK' => ?_) hK
    dsimp only
    exact bb_yfillRange (v := v3) hi' hj h01 (fun pr' va' hy => ⟨rfl, bb_ri (bb_K_s hy.2 hK') hy.1 hM⟩)
end
section
/-! marks; one key -/
theorem bb_nar {x : Int32} (h : x = 0 ∨ x = 1) : vp_nar .boolean x = x := by
  rcases h with h | h
  · rw [h]; rfl
  · rw [h]; rfl
section
variable {P : Int64} {N R : Nat} {W : Int32} {M : Nat} {vals : Nat → Int32} {lv : Nat → Nat} {par : Nat → Int32} {lo hi c cl cn ms : Nat → Nat} {so fi la nu : Nat → Int32} {q : Nat → Nat} {mp : Nat → Int64} {mv : Nat → Int32}
theorem bb_mark_lp {post : Int32 → SX → Prop} {mv0 : Nat → Int32} (hM : M < 3)
    (H : ∀ mv', (∀ k, k < 64 → mv' (64 * M + k) = vals k) → (∀ j, j < 64 * M → mv' j = mv0 j) → post (nI (M + 1)) (P, nI N, nI R, W, nI (M + 1), vals, bb_enc lv, par, bb_enc lo, bb_enc hi, bb_enc c, bb_enc cl, bb_enc cn, bb_enc ms, so, fi, la, nu, bb_enc q, mp, mv')) :
    ∀ n k mv, 64 < n + k → k ≤ 64 → (∀ m, m < k → mv (64 * M + m) = vals m) → (∀ j, j < 64 * M → mv j = mv0 j) → wX_mark_30 post P (nI N) (nI R) W (nI M) n (nI k) vals (bb_enc lv) par (bb_enc lo) (bb_enc hi) (bb_enc c) (bb_enc cl) (bb_enc cn) (bb_enc ms) so fi la nu (bb_enc q) mp mv := by
  intro n
  induction n with
  | zero => intro k mv h1 h2; omega
  | succ n ih =>
    intro k mv h1 h2 h3 h4
    unfold wX_mark_30
    refine pk_le 64 k (fun g => ?_) (fun g => ?_)
    · exact nm_r (nI_1 M) (H mv (fun m hm => h3 m (by omega)) h4)
    · rw [bb_m64, nI_add, nI_clamp (show k < 2 ^ 31 by omega), nI_clamp (show 64 * M + k < 2 ^ 31 by omega)]
      refine ⟨vp_in_nI (by omega) (by omega), vp_in_nI (by omega) (by omega), nm_e (nm_r (nI_1 k) (ih (k + 1) _ (by omega) (by omega) (fun m hm => ?_) (fun j hj => ?_)))⟩
      · by_cases e : m = k
        · rw [e, pk_us]
        · rw [pk_un (by omega)]; exact h3 m (by omega)
      · rw [pk_un (by omega)]; exact h4 j hj
theorem bb_back_lp {post : Int32 → SX → Prop} (hM : M < 3)
    (H : ∀ vals N R lv par lo hi c cl cn ms so fi la nu, (∀ k, k < 64 → vals k = mv (64 * M + k)) → bb_K 0 (bb_lf P vals) P vals N R lv par lo hi c cl cn ms so fi la nu → post (nI M) (P, nI N, nI R, W, nI M, vals, bb_enc lv, par, bb_enc lo, bb_enc hi, bb_enc c, bb_enc cl, bb_enc cn, bb_enc ms, so, fi, la, nu, bb_enc q, mp, mv)) :
    ∀ n k vals, 64 < n + k → k ≤ 64 → (∀ m, m < k → vals m = mv (64 * M + m)) → wX_back_35 post P (nI N) (nI R) W (nI M) n (nI k) vals (bb_enc lv) par (bb_enc lo) (bb_enc hi) (bb_enc c) (bb_enc cl) (bb_enc cn) (bb_enc ms) so fi la nu (bb_enc q) mp mv := by
  intro n
  induction n with
  | zero => intro k vals h1 h2; omega
  | succ n ih =>
    intro k vals h1 h2 h3
    unfold wX_back_35
    refine pk_le 64 k (fun g => ?_) (fun g => ?_)
    · refine bb_plant ?_
      dsimp only
      refine bb_partLeaves (b := 0) (s := bb_lf P vals) (by omega) (fun N R lv par lo hi c cl cn ms so fi la nu hK => ?_) bb_K_plant
      exact H _ _ _ _ _ _ _ _ _ _ _ _ _ _ _ (fun m hm => h3 m (by omega)) hK
    · rw [bb_m64, nI_add, nI_clamp (show k < 2 ^ 31 by omega), nI_clamp (show 64 * M + k < 2 ^ 31 by omega)]
      refine ⟨vp_in_nI (by omega) (by omega), vp_in_nI (by omega) (by omega), nm_e (nm_r (nI_1 k) (ih (k + 1) _ (by omega) (by omega) (fun m hm => ?_)))⟩
      by_cases e : m = k
      · rw [e, pk_us]
      · rw [pk_un (by omega)]; exact h3 m (by omega)
end
section
variable {M : Nat} {pr va kp kv : Nat → Int32}
theorem bb_ymark_lp {post : Int32 → SY → Prop} {kp0 kv0 : Nat → Int32} (hM : M < 3) (h01 : bb_01 pr)
    (H : ∀ kp' kv', bb_01 kp' → (∀ k, k < 64 → kp' (64 * M + k) = pr k ∧ kv' (64 * M + k) = va k) → (∀ j, j < 64 * M → kp' j = kp0 j ∧ kv' j = kv0 j) → post (nI (M + 1)) (nI (M + 1), pr, va, kp', kv')) :
    ∀ n k kp kv, 64 < n + k → k ≤ 64 → bb_01 kp → (∀ m, m < k → kp (64 * M + m) = pr m ∧ kv (64 * M + m) = va m) → (∀ j, j < 64 * M → kp j = kp0 j ∧ kv j = kv0 j) → wY_mark_13 post (nI M) n (nI k) pr va kp kv := by
  intro n
  induction n with
  | zero => intro k kp kv h1 h2; omega
  | succ n ih =>
    intro k kp kv h1 h2 h5 h3 h4
    unfold wY_mark_13
    refine pk_le 64 k (fun g => ?_) (fun g => ?_)
    · exact nm_r (nI_1 M) (H kp kv h5 (fun m hm => h3 m (by omega)) h4)
    · rw [bb_m64, nI_add, nI_clamp (show k < 2 ^ 31 by omega), nI_clamp (show 64 * M + k < 2 ^ 31 by omega), bb_nar (h01 k)]
      have i1 : vp_in (nI k) 64 := vp_in_nI (by omega) (by omega)
      have i2 : vp_in (nI (64 * M + k)) 192 := vp_in_nI (by omega) (by omega)
      refine ⟨i1, i2, nm_e ⟨i1, i2, nm_e (nm_r (nI_1 k) (ih (k + 1) _ _ (by omega) (by omega) (bb_01_up h5 (h01 k)) (fun m hm => ?_) (fun j hj => ?_)))⟩⟩
      · by_cases e : m = k
        · rw [e, pk_us, pk_us]; exact ⟨rfl, rfl⟩
        · rw [pk_un (by omega), pk_un (by omega)]; exact h3 m (by omega)
      · rw [pk_un (by omega), pk_un (by omega)]; exact h4 j hj
theorem bb_yback_lp {post : Int32 → SY → Prop} (hM : M < 3) (h01 : bb_01 kp)
    (H : ∀ pr' va', bb_01 pr' → (∀ k, k < 64 → pr' k = kp (64 * M + k) ∧ va' k = kv (64 * M + k)) → post (nI M) (nI M, pr', va', kp, kv)) :
    ∀ n k pr va, 64 < n + k → k ≤ 64 → bb_01 pr → (∀ m, m < k → pr m = kp (64 * M + m) ∧ va m = kv (64 * M + m)) → wY_back_22 post (nI M) n (nI k) pr va kp kv := by
  intro n
  induction n with
  | zero => intro k pr va h1 h2; omega
  | succ n ih =>
    intro k pr va h1 h2 h5 h3
    unfold wY_back_22
    refine pk_le 64 k (fun g => ?_) (fun g => ?_)
    · exact H pr va h5 (fun m hm => h3 m (by omega))
    · rw [bb_m64, nI_add, nI_clamp (show k < 2 ^ 31 by omega), nI_clamp (show 64 * M + k < 2 ^ 31 by omega), bb_nar (h01 (64 * M + k))]
      have i1 : vp_in (nI k) 64 := vp_in_nI (by omega) (by omega)
      have i2 : vp_in (nI (64 * M + k)) 192 := vp_in_nI (by omega) (by omega)
      refine ⟨i2, i1, nm_e ⟨i2, i1, nm_e (nm_r (nI_1 k) (ih (k + 1) _ _ (by omega) (by omega) (bb_01_up h5 (h01 (64 * M + k))) (fun m hm => ?_)))⟩⟩
      by_cases e : m = k
      · rw [e, pk_us, pk_us]; exact ⟨rfl, rfl⟩
      · rw [pk_un (by omega), pk_un (by omega)]; exact h3 m (by omega)
end
theorem i_vc_mark {k : Nat} {u : SX} {v : SY} (I : i_Rel k u v) (hk : k + 4 ≤ 2048) : wpX_mark (fun r u' => wpY_mark (fun r' v' => r' = r ∧ i_Rel (k + 4) u' v') v) u := by
  refine I (fun u v => wpX_mark (fun r u' => wpY_mark (fun r' v' => r' = r ∧ i_Rel (k + 4) u' v') v) u) ?_
  intro P N R W M vals lv par lo hi c cl cn ms so fi la nu q mp mv pr va kp kv hK h01 hM
  obtain ⟨m3, m01, mm⟩ := hM
  unfold wpX_mark
  dsimp only
  refine pk_lt M 3 (fun g => bb_flushAll (s := bb_yl pr va) (fun P vals N R lv par lo hi c cl cn ms so fi la nu hK0 => ?_) hK) (fun g => ?_)
  · dsimp only
    rw [nI_clamp (show M < 2 ^ 31 by omega)]
    refine ⟨vp_in_nI g (by omega), nm_e ⟨65, bb_mark_lp (mv0 := mv) g (fun mv' v1 v2 => ?_) 65 0 mv (by omega) (by omega) (fun m hm => by omega) (fun j _ => rfl)⟩⟩
    unfold wpY_mark
    dsimp only
    refine br_f (fun z => ?_) ⟨65, bb_ymark_lp (kp0 := kp) (kv0 := kv) g h01 (fun kp' kv' w1 w2 w3 => ⟨rfl, bb_ri (bb_K_le (Nat.zero_le 6) hK0) h01 ⟨by omega, w1, ?_⟩⟩) 65 0 kp kv (by omega) (by omega) m01 (fun m hm => by omega) (fun j _ => ⟨rfl, rfl⟩)⟩
    · have := (nI_eq (a := M) (b := 3) (by omega) (by omega)).mp z
      omega
    · intro j hj m hm
      by_cases e : j = M
      · rw [e, pk_uLs]
        have q := bb_K0 hK0 m hm
        unfold bb_lf at q
        unfold bb_lf
        dsimp only
        rw [v1 m hm, q]
        unfold bb_yl
        rw [(w2 m hm).1, (w2 m hm).2]
      · rw [pk_uLn e]
        have q := mm j (by omega) m hm
        unfold bb_lf at q
        unfold bb_lf
        dsimp only at q
        dsimp only
        rw [v2 (64 * j + m) (by omega), q]
        unfold bb_yl
        rw [(w3 (64 * j + m) (by omega)).1, (w3 (64 * j + m) (by omega)).2]
  · unfold wpY_mark
    dsimp only
    have e : M = 3 := by omega
    subst e
    exact br_t rfl ⟨rfl, bb_ri hK h01 ⟨m3, m01, mm⟩⟩
theorem i_vc_back {k : Nat} {u : SX} {v : SY} (I : i_Rel k u v) (hk : k + 4 ≤ 2048) : wpX_back (fun r u' => wpY_back (fun r' v' => r' = r ∧ i_Rel (k + 4) u' v') v) u := by
  refine I (fun u v => wpX_back (fun r u' => wpY_back (fun r' v' => r' = r ∧ i_Rel (k + 4) u' v') v) u) ?_
  intro P N R W M vals lv par lo hi c cl cn ms so fi la nu q mp mv pr va kp kv hK h01 hM
  obtain ⟨m3, m01, mm⟩ := hM
  unfold wpX_back
  dsimp only
  refine pk_eq M 0 (fun g => ?_) (fun g => ?_)
  · unfold wpY_back
    dsimp only
    subst g
    exact br_t rfl ⟨rfl, bb_ri hK h01 ⟨m3, m01, mm⟩⟩
  · obtain ⟨m, rfl⟩ : ∃ m, M = m + 1 := ⟨M - 1, by omega⟩
    refine nm_r (nI_pred m) ?_
    rw [nI_clamp (show m < 2 ^ 31 by omega)]
    refine ⟨vp_in_nI (by omega) (by omega), nm_e ⟨65, bb_back_lp (M := m) (by omega) (fun vals N R lv par lo hi c cl cn ms so fi la nu v1 hK0 => ?_) 65 0 vals (by omega) (by omega) (fun m hm => by omega)⟩⟩
    unfold wpY_back
    dsimp only
    refine br_f (nI_ne0 (by omega) (by omega)) (nm_r (nI_pred m) ⟨65, bb_yback_lp (M := m) (by omega) m01 (fun pr' va' w1 w2 => ⟨rfl, bb_ri (bb_K_s (fun j hj => ?_) (bb_K_le (Nat.zero_le 6) hK0)) w1 ⟨by omega, m01, fun j hj => mm j (by omega)⟩⟩) 65 0 pr va (by omega) (by omega) h01 (fun m hm => by omega)⟩)
    have q := mm m (by omega) j hj
    unfold bb_lf at q
    unfold bb_lf
    dsimp only at q
    rw [v1 j hj, q]
    unfold bb_yl
    rw [(w2 j hj).1, (w2 j hj).2]
theorem i_vc_has {k : Nat} {u : SX} {v : SY} (I : i_Rel k u v) (hk : k + 4 ≤ 2048) (v1 : Int32) : wpX_has (fun r => wpY_has (fun r' => r' = r ∧ i_Rel (k + 4) u v) v v1) u v1 := by
  refine I (fun u v => wpX_has (fun r => wpY_has (fun r' => r' = r ∧ i_Rel (k + 4) u v) v v1) u v1) ?_
  intro P N R W M vals lv par lo hi c cl cn ms so fi la nu q mp mv pr va kp kv hK h01 hM
  unfold wpX_has
  dsimp only
  refine bb_isKey (bb_bi_br (fun e => ?_) (fun e => ?_))
  · unfold wpY_has
    dsimp only
    refine bb_yisKey ?_
    rw [e]
    exact br_t rfl ⟨rfl, bb_ri hK h01 hM⟩
  · obtain ⟨i, hi', rfl⟩ := bb_ky_t e
    refine bb_lookUp hK hi' ?_
    unfold wpY_has
    dsimp only
    refine bb_yisKey ?_
    rw [e, nI_clamp (show i < 2 ^ 31 by omega)]
    refine br_f (show ¬ bb_bi true = 0 by decide) ⟨vp_in_nI hi' (by omega), br_c (fun z => ⟨?_, bb_ri hK h01 hM⟩) (fun z => ⟨?_, bb_ri hK h01 hM⟩)⟩
    · rw [bb_yl_0 z]; rfl
    · rw [bb_yl_1 z]; rfl
theorem i_vc_get {k : Nat} {u : SX} {v : SY} (I : i_Rel k u v) (hk : k + 4 ≤ 2048) (v1 : Int32) : wpX_get (fun r => wpY_get (fun r' => r' = r ∧ i_Rel (k + 4) u v) v v1) u v1 := by
  refine I (fun u v => wpX_get (fun r => wpY_get (fun r' => r' = r ∧ i_Rel (k + 4) u v) v v1) u v1) ?_
  intro P N R W M vals lv par lo hi c cl cn ms so fi la nu q mp mv pr va kp kv hK h01 hM
  unfold wpX_get
  dsimp only
  refine bb_isKey (bb_bi_br (fun e => ?_) (fun e => ?_))
  · unfold wpY_get
    dsimp only
    refine bb_yisKey ?_
    rw [e]
    exact br_t rfl ⟨rfl, bb_ri hK h01 hM⟩
  · obtain ⟨i, hi', rfl⟩ := bb_ky_t e
    refine bb_lookUp hK hi' ?_
    unfold wpY_get
    dsimp only
    refine bb_yisKey ?_
    have ii : vp_in (nI i) 64 := vp_in_nI hi' (by omega)
    rw [e, nI_clamp (show i < 2 ^ 31 by omega)]
    refine br_f (show ¬ bb_bi true = 0 by decide) ⟨ii, br_c (fun z => ⟨?_, bb_ri hK h01 hM⟩) (fun z => ⟨ii, ?_, bb_ri hK h01 hM⟩)⟩
    · rw [bb_yl_0 z]; rfl
    · rw [bb_yl_1 z]; rfl
end
section
/-! all keys, when all messages have come down -/
theorem bb_bp {P : Int64} {vals pr va : Nat → Int32} {k : Nat} (h : bb_lf P vals k = bb_yl pr va k) : (bb_b P k = true ∧ ¬ pr k = 0 ∧ vals k = va k) ∨ (bb_b P k = false ∧ pr k = 0) := by
  cases hb : bb_b P k
  · right
    rw [bb_lf_f hb] at h
    refine ⟨rfl, ?_⟩
    by_cases g : pr k = 0
    · exact g
    · rw [bb_yl_1 g] at h; cases h
  · left
    rw [bb_lf_t hb] at h
    by_cases g : pr k = 0
    · rw [bb_yl_0 g] at h; cases h
    · rw [bb_yl_1 g] at h
      injection h with h
      exact ⟨rfl, g, h⟩
def bb_first (Q : Nat → Prop) (r : Int32) : Prop := (∃ m, m < 64 ∧ Q m ∧ (∀ j, j < m → ¬ Q j) ∧ r = nI m) ∨ ((∀ m, m < 64 → ¬ Q m) ∧ r = -2)
def bb_last (Q : Nat → Prop) (r : Int32) : Prop := (∃ m, m < 64 ∧ Q m ∧ (∀ j, m < j → j < 64 → ¬ Q j) ∧ r = nI m) ∨ ((∀ m, m < 64 → ¬ Q m) ∧ r = -2)
theorem bb_first_u {Q : Nat → Prop} {r r' : Int32} (h : bb_first Q r) (h' : bb_first Q r') : r' = r := by
  rcases h with ⟨m, m1, m2, m3, m4⟩ | ⟨m1, m2⟩
  · rcases h' with ⟨j, j1, j2, j3, j4⟩ | ⟨j1, j2⟩
    · rcases Nat.lt_trichotomy m j with g | g | g
      · exact absurd m2 (j3 m g)
      · rw [m4, j4, g]
      · exact absurd j2 (m3 j g)
    · exact absurd m2 (j1 m m1)
  · rcases h' with ⟨j, j1, j2, j3, j4⟩ | ⟨j1, j2⟩
    · exact absurd j2 (m1 j j1)
    · rw [m2, j2]
theorem bb_last_u {Q : Nat → Prop} {r r' : Int32} (h : bb_last Q r) (h' : bb_last Q r') : r' = r := by
  rcases h with ⟨m, m1, m2, m3, m4⟩ | ⟨m1, m2⟩
  · rcases h' with ⟨j, j1, j2, j3, j4⟩ | ⟨j1, j2⟩
    · rcases Nat.lt_trichotomy m j with g | g | g
      · exact absurd j2 (m3 j g j1)
      · rw [m4, j4, g]
      · exact absurd m2 (j3 m g m1)
    · exact absurd m2 (j1 m m1)
  · rcases h' with ⟨j, j1, j2, j3, j4⟩ | ⟨j1, j2⟩
    · exact absurd j2 (m1 j j1)
    · rw [m2, j2]
section
variable {P : Int64} {N R : Nat} {W : Int32} {M : Nat} {vals : Nat → Int32} {lv : Nat → Nat} {par : Nat → Int32} {lo hi c cl cn ms : Nat → Nat} {so fi la nu : Nat → Int32} {q : Nat → Nat} {mp : Nat → Int64} {mv : Nat → Int32}
variable {pr va kp kv : Nat → Int32}
theorem bb_xnext {post : Int32 → SX → Prop} {x : Int32} (hlf : ∀ k, k < 64 → bb_lf P vals k = bb_yl pr va k) (H : ∀ r, bb_first (fun m => ¬ nI m < x ∧ ¬ pr m = 0) r → post r (P, nI N, nI R, W, nI M, vals, bb_enc lv, par, bb_enc lo, bb_enc hi, bb_enc c, bb_enc cl, bb_enc cn, bb_enc ms, so, fi, la, nu, bb_enc q, mp, mv)) :
    ∀ n a, 64 < n + a → a ≤ 64 → (∀ m, m < a → ¬ (¬ nI m < x ∧ ¬ pr m = 0)) → (∀ m, a ≤ m → m < 64 → ¬ nI m < x) → wX_next_10 post P (nI N) (nI R) W (nI M) vals (bb_enc lv) par (bb_enc lo) (bb_enc hi) (bb_enc c) (bb_enc cl) (bb_enc cn) (bb_enc ms) so fi la nu (bb_enc q) mp mv n (nI a) := by
  intro n
  induction n with
  | zero => intro a h1 h2; omega
  | succ n ih =>
    intro a h1 h2 h3 h4
    unfold wX_next_10
    refine pk_le 64 a (fun g => ?_) (fun g => bb_bit g (bb_bi_br (fun e => ?_) (fun e => ?_)))
    · exact H _ (Or.inr ⟨fun m hm => h3 m (by omega), rfl⟩)
    · refine nm_r (nI_1 a) (ih (a + 1) (by omega) (by omega) (fun m hm => ?_) (fun m hm => h4 m (by omega)))
      by_cases z : m = a
      · rcases bb_bp (hlf a g) with ⟨w, _, _⟩ | ⟨_, w⟩
        · rw [e] at w; cases w
        · rw [z]; exact fun q => q.2 w
      · exact h3 m (by omega)
    · rcases bb_bp (hlf a g) with ⟨_, w, _⟩ | ⟨w, _⟩
      · exact H _ (Or.inl ⟨a, g, ⟨h4 a (Nat.le_refl _) g, w⟩, h3, rfl⟩)
      · rw [e] at w; cases w
theorem bb_ynext {post : Int32 → Prop} {x y : Int32} (H : ∀ r, bb_first (fun m => ¬ nI m < x ∧ ¬ pr m = 0) r → post r) :
    ∀ n a, 64 < n + a → a ≤ 64 → (∀ m, m < a → ¬ (¬ nI m < x ∧ ¬ pr m = 0)) → wY_next_2 post x y pr va kp kv n (nI a) := by
  intro n
  induction n with
  | zero => intro a h1 h2; omega
  | succ n ih =>
    intro a h1 h2 h3
    unfold wY_next_2
    refine pk_le 64 a (fun g => ?_) (fun g => br_c (fun e => ?_) (fun e => ?_))
    · exact H _ (Or.inr ⟨fun m hm => h3 m (by omega), rfl⟩)
    · refine nm_r (nI_1 a) (ih (a + 1) (by omega) (by omega) (fun m hm => ?_))
      by_cases z : m = a
      · rw [z]; exact fun q => q.1 e
      · exact h3 m (by omega)
    · rw [nI_clamp (show a < 2 ^ 31 by omega)]
      refine ⟨vp_in_nI g (by omega), br_c (fun e2 => ?_) (fun e2 => ?_)⟩
      · refine nm_r (nI_1 a) (ih (a + 1) (by omega) (by omega) (fun m hm => ?_))
        by_cases z : m = a
        · rw [z]; exact fun q => q.2 e2
        · exact h3 m (by omega)
      · exact H _ (Or.inl ⟨a, g, ⟨e, e2⟩, h3, rfl⟩)
theorem bb_xprev {post : Int32 → SX → Prop} {x : Int32} (hlf : ∀ k, k < 64 → bb_lf P vals k = bb_yl pr va k) (H : ∀ r, bb_last (fun m => ¬ x < nI m ∧ ¬ pr m = 0) r → post r (P, nI N, nI R, W, nI M, vals, bb_enc lv, par, bb_enc lo, bb_enc hi, bb_enc c, bb_enc cl, bb_enc cn, bb_enc ms, so, fi, la, nu, bb_enc q, mp, mv)) :
    ∀ n a, a < n → a ≤ 64 → (∀ m, a ≤ m → m < 64 → ¬ (¬ x < nI m ∧ ¬ pr m = 0)) → (∀ m, m < a → ¬ x < nI m) → wX_previous_11 post P (nI N) (nI R) W (nI M) vals (bb_enc lv) par (bb_enc lo) (bb_enc hi) (bb_enc c) (bb_enc cl) (bb_enc cn) (bb_enc ms) so fi la nu (bb_enc q) mp mv n (bb_dn a) := by
  intro n
  induction n with
  | zero => intro a h1 h2; omega
  | succ n ih =>
    intro a h1 h2 h3 h4
    unfold wX_previous_11
    cases a with
    | zero => exact br_t bb_dn0 (H _ (Or.inr ⟨fun m hm => h3 m (by omega) hm, rfl⟩))
    | succ a =>
      rw [bb_dns]
      refine br_f (nI_pos (by omega)) (bb_bit (by omega) (bb_bi_br (fun e => ?_) (fun e => ?_)))
      · refine nm_e (ih a (by omega) (by omega) (fun m hm hm2 => ?_) (fun m hm => h4 m (by omega)))
        by_cases z : m = a
        · rcases bb_bp (hlf a (by omega)) with ⟨w, _, _⟩ | ⟨_, w⟩
          · rw [e] at w; cases w
          · rw [z]; exact fun q => q.2 w
        · exact h3 m (by omega) hm2
      · rcases bb_bp (hlf a (by omega)) with ⟨_, w, _⟩ | ⟨w, _⟩
        · exact H _ (Or.inl ⟨a, by omega, ⟨h4 a (by omega), w⟩, fun j j1 j2 => h3 j (by omega) j2, rfl⟩)
        · rw [e] at w; cases w
theorem bb_yprev {post : Int32 → Prop} {x y : Int32} (H : ∀ r, bb_last (fun m => ¬ x < nI m ∧ ¬ pr m = 0) r → post r) :
    ∀ n a, a < n → a ≤ 64 → (∀ m, a ≤ m → m < 64 → ¬ (¬ x < nI m ∧ ¬ pr m = 0)) → wY_previous_3 post x y pr va kp kv n (bb_dn a) := by
  intro n
  induction n with
  | zero => intro a h1 h2; omega
  | succ n ih =>
    intro a h1 h2 h3
    unfold wY_previous_3
    cases a with
    | zero => exact br_t bb_dn0 (H _ (Or.inr ⟨fun m hm => h3 m (by omega) hm, rfl⟩))
    | succ a =>
      rw [bb_dns]
      refine br_f (nI_pos (by omega)) (br_c (fun e => ?_) (fun e => ?_))
      · refine nm_e (ih a (by omega) (by omega) (fun m hm hm2 => ?_))
        by_cases z : m = a
        · rw [z]; exact fun q => q.1 e
        · exact h3 m (by omega) hm2
      · rw [nI_clamp (show a < 2 ^ 31 by omega)]
        refine ⟨vp_in_nI (by omega) (by omega), br_c (fun e2 => ?_) (fun e2 => ?_)⟩
        · refine nm_e (ih a (by omega) (by omega) (fun m hm hm2 => ?_))
          by_cases z : m = a
          · rw [z]; exact fun q => q.2 e2
          · exact h3 m (by omega) hm2
        · exact H _ (Or.inl ⟨a, by omega, ⟨e, e2⟩, fun j j1 j2 => h3 j (by omega) j2, rfl⟩)
theorem bb_ycount_lp {post : Int32 → Prop} {a b : Nat} {y : Int32} (hlf : ∀ k, k < 64 → bb_lf P vals k = bb_yl pr va k) (ha : a < 64) (hb : b < 64) (H : post (nI (bb_ct P a (b + 1 - a)))) :
    ∀ n d, 65 < n + d → (a + d ≤ b + 1 ∨ d = 0) → wY_count_16 post (nI b) y pr va kp kv n (nI (bb_ct P a d)) (nI (a + d)) := by
  intro n
  induction n with
  | zero => intro d h1 h2; omega
  | succ n ih =>
    intro d h1 h2
    unfold wY_count_16
    refine pk_lt b (a + d) (fun g => ?_) (fun g => ?_)
    · rw [show d = b + 1 - a from by omega]
      exact H
    · rw [nI_clamp (show a + d < 2 ^ 31 by omega)]
      refine ⟨vp_in_nI (by omega) (by omega), br_c (fun e => ?_) (fun e => ?_)⟩
      · rcases bb_bp (hlf (a + d) (by omega)) with ⟨_, w, _⟩ | ⟨w, _⟩
        · exact absurd e w
        · have := ih (d + 1) (by omega) (by omega)
          rw [bb_ct_f w] at this
          exact nm_r (nI_1 (a + d)) this
      · rcases bb_bp (hlf (a + d) (by omega)) with ⟨w, _, _⟩ | ⟨_, w⟩
        · have := ih (d + 1) (by omega) (by omega)
          rw [bb_ct_t w] at this
          exact nm_r (nI_1 _) (nm_r (nI_1 (a + d)) this)
        · exact absurd w e
theorem bb_ycount {post : Int32 → Prop} {a b : Nat} {y : Int32} (hlf : ∀ k, k < 64 → bb_lf P vals k = bb_yl pr va k) (ha : a < 64) (hb : b < 64) (H : post (nI (bb_ct P a (b + 1 - a)))) : wpY_count post (y, pr, va, kp, kv) (nI a) (nI b) := by
  unfold wpY_count
  dsimp only
  refine bb_yisPair ?_
  rw [bb_ky_n ha, bb_ky_n hb]
  exact br_f (show ¬ bb_bi true = 0 by decide) ⟨66, bb_ycount_lp hlf ha hb H 66 0 (by omega) (Or.inr rfl)⟩
theorem bb_lsum {b : Nat} {y : Int32} (hlf : ∀ k, k < 64 → bb_lf P vals k = bb_yl pr va k) (hb : b < 64) :
    ∀ n k t, 65 < n + k → k ≤ 64 → ∃ r, (∀ pX : Int32 → SX → Prop, pX r (P, nI N, nI R, W, nI M, vals, bb_enc lv, par, bb_enc lo, bb_enc hi, bb_enc c, bb_enc cl, bb_enc cn, bb_enc ms, so, fi, la, nu, bb_enc q, mp, mv) → wX_sum_25 pX (nI b) P (nI N) (nI R) W (nI M) vals (bb_enc lv) par (bb_enc lo) (bb_enc hi) (bb_enc c) (bb_enc cl) (bb_enc cn) (bb_enc ms) so fi la nu (bb_enc q) mp mv n t (nI k)) ∧ (∀ pY : Int32 → Prop, pY r → wY_sum_16 pY (nI b) y pr va kp kv n t (nI k)) := by
  intro n
  induction n with
  | zero => intro k t h1 h2; omega
  | succ n ih =>
    intro k t h1 h2
    by_cases g : b < k
    · have g' := nI_lt g (show k < 2 ^ 31 by omega)
      exact ⟨t, fun pX h => br_t g' h, fun pY h => br_t g' h⟩
    · have g' : ¬ nI b < nI k := nI_nlt (by omega) (by omega)
      have ik : vp_in (nI k) 64 := vp_in_nI (by omega) (by omega)
      rcases bb_bp (hlf k (by omega)) with ⟨w1, w2, w3⟩ | ⟨w1, w2⟩
      · obtain ⟨r, rX, rY⟩ := ih (k + 1) (t + va k) (by omega) (by omega)
        refine ⟨r, fun pX h => ?_, fun pY h => ?_⟩
        · unfold wX_sum_25
          refine br_f g' (bb_bit (by omega) ?_)
          rw [w1, nI_clamp (show k < 2 ^ 31 by omega), w3]
          exact br_f (show ¬ bb_bi true = 0 by decide) ⟨ik, nm_e (nm_r (nI_1 k) (rX pX h))⟩
        · unfold wY_sum_16
          rw [nI_clamp (show k < 2 ^ 31 by omega)]
          exact br_f g' ⟨ik, br_f w2 ⟨ik, nm_e (nm_r (nI_1 k) (rY pY h))⟩⟩
      · obtain ⟨r, rX, rY⟩ := ih (k + 1) t (by omega) (by omega)
        refine ⟨r, fun pX h => ?_, fun pY h => ?_⟩
        · unfold wX_sum_25
          refine br_f g' (bb_bit (by omega) ?_)
          rw [w1]
          exact br_t rfl (nm_r (Int32.add_zero t) (nm_r (nI_1 k) (rX pX h)))
        · unfold wY_sum_16
          rw [nI_clamp (show k < 2 ^ 31 by omega)]
          exact br_f g' ⟨ik, br_t w2 (nm_r (nI_1 k) (rY pY h))⟩
theorem bb_lgreat {b : Nat} {y : Int32} (hlf : ∀ k, k < 64 → bb_lf P vals k = bb_yl pr va k) (hb : b < 64) :
    ∀ n k t, 65 < n + k → k ≤ 64 → ∃ r, (∀ pX : Int32 → SX → Prop, pX r (P, nI N, nI R, W, nI M, vals, bb_enc lv, par, bb_enc lo, bb_enc hi, bb_enc c, bb_enc cl, bb_enc cn, bb_enc ms, so, fi, la, nu, bb_enc q, mp, mv) → wX_greatest_26 pX (nI b) P (nI N) (nI R) W (nI M) vals (bb_enc lv) par (bb_enc lo) (bb_enc hi) (bb_enc c) (bb_enc cl) (bb_enc cn) (bb_enc ms) so fi la nu (bb_enc q) mp mv n t (nI k)) ∧ (∀ pY : Int32 → Prop, pY r → wY_greatest_17 pY (nI b) y pr va kp kv n t (nI k)) := by
  intro n
  induction n with
  | zero => intro k t h1 h2; omega
  | succ n ih =>
    intro k t h1 h2
    by_cases g : b < k
    · have g' := nI_lt g (show k < 2 ^ 31 by omega)
      exact ⟨t, fun pX h => br_t g' h, fun pY h => br_t g' h⟩
    · have g' : ¬ nI b < nI k := nI_nlt (by omega) (by omega)
      have ik : vp_in (nI k) 64 := vp_in_nI (by omega) (by omega)
      rcases bb_bp (hlf k (by omega)) with ⟨w1, w2, w3⟩ | ⟨w1, w2⟩
      · by_cases z : va k ≤ t
        · obtain ⟨r, rX, rY⟩ := ih (k + 1) t (by omega) (by omega)
          refine ⟨r, fun pX h => ?_, fun pY h => ?_⟩
          · unfold wX_greatest_26
            refine br_f g' (bb_bit (by omega) ?_)
            rw [w1, nI_clamp (show k < 2 ^ 31 by omega), w3]
            exact br_f (show ¬ bb_bi true = 0 by decide) ⟨ik, br_t z (nm_r (nI_1 k) (rX pX h))⟩
          · unfold wY_greatest_17
            rw [nI_clamp (show k < 2 ^ 31 by omega)]
            exact br_f g' ⟨ik, br_f w2 ⟨ik, br_t z (nm_r (nI_1 k) (rY pY h))⟩⟩
        · obtain ⟨r, rX, rY⟩ := ih (k + 1) (va k) (by omega) (by omega)
          refine ⟨r, fun pX h => ?_, fun pY h => ?_⟩
          · unfold wX_greatest_26
            refine br_f g' (bb_bit (by omega) ?_)
            rw [w1, nI_clamp (show k < 2 ^ 31 by omega), w3]
            exact br_f (show ¬ bb_bi true = 0 by decide) ⟨ik, br_f z ⟨ik, nm_e (nm_r (nI_1 k) (rX pX h))⟩⟩
          · unfold wY_greatest_17
            rw [nI_clamp (show k < 2 ^ 31 by omega)]
            exact br_f g' ⟨ik, br_f w2 ⟨ik, br_f z ⟨ik, nm_e (nm_r (nI_1 k) (rY pY h))⟩⟩⟩
      · obtain ⟨r, rX, rY⟩ := ih (k + 1) t (by omega) (by omega)
        refine ⟨r, fun pX h => ?_, fun pY h => ?_⟩
        · unfold wX_greatest_26
          refine br_f g' (bb_bit (by omega) ?_)
          rw [w1]
          exact br_t rfl (nm_r (nI_1 k) (rX pX h))
        · unfold wY_greatest_17
          rw [nI_clamp (show k < 2 ^ 31 by omega)]
          exact br_f g' ⟨ik, br_t w2 (nm_r (nI_1 k) (rY pY h))⟩
theorem bb_sub1 (x a : Int32) : x - a + (-1) = x - (a + 1) := by grind
theorem bb_sub0 {x a : Int32} : x - a = 0 ↔ a = x := by
  constructor
  · intro h; grind
  · intro h; grind
theorem bb_lkey {x y : Int32} (hlf : ∀ k, k < 64 → bb_lf P vals k = bb_yl pr va k) :
    ∀ n k t, 65 < n + k → k ≤ 64 → ∃ r, (∀ pX : Int32 → SX → Prop, pX r (P, nI N, nI R, W, nI M, vals, bb_enc lv, par, bb_enc lo, bb_enc hi, bb_enc c, bb_enc cl, bb_enc cn, bb_enc ms, so, fi, la, nu, bb_enc q, mp, mv) → wX_keyAt_8 pX x P (nI N) (nI R) W (nI M) vals (bb_enc lv) par (bb_enc lo) (bb_enc hi) (bb_enc c) (bb_enc cl) (bb_enc cn) (bb_enc ms) so fi la nu (bb_enc q) mp mv n t (nI k)) ∧ (∀ pY : Int32 → Prop, pY r → wY_keyAt_4 pY y pr va kp kv n (x - t) (nI k)) := by
  intro n
  induction n with
  | zero => intro k t h1 h2; omega
  | succ n ih =>
    intro k t h1 h2
    by_cases g : 64 ≤ k
    · have g' : (64 : Int32) ≤ nI k := nI_le (a := 64) g (show k < 2 ^ 31 by omega)
      exact ⟨-2, fun pX h => br_t g' h, fun pY h => br_t g' h⟩
    · have g' : ¬ (64 : Int32) ≤ nI k := nI_ge (b := 64) (by omega) (by decide)
      have ik : vp_in (nI k) 64 := vp_in_nI (by omega) (by omega)
      rcases bb_bp (hlf k (by omega)) with ⟨w1, w2, w3⟩ | ⟨w1, w2⟩
      · by_cases z : t = x
        · refine ⟨nI k, fun pX h => ?_, fun pY h => ?_⟩
          · unfold wX_keyAt_8
            refine br_f g' (bb_bit (by omega) ?_)
            rw [w1]
            exact br_f (show ¬ bb_bi true = 0 by decide) (br_t z h)
          · unfold wY_keyAt_4
            rw [nI_clamp (show k < 2 ^ 31 by omega)]
            exact br_f g' ⟨ik, br_f w2 (br_t (bb_sub0.mpr z) h)⟩
        · obtain ⟨r, rX, rY⟩ := ih (k + 1) (t + 1) (by omega) (by omega)
          refine ⟨r, fun pX h => ?_, fun pY h => ?_⟩
          · unfold wX_keyAt_8
            refine br_f g' (bb_bit (by omega) ?_)
            rw [w1]
            exact br_f (show ¬ bb_bi true = 0 by decide) (br_f z (nm_e (nm_r (nI_1 k) (rX pX h))))
          · unfold wY_keyAt_4
            rw [nI_clamp (show k < 2 ^ 31 by omega)]
            exact br_f g' ⟨ik, br_f w2 (br_f (fun q => z (bb_sub0.mp q)) (nm_r (bb_sub1 x t) (nm_r (nI_1 k) (rY pY h))))⟩
      · obtain ⟨r, rX, rY⟩ := ih (k + 1) t (by omega) (by omega)
        refine ⟨r, fun pX h => ?_, fun pY h => ?_⟩
        · unfold wX_keyAt_8
          refine br_f g' (bb_bit (by omega) ?_)
          rw [w1]
          exact br_t rfl (nm_r (nI_1 k) (rX pX h))
        · unfold wY_keyAt_4
          rw [nI_clamp (show k < 2 ^ 31 by omega)]
          exact br_f g' ⟨ik, br_t w2 (nm_r (nI_1 k) (rY pY h))⟩
end
end
section
/-! how many keys changed since the last mark -/
section
variable {P : Int64} {N R : Nat} {W : Int32} {M : Nat} {vals : Nat → Int32} {lv : Nat → Nat} {par : Nat → Int32} {lo hi c cl cn ms : Nat → Nat} {so fi la nu : Nat → Int32} {q : Nat → Nat} {mp : Nat → Int64} {mv : Nat → Int32}
variable {pr va kp kv : Nat → Int32}
theorem bb_lsince {m : Nat} (hm : m < 3) (h01 : bb_01 pr) (k01 : bb_01 kp) (hlf : ∀ k, k < 64 → bb_lf P vals k = bb_yl pr va k) (hmk : ∀ k, k < 64 → bb_lf (mp m) (fun k => mv (64 * m + k)) k = bb_yl kp kv (64 * m + k)) :
    ∀ n k t, 65 < n + k → k ≤ 64 → ∃ r, (∀ pX : Int32 → SX → Prop, pX r (P, nI N, nI R, W, nI (m + 1), vals, bb_enc lv, par, bb_enc lo, bb_enc hi, bb_enc c, bb_enc cl, bb_enc cn, bb_enc ms, so, fi, la, nu, bb_enc q, mp, mv) → wX_changedSince_18 pX P (nI N) (nI R) W (nI (m + 1)) vals (bb_enc lv) par (bb_enc lo) (bb_enc hi) (bb_enc c) (bb_enc cl) (bb_enc cn) (bb_enc ms) so fi la nu (bb_enc q) mp mv n t (nI k)) ∧ (∀ pY : Int32 → Prop, pY r → wY_changedSince_14 pY (nI (m + 1)) pr va kp kv n t (nI k)) := by
  intro n
  induction n with
  | zero => intro k t h1 h2; omega
  | succ n ih =>
    intro k t h1 h2
    by_cases g : 64 ≤ k
    · have g' : (64 : Int32) ≤ nI k := nI_le (a := 64) g (show k < 2 ^ 31 by omega)
      exact ⟨t, fun pX h => br_t g' h, fun pY h => br_t g' h⟩
    · have g' : ¬ (64 : Int32) ≤ nI k := nI_ge (b := 64) (by omega) (by decide)
      have ik : vp_in (nI k) 64 := vp_in_nI (by omega) (by omega)
      have im : vp_in (nI m) 3 := vp_in_nI (by omega) (by omega)
      have io : vp_in (nI (64 * m + k)) 192 := vp_in_nI (by omega) (by omega)
      have ey : 64 * nI (m + 1) - 64 + nI k = nI (64 * m + k) := by
        rw [bb_m64, show nI (64 * (m + 1)) - 64 = nI (64 * (m + 1) - 64) from pk_sub (b := 64) (by omega), nI_add]
        exact congrArg nI (by omega)
      have p1 := h01 k
      have k1 := k01 (64 * m + k)
      have X0 : ∀ (pX : Int32 → SX → Prop), wpX_bit (fun r_25 => vp_in (nI m) 3 ∧ (wpX_bit (fun r_27 => (((r_25 = 0 → (wX_changedSince_88 pX (wX_changedSince_18 pX P (nI N) (nI R) W (nI (m + 1)) vals (bb_enc lv) par (bb_enc lo) (bb_enc hi) (bb_enc c) (bb_enc cl) (bb_enc cn) (bb_enc ms) so fi la nu (bb_enc q) mp mv n) t (nI k) r_25 r_27 P (nI N) (nI R) W (nI (m + 1)) vals (bb_enc lv) par (bb_enc lo) (bb_enc hi) (bb_enc c) (bb_enc cl) (bb_enc cn) (bb_enc ms) so fi la nu (bb_enc q) mp mv)) ∧ (¬ r_25 = 0 → (((r_27 = 0 → (wX_changedSince_88 pX (wX_changedSince_18 pX P (nI N) (nI R) W (nI (m + 1)) vals (bb_enc lv) par (bb_enc lo) (bb_enc hi) (bb_enc c) (bb_enc cl) (bb_enc cn) (bb_enc ms) so fi la nu (bb_enc q) mp mv n) t (nI k) r_25 r_27 P (nI N) (nI R) W (nI (m + 1)) vals (bb_enc lv) par (bb_enc lo) (bb_enc hi) (bb_enc c) (bb_enc cl) (bb_enc cn) (bb_enc ms) so fi la nu (bb_enc q) mp mv)) ∧ (¬ r_27 = 0 → (vp_in (nI k) 64 ∧ (vp_in (nI (64 * m + k)) 192 ∧ (((vals k = mv (64 * m + k) → (wX_changedSince_88 pX (wX_changedSince_18 pX P (nI N) (nI R) W (nI (m + 1)) vals (bb_enc lv) par (bb_enc lo) (bb_enc hi) (bb_enc c) (bb_enc cl) (bb_enc cn) (bb_enc ms) so fi la nu (bb_enc q) mp mv n) t (nI k) r_25 r_27 P (nI N) (nI R) W (nI (m + 1)) vals (bb_enc lv) par (bb_enc lo) (bb_enc hi) (bb_enc c) (bb_enc cl) (bb_enc cn) (bb_enc ms) so fi la nu (bb_enc q) mp mv)) ∧ (¬ vals k = mv (64 * m + k) → (wX_changedSince_89 pX (wX_changedSince_18 pX P (nI N) (nI R) W (nI (m + 1)) vals (bb_enc lv) par (bb_enc lo) (bb_enc hi) (bb_enc c) (bb_enc cl) (bb_enc cn) (bb_enc ms) so fi la nu (bb_enc q) mp mv n) t (nI k) r_25 r_27 1 P (nI N) (nI R) W (nI (m + 1)) vals (bb_enc lv) par (bb_enc lo) (bb_enc hi) (bb_enc c) (bb_enc cl) (bb_enc cn) (bb_enc ms) so fi la nu (bb_enc q) mp mv))))))))))))) (mp m) (nI k))) P (nI k) → wX_changedSince_18 pX P (nI N) (nI R) W (nI (m + 1)) vals (bb_enc lv) par (bb_enc lo) (bb_enc hi) (bb_enc c) (bb_enc cl) (bb_enc cn) (bb_enc ms) so fi la nu (bb_enc q) mp mv (n + 1) t (nI k) := by
        intro pX h
        unfold wX_changedSince_18
        rw [nI_pred m, bb_m64, nI_add, nI_clamp (show m < 2 ^ 31 by omega), nI_clamp (show k < 2 ^ 31 by omega), nI_clamp (show 64 * m + k < 2 ^ 31 by omega)]
        exact br_f g' h
      have Y0 : ∀ (pY : Int32 → Prop), ((pr k = kp (64 * m + k) → (vp_in (nI k) 64 ∧ (((pr k = 0 → (wY_changedSince_76 pY (wY_changedSince_14 pY (nI (m + 1)) pr va kp kv n) t (nI k) (nI (m + 1)) pr va kp kv)) ∧ (¬ pr k = 0 → (vp_in (nI k) 64 ∧ (vp_in (nI (64 * m + k)) 192 ∧ (((va k = kv (64 * m + k) → (wY_changedSince_76 pY (wY_changedSince_14 pY (nI (m + 1)) pr va kp kv n) t (nI k) (nI (m + 1)) pr va kp kv)) ∧ (¬ va k = kv (64 * m + k) → (wY_changedSince_72 pY (wY_changedSince_14 pY (nI (m + 1)) pr va kp kv n) t (nI k) (nI (m + 1)) pr va kp kv)))))))))))
          ∧ (¬ pr k = kp (64 * m + k) → (wY_changedSince_72 pY (wY_changedSince_14 pY (nI (m + 1)) pr va kp kv n) t (nI k) (nI (m + 1)) pr va kp kv))) → wY_changedSince_14 pY (nI (m + 1)) pr va kp kv (n + 1) t (nI k) := by
        intro pY h
        unfold wY_changedSince_14
        refine br_f g' (nm_r ey ?_)
        rw [nI_clamp (show k < 2 ^ 31 by omega), nI_clamp (show 64 * m + k < 2 ^ 31 by omega)]
        exact ⟨ik, io, h⟩
      have one : ¬ (1 : Int32) = 0 := by decide
      rcases bb_bp (hlf k (by omega)) with ⟨w1, w2, w3⟩ | ⟨w1, w2⟩
      · have e1 : pr k = 1 := by rcases p1 with z | z; exact absurd z w2; exact z
        have hq : bb_lf (mp m) (fun k => mv (64 * m + k)) k = bb_yl (fun k => kp (64 * m + k)) (fun k => kv (64 * m + k)) k := hmk k (by omega)
        rcases bb_bp hq with ⟨u1, u2, u3⟩ | ⟨u1, u2⟩
        · have u2 : ¬ kp (64 * m + k) = 0 := u2
          have u3 : mv (64 * m + k) = kv (64 * m + k) := u3
          have e2 : kp (64 * m + k) = 1 := by rcases k1 with z | z; exact absurd z u2; exact z
          by_cases z : va k = kv (64 * m + k)
          · obtain ⟨r, rX, rY⟩ := ih (k + 1) t (by omega) (by omega)
            refine ⟨r, fun pX h => X0 pX (bb_bit (by omega) ⟨im, bb_bit (by omega) ?_⟩), fun pY h => Y0 pY ?_⟩
            · rw [w1, u1]
              refine br_f (show ¬ bb_bi true = 0 by decide) (br_f (show ¬ bb_bi true = 0 by decide) ⟨ik, io, br_t (by rw [w3, u3, z]) ?_⟩)
              exact br_t rfl (br_t rfl (nm_r (Int32.add_zero t) (nm_r (nI_1 k) (rX pX h))))
            · exact br_t (by rw [e1, e2]) ⟨ik, br_f w2 ⟨ik, io, br_t z (br_t rfl (nm_r (nI_1 k) (rY pY h)))⟩⟩
          · obtain ⟨r, rX, rY⟩ := ih (k + 1) (t + 1) (by omega) (by omega)
            refine ⟨r, fun pX h => X0 pX (bb_bit (by omega) ⟨im, bb_bit (by omega) ?_⟩), fun pY h => Y0 pY ?_⟩
            · rw [w1, u1]
              refine br_f (show ¬ bb_bi true = 0 by decide) (br_f (show ¬ bb_bi true = 0 by decide) ⟨ik, io, br_f (by rw [w3, u3]; exact z) ?_⟩)
              exact br_t rfl (br_f one (nm_e (nm_r (nI_1 k) (rX pX h))))
            · exact br_t (by rw [e1, e2]) ⟨ik, br_f w2 ⟨ik, io, br_f z (br_f one (nm_e (nm_r (nI_1 k) (rY pY h))))⟩⟩
        · have u2 : kp (64 * m + k) = 0 := u2
          obtain ⟨r, rX, rY⟩ := ih (k + 1) (t + 1) (by omega) (by omega)
          refine ⟨r, fun pX h => X0 pX (bb_bit (by omega) ⟨im, bb_bit (by omega) ?_⟩), fun pY h => Y0 pY ?_⟩
          · rw [w1, u1]
            refine br_f (show ¬ bb_bi true = 0 by decide) (br_t rfl ?_)
            exact br_f (show ¬ bb_bi true = bb_bi false by decide) (nm_e (nm_r (nI_1 k) (rX pX h)))
          · exact br_f (by rw [e1, u2]; decide) (br_f one (nm_e (nm_r (nI_1 k) (rY pY h))))
      · have hq : bb_lf (mp m) (fun k => mv (64 * m + k)) k = bb_yl (fun k => kp (64 * m + k)) (fun k => kv (64 * m + k)) k := hmk k (by omega)
        rcases bb_bp hq with ⟨u1, u2, u3⟩ | ⟨u1, u2⟩
        · have u2 : ¬ kp (64 * m + k) = 0 := u2
          have e2 : kp (64 * m + k) = 1 := by rcases k1 with z | z; exact absurd z u2; exact z
          obtain ⟨r, rX, rY⟩ := ih (k + 1) (t + 1) (by omega) (by omega)
          refine ⟨r, fun pX h => X0 pX (bb_bit (by omega) ⟨im, bb_bit (by omega) ?_⟩), fun pY h => Y0 pY ?_⟩
          · rw [w1, u1]
            refine br_t rfl ?_
            exact br_f (show ¬ bb_bi false = bb_bi true by decide) (nm_e (nm_r (nI_1 k) (rX pX h)))
          · exact br_f (by rw [w2, e2]; decide) (br_f one (nm_e (nm_r (nI_1 k) (rY pY h))))
        · have u2 : kp (64 * m + k) = 0 := u2
          obtain ⟨r, rX, rY⟩ := ih (k + 1) t (by omega) (by omega)
          refine ⟨r, fun pX h => X0 pX (bb_bit (by omega) ⟨im, bb_bit (by omega) ?_⟩), fun pY h => Y0 pY ?_⟩
          · rw [w1, u1]
            refine br_t rfl ?_
            exact br_t rfl (br_t rfl (nm_r (Int32.add_zero t) (nm_r (nI_1 k) (rX pX h))))
          · exact br_t (by rw [w2, u2]) ⟨ik, br_t w2 (br_t rfl (nm_r (nI_1 k) (rY pY h)))⟩
end
end
section
/-! what is owed of the questions -/
theorem i_vc_size {k : Nat} {u : SX} {v : SY} (I : i_Rel k u v) (hk : k + 4 ≤ 2048) : wpX_size (fun r u' => wpY_size (fun r' => r' = r ∧ i_Rel (k + 4) u' v) v) u := by
  refine I (fun u v => wpX_size (fun r u' => wpY_size (fun r' => r' = r ∧ i_Rel (k + 4) u' v) v) u) ?_
  intro P N R W M vals lv par lo hi c cl cn ms so fi la nu q mp mv pr va kp kv hK h01 hM
  unfold wpX_size
  dsimp only
  refine bb_flushAll (s := bb_yl pr va) (fun P vals N R lv par lo hi c cl cn ms so fi la nu hK0 => ?_) hK
  dsimp only
  refine bb_keysIn (a := 0) (b := 64) (by omega) (by omega) ?_
  unfold wpY_size
  dsimp only
  exact bb_ycount (a := 0) (b := 63) (bb_K0 hK0) (by omega) (by omega) ⟨rfl, bb_ri (bb_K_le (Nat.zero_le 6) hK0) h01 hM⟩
theorem i_vc_next {k : Nat} {u : SX} {v : SY} (I : i_Rel k u v) (hk : k + 4 ≤ 2048) (v1 : Int32) : wpX_next (fun r u' => wpY_next (fun r' => r' = r ∧ i_Rel (k + 4) u' v) v v1) u v1 := by
  refine I (fun u v => wpX_next (fun r u' => wpY_next (fun r' => r' = r ∧ i_Rel (k + 4) u' v) v v1) u v1) ?_
  intro P N R W M vals lv par lo hi c cl cn ms so fi la nu q mp mv pr va kp kv hK h01 hM
  unfold wpX_next
  dsimp only
  refine bb_flushAll (s := bb_yl pr va) (fun P vals N R lv par lo hi c cl cn ms so fi la nu hK0 => ?_) hK
  dsimp only
  refine bb_greater ?_
  have Y : ∀ r, bb_first (fun m => ¬ nI m < v1 ∧ ¬ pr m = 0) r → wpY_next (fun r' => r' = r ∧ i_Rel (k + 4) (P, nI N, nI R, W, nI M, vals, bb_enc lv, par, bb_enc lo, bb_enc hi, bb_enc c, bb_enc cl, bb_enc cn, bb_enc ms, so, fi, la, nu, bb_enc q, mp, mv) (nI M, pr, va, kp, kv)) (nI M, pr, va, kp, kv) v1 := by
    intro r hr
    unfold wpY_next
    exact ⟨65, bb_ynext (fun r' hr' => ⟨bb_first_u hr hr', bb_ri (bb_K_le (Nat.zero_le 6) hK0) h01 hM⟩) 65 0 (by omega) (by omega) (fun m hm => by omega)⟩
  have big : ∀ m, bb_mx v1 0 ≤ nI m → ¬ nI m < v1 := fun m h => Int32.not_lt.mpr (bb_mx_le.mp h).1
  have sml : ∀ m, m < 64 → nI m < bb_mx v1 0 → nI m < v1 := by
    intro m hm h
    unfold bb_mx at h
    by_cases g : v1 ≤ 0
    · rw [if_pos g] at h
      exact absurd h (nI_pos (by omega))
    · rw [if_neg g] at h
      exact h
  have nn : ¬ bb_mx v1 0 < 0 := Int32.not_lt.mpr (bb_mx_le.mp (Int32.le_refl _)).2
  rcases pk_ix (bb_mx v1 0) (n := 64) (by omega) with g | g | ⟨a, a1, a2⟩
  · exact absurd g nn
  · refine ⟨1, br_t g (Y (-2) (Or.inr ⟨fun m hm z => z.1 (sml m hm ?_), rfl⟩))⟩
    have := nI_lt hm (show 64 < 2 ^ 31 by omega)
    rw [Int32.lt_iff_toInt_lt] at *
    rw [Int32.le_iff_toInt_le] at g
    omega
  · rw [a2] at big sml
    rw [a2]
    exact ⟨65, bb_xnext (bb_K0 hK0) (fun r hr => Y r hr) 65 a (by omega) (by omega) (fun m hm z => z.1 (sml m (by omega) (nI_lt hm (by omega)))) (fun m h1 h2 => big m (nI_le h1 (by omega)))⟩
theorem i_vc_previous {k : Nat} {u : SX} {v : SY} (I : i_Rel k u v) (hk : k + 4 ≤ 2048) (v1 : Int32) : wpX_previous (fun r u' => wpY_previous (fun r' => r' = r ∧ i_Rel (k + 4) u' v) v v1) u v1 := by
  refine I (fun u v => wpX_previous (fun r u' => wpY_previous (fun r' => r' = r ∧ i_Rel (k + 4) u' v) v v1) u v1) ?_
  intro P N R W M vals lv par lo hi c cl cn ms so fi la nu q mp mv pr va kp kv hK h01 hM
  unfold wpX_previous
  dsimp only
  refine bb_flushAll (s := bb_yl pr va) (fun P vals N R lv par lo hi c cl cn ms so fi la nu hK0 => ?_) hK
  dsimp only
  refine bb_lesser ?_
  have Y : ∀ r, bb_last (fun m => ¬ v1 < nI m ∧ ¬ pr m = 0) r → wpY_previous (fun r' => r' = r ∧ i_Rel (k + 4) (P, nI N, nI R, W, nI M, vals, bb_enc lv, par, bb_enc lo, bb_enc hi, bb_enc c, bb_enc cl, bb_enc cn, bb_enc ms, so, fi, la, nu, bb_enc q, mp, mv) (nI M, pr, va, kp, kv)) (nI M, pr, va, kp, kv) v1 := by
    intro r hr
    unfold wpY_previous
    exact ⟨65, bb_yprev (fun r' hr' => ⟨bb_last_u hr hr', bb_ri (bb_K_le (Nat.zero_le 6) hK0) h01 hM⟩) 65 64 (by omega) (by omega) (fun m h1 h2 => by omega)⟩
  have big : ∀ m, nI m ≤ bb_mn v1 63 → ¬ v1 < nI m := fun m h => Int32.not_lt.mpr (bb_le_mn.mp h).1
  have sml : ∀ m, m < 64 → bb_mn v1 63 < nI m → v1 < nI m := by
    intro m hm h
    unfold bb_mn at h
    by_cases g : 63 ≤ v1
    · rw [if_pos g] at h
      exact absurd h (nI_nlt (b := m) (a := 63) (by omega) (by omega))
    · rw [if_neg g] at h
      exact h
  have nn : bb_mn v1 63 ≤ 63 := (bb_le_mn.mp (Int32.le_refl _)).2
  rcases pk_ix (bb_mn v1 63) (n := 64) (by omega) with g | g | ⟨a, a1, a2⟩
  · refine ⟨1, br_t g (Y (-2) (Or.inr ⟨fun m hm z => z.1 (sml m hm ?_), rfl⟩))⟩
    have := nI_pos' (n := m) (by omega)
    rw [Int32.lt_iff_toInt_lt] at *
    rw [Int32.le_iff_toInt_le] at this
    omega
  · exact absurd (Int32.le_trans g nn) (by decide)
  · rw [a2] at big sml
    rw [a2, ← bb_dns a]
    exact ⟨65, bb_xprev (bb_K0 hK0) (fun r hr => Y r hr) 65 (a + 1) (by omega) (by omega) (fun m h1 h2 z => z.1 (sml m (by omega) (nI_lt (by omega) (by omega)))) (fun m h1 => big m (nI_le (by omega) (by omega)))⟩
theorem i_vc_keyAt {k : Nat} {u : SX} {v : SY} (I : i_Rel k u v) (hk : k + 4 ≤ 2048) (v1 : Int32) : wpX_keyAt (fun r u' => wpY_keyAt (fun r' => r' = r ∧ i_Rel (k + 4) u' v) v v1) u v1 := by
  refine I (fun u v => wpX_keyAt (fun r u' => wpY_keyAt (fun r' => r' = r ∧ i_Rel (k + 4) u' v) v v1) u v1) ?_
  intro P N R W M vals lv par lo hi c cl cn ms so fi la nu q mp mv pr va kp kv hK h01 hM
  unfold wpX_keyAt
  dsimp only
  refine bb_flushAll (s := bb_yl pr va) (fun P vals N R lv par lo hi c cl cn ms so fi la nu hK0 => ?_) hK
  dsimp only
  obtain ⟨r, rX, rY⟩ := bb_lkey (P := P) (vals := vals) (N := N) (R := R) (W := W) (M := M) (lv := lv) (par := par) (lo := lo) (hi := hi) (c := c) (cl := cl) (cn := cn) (ms := ms) (so := so) (fi := fi) (la := la) (nu := nu) (q := q) (mp := mp) (mv := mv) (kp := kp) (kv := kv) (x := v1) (y := nI M) (bb_K0 hK0) 66 0 0 (by omega) (by omega)
  refine ⟨66, rX _ ?_⟩
  unfold wpY_keyAt
  refine ⟨66, ?_⟩
  have := rY (fun r' => r' = r ∧ i_Rel (k + 4) (P, nI N, nI R, W, nI M, vals, bb_enc lv, par, bb_enc lo, bb_enc hi, bb_enc c, bb_enc cl, bb_enc cn, bb_enc ms, so, fi, la, nu, bb_enc q, mp, mv) (nI M, pr, va, kp, kv)) ⟨rfl, bb_ri (bb_K_le (Nat.zero_le 6) hK0) h01 hM⟩
  rw [Int32.sub_zero] at this
  exact this
theorem i_vc_count {k : Nat} {u : SX} {v : SY} (I : i_Rel k u v) (hk : k + 4 ≤ 2048) (v1 : Int32) (v2 : Int32) : wpX_count (fun r u' => wpY_count (fun r' => r' = r ∧ i_Rel (k + 4) u' v) v v1 v2) u v1 v2 := by
  refine I (fun u v => wpX_count (fun r u' => wpY_count (fun r' => r' = r ∧ i_Rel (k + 4) u' v) v v1 v2) u v1 v2) ?_
  intro P N R W M vals lv par lo hi c cl cn ms so fi la nu q mp mv pr va kp kv hK h01 hM
  unfold wpX_count
  dsimp only
  refine bb_isKey (bb_bi_br (fun e => ?_) (fun e => bb_isKey (bb_bi_br (fun e2 => ?_) (fun e2 => ?_))))
  · unfold wpY_count
    dsimp only
    refine bb_yisPair ?_
    rw [e]
    exact br_t rfl ⟨rfl, bb_ri hK h01 hM⟩
  · unfold wpY_count
    dsimp only
    refine bb_yisPair ?_
    rw [e, e2]
    exact br_t rfl ⟨rfl, bb_ri hK h01 hM⟩
  · obtain ⟨i, hi', rfl⟩ := bb_ky_t e
    obtain ⟨j, hj, rfl⟩ := bb_ky_t e2
    refine bb_flushAll (s := bb_yl pr va) (fun P vals N R lv par lo hi c cl cn ms so fi la nu hK0 => ?_) hK
    dsimp only
    rw [nI_1]
    exact bb_keysIn (by omega) (by omega) (bb_ycount (bb_K0 hK0) hi' hj ⟨rfl, bb_ri (bb_K_le (Nat.zero_le 6) hK0) h01 hM⟩)
theorem i_vc_sum {k : Nat} {u : SX} {v : SY} (I : i_Rel k u v) (hk : k + 4 ≤ 2048) (v1 : Int32) (v2 : Int32) : wpX_sum (fun r u' => wpY_sum (fun r' => r' = r ∧ i_Rel (k + 4) u' v) v v1 v2) u v1 v2 := by
  refine I (fun u v => wpX_sum (fun r u' => wpY_sum (fun r' => r' = r ∧ i_Rel (k + 4) u' v) v v1 v2) u v1 v2) ?_
  intro P N R W M vals lv par lo hi c cl cn ms so fi la nu q mp mv pr va kp kv hK h01 hM
  unfold wpX_sum
  dsimp only
  refine bb_isKey (bb_bi_br (fun e => ?_) (fun e => bb_isKey (bb_bi_br (fun e2 => ?_) (fun e2 => ?_))))
  · unfold wpY_sum
    dsimp only
    refine bb_yisPair ?_
    rw [e]
    exact br_t rfl ⟨rfl, bb_ri hK h01 hM⟩
  · unfold wpY_sum
    dsimp only
    refine bb_yisPair ?_
    rw [e, e2]
    exact br_t rfl ⟨rfl, bb_ri hK h01 hM⟩
  · obtain ⟨i, hi', rfl⟩ := bb_ky_t e
    obtain ⟨j, hj, rfl⟩ := bb_ky_t e2
    refine bb_flushAll (s := bb_yl pr va) (fun P vals N R lv par lo hi c cl cn ms so fi la nu hK0 => ?_) hK
    dsimp only
    obtain ⟨r, rX, rY⟩ := bb_lsum (P := P) (vals := vals) (N := N) (R := R) (W := W) (M := M) (lv := lv) (par := par) (lo := lo) (hi := hi) (c := c) (cl := cl) (cn := cn) (ms := ms) (so := so) (fi := fi) (la := la) (nu := nu) (q := q) (mp := mp) (mv := mv) (kp := kp) (kv := kv) (y := nI M) (bb_K0 hK0) hj 66 i (0) (by omega) (by omega)
    refine ⟨66, rX _ ?_⟩
    unfold wpY_sum
    dsimp only
    refine bb_yisPair ?_
    rw [e, e2]
    exact br_f (show ¬ bb_bi true = 0 by decide) ⟨66, rY _ ⟨rfl, bb_ri (bb_K_le (Nat.zero_le 6) hK0) h01 hM⟩⟩
theorem i_vc_greatest {k : Nat} {u : SX} {v : SY} (I : i_Rel k u v) (hk : k + 4 ≤ 2048) (v1 : Int32) (v2 : Int32) : wpX_greatest (fun r u' => wpY_greatest (fun r' => r' = r ∧ i_Rel (k + 4) u' v) v v1 v2) u v1 v2 := by
  refine I (fun u v => wpX_greatest (fun r u' => wpY_greatest (fun r' => r' = r ∧ i_Rel (k + 4) u' v) v v1 v2) u v1 v2) ?_
  intro P N R W M vals lv par lo hi c cl cn ms so fi la nu q mp mv pr va kp kv hK h01 hM
  unfold wpX_greatest
  dsimp only
  refine bb_isKey (bb_bi_br (fun e => ?_) (fun e => bb_isKey (bb_bi_br (fun e2 => ?_) (fun e2 => ?_))))
  · unfold wpY_greatest
    dsimp only
    refine bb_yisPair ?_
    rw [e]
    exact br_t rfl ⟨rfl, bb_ri hK h01 hM⟩
  · unfold wpY_greatest
    dsimp only
    refine bb_yisPair ?_
    rw [e, e2]
    exact br_t rfl ⟨rfl, bb_ri hK h01 hM⟩
  · obtain ⟨i, hi', rfl⟩ := bb_ky_t e
    obtain ⟨j, hj, rfl⟩ := bb_ky_t e2
    refine bb_flushAll (s := bb_yl pr va) (fun P vals N R lv par lo hi c cl cn ms so fi la nu hK0 => ?_) hK
    dsimp only
    obtain ⟨r, rX, rY⟩ := bb_lgreat (P := P) (vals := vals) (N := N) (R := R) (W := W) (M := M) (lv := lv) (par := par) (lo := lo) (hi := hi) (c := c) (cl := cl) (cn := cn) (ms := ms) (so := so) (fi := fi) (la := la) (nu := nu) (q := q) (mp := mp) (mv := mv) (kp := kp) (kv := kv) (y := nI M) (bb_K0 hK0) hj 66 i (-2147483648) (by omega) (by omega)
    refine ⟨66, rX _ ?_⟩
    unfold wpY_greatest
    dsimp only
    refine bb_yisPair ?_
    rw [e, e2]
    exact br_f (show ¬ bb_bi true = 0 by decide) ⟨66, rY _ ⟨rfl, bb_ri (bb_K_le (Nat.zero_le 6) hK0) h01 hM⟩⟩
theorem i_vc_changedSince {k : Nat} {u : SX} {v : SY} (I : i_Rel k u v) (hk : k + 4 ≤ 2048) : wpX_changedSince (fun r u' => wpY_changedSince (fun r' => r' = r ∧ i_Rel (k + 4) u' v) v) u := by
  refine I (fun u v => wpX_changedSince (fun r u' => wpY_changedSince (fun r' => r' = r ∧ i_Rel (k + 4) u' v) v) u) ?_
  intro P N R W M vals lv par lo hi c cl cn ms so fi la nu q mp mv pr va kp kv hK h01 hM
  unfold wpX_changedSince
  dsimp only
  obtain ⟨m3, m01, mm⟩ := hM
  refine pk_eq M 0 (fun g => ?_) (fun g => ?_)
  · unfold wpY_changedSince
    dsimp only
    subst g
    exact br_t rfl ⟨rfl, bb_ri hK h01 ⟨m3, m01, mm⟩⟩
  · obtain ⟨m, rfl⟩ : ∃ m, M = m + 1 := ⟨M - 1, by omega⟩
    refine bb_flushAll (s := bb_yl pr va) (fun P vals N R lv par lo hi c cl cn ms so fi la nu hK0 => ?_) hK
    dsimp only
    obtain ⟨r, rX, rY⟩ := bb_lsince (P := P) (vals := vals) (N := N) (R := R) (W := W) (lv := lv) (par := par) (lo := lo) (hi := hi) (c := c) (cl := cl) (cn := cn) (ms := ms) (so := so) (fi := fi) (la := la) (nu := nu) (q := q) (mp := mp) (mv := mv) (m := m) (by omega) h01 m01 (bb_K0 hK0) (mm m (by omega)) 66 0 0 (by omega) (by omega)
    refine ⟨66, rX _ ?_⟩
    unfold wpY_changedSince
    dsimp only
    exact br_f (nI_ne0 (by omega) (by omega)) ⟨66, rY _ ⟨rfl, bb_ri (bb_K_le (Nat.zero_le 6) hK0) h01 ⟨m3, m01, mm⟩⟩⟩
end
