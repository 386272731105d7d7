section
/-! bits of small naturals under Int32 -/
def dd_b (g : Bool) : Int32 := if g then 1 else 0
theorem dd_nar (g : Bool) : narrow .boolean (.int (dd_b g)) = .int (dd_b g) := by cases g <;> rfl
theorem dd_b1 {g : Bool} : dd_b g = 1 ↔ g = true := by cases g <;> decide
theorem dd_b0 {g : Bool} : dd_b g = 0 ↔ g = false := by cases g <;> decide
theorem dd_nf {x : Bool} (h : ¬ x = false) : x = true := by cases x <;> simp_all
theorem dd_nt {x : Bool} (h : ¬ x = true) : x = false := by cases x <;> simp_all
/-- branch on a boolean -/
theorem dd_br {x : Int32} {A B : Prop} (g : Bool) (f : g = false → A) (h : g = true → B) (e : x = dd_b g := by rfl) : (x = 0 → A) ∧ (¬ x = 0 → B) := by
  subst e
  cases g
  · exact br_t rfl (f rfl)
  · exact br_f (by decide) (h rfl)
theorem dd_and (a b : Nat) : nI a &&& nI b = nI (a &&& b) := by
  apply Int32.toBitVec_inj.1
  show BitVec.ofNat 32 a &&& BitVec.ofNat 32 b = BitVec.ofNat 32 (a &&& b)
  apply BitVec.eq_of_getLsbD_eq
  intro i hi
  simp [hi]
theorem dd_or (a b : Nat) : nI a ||| nI b = nI (a ||| b) := by
  apply Int32.toBitVec_inj.1
  show BitVec.ofNat 32 a ||| BitVec.ofNat 32 b = BitVec.ofNat 32 (a ||| b)
  apply BitVec.eq_of_getLsbD_eq
  intro i hi
  simp [hi]
theorem dd_xor (a b : Nat) : nI a ^^^ nI b = nI (a ^^^ b) := by
  apply Int32.toBitVec_inj.1
  show BitVec.ofNat 32 a ^^^ BitVec.ofNat 32 b = BitVec.ofNat 32 (a ^^^ b)
  apply BitVec.eq_of_getLsbD_eq
  intro i hi
  simp [hi]
/-- a without b -/
def dd_an (a b : Nat) : Nat := a ^^^ (a &&& b)
theorem dd_not (x y : Int32) : x &&& (y ^^^ (-1)) = x ^^^ (x &&& y) := by
  apply Int32.toBitVec_inj.1
  rw [Int32.toBitVec_and, Int32.toBitVec_xor, Int32.toBitVec_xor, Int32.toBitVec_and]
  have e : (-1 : Int32).toBitVec = BitVec.allOnes 32 := by decide
  rw [e]
  apply BitVec.eq_of_getLsbD_eq
  intro i hi
  simp only [BitVec.getLsbD_and, BitVec.getLsbD_xor, BitVec.getLsbD_allOnes, hi, decide_true]
  cases x.toBitVec.getLsbD i <;> cases y.toBitVec.getLsbD i <;> rfl
theorem dd_andn (a b : Nat) : nI a &&& (nI b ^^^ (-1)) = nI (dd_an a b) := by
  rw [dd_not, dd_and, dd_xor, dd_an]
theorem dd_smod : ∀ n, n < 32 → ((nI n &&& 31).toBitVec.smod 32).toNat = n := by decide +kernel
theorem dd_shr {s c : Nat} (hs : s < 2 ^ 31) (hc : c < 32) : nI s >>> (nI c &&& 31) = nI (s >>> c) := by
  rw [pk_shrN hs _ c (dd_smod c hc), Nat.shiftRight_eq_div_pow]
theorem dd_one : ∀ c, c < 31 → (1 : Int32) <<< (nI c &&& 31) = nI (2 ^ c) := by decide +kernel
theorem dd_tb (s c : Nat) : s.testBit c = true ↔ (s >>> c) % 2 = 1 := by
  rw [Nat.testBit_eq_decide_div_mod_eq, Nat.shiftRight_eq_div_pow, decide_eq_true_iff]
theorem dd_bitN {s c : Nat} (hs : s < 2 ^ 31) (hc : c < 32) : (nI s >>> (nI c &&& 31)) &&& 1 = nI ((s >>> c) % 2) := by
  rw [dd_shr hs hc]
  show nI (s >>> c) &&& nI 1 = _
  rw [dd_and, Nat.and_one_is_mod]
theorem dd_bit1 {s c : Nat} (hs : s < 2 ^ 31) (hc : c < 32) : (nI s >>> (nI c &&& 31)) &&& 1 = 1 ↔ s.testBit c = true := by
  rw [dd_bitN hs hc, dd_tb]
  show nI _ = nI 1 ↔ _
  rw [nI_eq (by omega) (by omega)]
theorem dd_bit0 {s c : Nat} (hs : s < 2 ^ 31) (hc : c < 32) : (nI s >>> (nI c &&& 31)) &&& 1 = 0 ↔ s.testBit c = false := by
  rw [dd_bitN hs hc]
  show nI _ = nI 0 ↔ _
  rw [nI_eq (by omega) (by omega)]
  have := dd_tb s c
  constructor
  · intro h
    apply dd_nt
    rw [this]
    omega
  · intro h
    rw [h] at this
    have h2 : ¬ (s >>> c) % 2 = 1 := fun z => absurd (this.mpr z) (by decide)
    omega
/-- branch on a bit -/
theorem dd_bb1 {x y : Int32} {A B : Prop} (s c : Nat) (f : s.testBit c = true → A) (g : s.testBit c = false → B) (hs : s < 2 ^ 31) (hc : c < 32) (hx : x = nI s := by rfl) (hy : y = nI c := by rfl) : (((x >>> (y &&& 31)) &&& 1) = 1 → A) ∧ (¬ ((x >>> (y &&& 31)) &&& 1) = 1 → B) := by
  subst hx hy
  rw [dd_bit1 hs hc]
  exact ⟨f, fun z => g (dd_nt z)⟩
theorem dd_bb0 {x y : Int32} {A B : Prop} (s c : Nat) (f : s.testBit c = false → A) (g : s.testBit c = true → B) (hs : s < 2 ^ 31) (hc : c < 32) (hx : x = nI s := by rfl) (hy : y = nI c := by rfl) : (((x >>> (y &&& 31)) &&& 1) = 0 → A) ∧ (¬ ((x >>> (y &&& 31)) &&& 1) = 0 → B) := by
  subst hx hy
  rw [dd_bit0 hs hc]
  exact ⟨f, fun z => g (dd_nf z)⟩
theorem dd_lt_and {a b n : Nat} (h : a < 2 ^ n) : a &&& b < 2 ^ n := Nat.lt_of_le_of_lt Nat.and_le_left h
theorem dd_lt_or {a b n : Nat} (h : a < 2 ^ n) (g : b < 2 ^ n) : a ||| b < 2 ^ n := Nat.or_lt_two_pow h g
theorem dd_lt_an {a b n : Nat} (h : a < 2 ^ n) : dd_an a b < 2 ^ n := Nat.xor_lt_two_pow h (dd_lt_and h)
theorem dd_a64 {a : Nat} (b : Nat) (h : a < 64) : a &&& b < 64 := dd_lt_and (n := 6) h
theorem dd_o64 {a b : Nat} (h : a < 64) (g : b < 64) : a ||| b < 64 := dd_lt_or (n := 6) h g
theorem dd_n64 {a : Nat} (b : Nat) (h : a < 64) : dd_an a b < 64 := dd_lt_an (n := 6) h
theorem dd_p64 {c : Nat} (h : c < 6) : 2 ^ c < 64 := (by decide +kernel : ∀ c, c < 6 → 2 ^ c < 64) c h
/-- within -/
def dd_w (x y : Nat) : Bool := dd_an x y == 0
/-! lists for arrays -/
def dd_g (L : List Nat) (i : Nat) : Nat := L.getD i 0
def dd_am (a : Nat → Int32) (L : List Nat) : Prop := ∀ i, i < L.length → a i = nI (dd_g L i)
def dd_lt (N : Nat) (L : List Nat) : Prop := ∀ i, dd_g L i < N
theorem dd_g_push (L : List Nat) (v i : Nat) : dd_g (L ++ [v]) i = if i < L.length then dd_g L i else if i = L.length then v else 0 := by
  unfold dd_g
  simp only [List.getD_eq_getElem?_getD]
  split
  · rename_i h
    rw [List.getElem?_append_left h]
  · split
    · rename_i h1 h2
      subst h2
      simp
    · rename_i h1 h2
      rw [List.getElem?_eq_none (by simp; omega)]
      rfl
theorem dd_g_set (L : List Nat) (k v i : Nat) : dd_g (L.set k v) i = if i = k ∧ k < L.length then v else dd_g L i := by
  unfold dd_g
  simp only [List.getD_eq_getElem?_getD, List.getElem?_set]
  by_cases h : k = i
  · subst h
    by_cases g : k < L.length
    · simp [g]
    · simp [g]
  · have h' : ¬ i = k := fun z => h z.symm
    simp [h, h']
theorem dd_am_push {a : Nat → Int32} {L : List Nat} {x v : Int32} {w : Nat} (h : dd_am a L) (hx : x = nI L.length) (hl : L.length < 2 ^ 31) (hv : v = nI w) : dd_am (upd a x.toNatClampNeg v) (L ++ [w]) := by
  intro i hi
  rw [hx, nI_clamp hl, hv, dd_g_push]
  rw [List.length_append] at hi
  by_cases e : i = L.length
  · rw [e, pk_us]
    simp
  · have hi' : i < L.length := by simp at hi; omega
    rw [pk_un e, h i hi']
    simp [hi']
theorem dd_am_set {a : Nat → Int32} {L : List Nat} {x v : Int32} {k w : Nat} (h : dd_am a L) (hx : x = nI k) (hk : k < 2 ^ 31) (hv : v = nI w) : dd_am (upd a x.toNatClampNeg v) (L.set k w) := by
  intro i hi
  rw [hx, nI_clamp hk, hv, dd_g_set]
  rw [List.length_set] at hi
  by_cases e : i = k
  · subst e
    rw [pk_us]
    simp [hi]
  · rw [pk_un e, h i hi]
    simp [e]
theorem dd_lt_push {N : Nat} {L : List Nat} {v : Nat} (h : dd_lt N L) (hv : v < N) : dd_lt N (L ++ [v]) := by
  intro i
  rw [dd_g_push]
  split
  · exact h i
  · split
    · exact hv
    · omega
theorem dd_lt_set {N : Nat} {L : List Nat} {k v : Nat} (h : dd_lt N L) (hv : v < N) : dd_lt N (L.set k v) := by
  intro i
  rw [dd_g_set]
  split
  · exact hv
  · exact h i
theorem dd_lt_nil {N : Nat} (h : 0 < N) : dd_lt N [] := fun _ => h
theorem dd_am_nil {a : Nat → Int32} : dd_am a [] := fun _ h => absurd h (by simp)
/-- a place read -/
theorem dd_rd {a : Nat → Int32} {L : List Nat} {x : Int32} {i : Nat} (h : dd_am a L) (hx : x = nI i) (hi : i < L.length) (hl : L.length < 2 ^ 31) : a x.toNatClampNeg = nI (dd_g L i) := by
  rw [hx, nI_clamp (by omega), h i hi]
theorem dd_i6 (p c : Nat) : (6 : Int32) * nI p + nI c = nI (6 * p + c) := by
  show nI 6 * nI p + nI c = _
  rw [pk_mul, nI_add]
end
section
/-! the pictures: what each method computes, in naturals. D: the given dependencies (left, right, bundled) -/
/-- splitBy: m blocks to go, at block k -/
def dd_sp (v w : Nat) : Nat → Nat → List Nat → Bool → List Nat × Bool
  | 0, _, bl, any => (bl, any)
  | m + 1, k, bl, any =>
    if dd_g bl k &&& v = 0 then
      if dd_g bl k &&& w = 0 then dd_sp v w m (k + 1) bl any
      else if dd_g bl k &&& w = dd_g bl k then dd_sp v w m (k + 1) bl any
      else dd_sp v w m (k + 1) ((bl ++ [dd_an (dd_g bl k) (dd_g bl k &&& w)]).set k (dd_g bl k &&& w)) true
    else dd_sp v w m (k + 1) bl any
/-- splitByGiven of a single dependency -/
def dd_sg (l r : Nat) : Nat → Nat → List Nat → Bool → List Nat × Bool
  | 0, _, bl, any => (bl, any)
  | m + 1, c, bl, any =>
    if r.testBit c = true then dd_sg l r m (c + 1) (dd_sp l (2 ^ c) bl.length 0 bl false).1 (any || (dd_sp l (2 ^ c) bl.length 0 bl false).2)
    else dd_sg l r m (c + 1) bl any
def dd_sd (e : Nat × Nat × Bool) (bl : List Nat) : List Nat × Bool :=
  if e.2.2 = true then dd_sp e.1 e.2.1 bl.length 0 bl false else dd_sg e.1 e.2.1 6 0 bl false
def dd_d (D : List (Nat × Nat × Bool)) (k : Nat) : Nat × Nat × Bool := D.getD k (0, 0, false)
/-- findBasis: one round -/
def dd_fi (D : List (Nat × Nat × Bool)) (ct : Nat) : Nat → Nat → List Nat → Bool → List Nat × Bool
  | 0, _, bl, more => (bl, more)
  | m + 1, k, bl, more =>
    if ct.testBit k = true then dd_fi D ct m (k + 1) (dd_sd (dd_d D k) bl).1 (more || (dd_sd (dd_d D k) bl).2)
    else dd_fi D ct m (k + 1) bl more
def dd_fo (D : List (Nat × Nat × Bool)) (ct : Nat) : Nat → List Nat → List Nat
  | 0, bl => bl
  | m + 1, bl => if (dd_fi D ct D.length 0 bl false).2 = true then dd_fo D ct m (dd_fi D ct D.length 0 bl false).1 else (dd_fi D ct D.length 0 bl false).1
def dd_fb (D : List (Nat × Nat × Bool)) (ct x : Nat) : List Nat := dd_fo D ct 6 (if x = 63 then [] else [dd_an 63 x])
def dd_lo (s : Nat) : Nat → Nat → Nat
  | 0, f => f
  | m + 1, f => dd_lo s m (if s.testBit m = true then m else f)
def dd_dt (D : List (Nat × Nat × Bool)) (ct c : Nat) : Nat → Nat → Bool → Bool
  | 0, _, any => any
  | m + 1, k, any => dd_dt D ct c m (k + 1) (any || (ct.testBit k && !(dd_d D k).2.2 && (dd_an (dd_d D k).2.1 (dd_d D k).1).testBit c))
def dd_cl (D : List (Nat × Nat × Bool)) (ct : Nat) (bl : List Nat) : Nat → Nat → Nat → Nat
  | 0, _, out => out
  | m + 1, k, out => dd_cl D ct bl m (k + 1) (if (dd_g bl k &&& (dd_g bl k - 1) = 0) then (if dd_dt D ct (dd_lo (dd_g bl k) 6 0) D.length 0 false = true then out ||| dd_g bl k else out) else out)
/-- closeSet -/
def dd_cs (D : List (Nat × Nat × Bool)) (ct x : Nat) : Nat := dd_cl D ct (dd_fb D ct x) (dd_fb D ct x).length 0 x
/-! stems and keys, out of the closures cl -/
def dd_ci (cl : Nat → Nat) (S : List Nat) : Nat → Nat → Nat → Nat
  | 0, _, out => out
  | m + 1, k, out => dd_ci cl S m (k + 1) (if dd_w (dd_g S k) out = true then (if dd_g S k = out then out else out ||| cl (dd_g S k)) else out)
def dd_co (cl : Nat → Nat) (S : List Nat) : Nat → Nat → Nat
  | 0, out => out
  | m + 1, out => if dd_ci cl S S.length 0 out = out then out else dd_co cl S m (dd_ci cl S S.length 0 out)
def dd_nx (cl : Nat → Nat) (S : List Nat) (x : Nat) : Nat → Option Nat
  | 0 => none
  | m + 1 => if x.testBit m = false then
      (if dd_co cl S 7 ((x &&& (2 ^ m - 1)) ||| 2 ^ m) &&& (2 ^ m - 1) = x &&& (2 ^ m - 1) then some (dd_co cl S 7 ((x &&& (2 ^ m - 1)) ||| 2 ^ m)) else dd_nx cl S x m)
    else dd_nx cl S x m
def dd_fs (cl : Nat → Nat) : Nat → Option Nat → List Nat → Nat → List Nat × Nat
  | 0, _, S, M => (S, M)
  | _ + 1, none, S, M => (S, M)
  | m + 1, some x, S, M => if cl x = x then dd_fs cl m (if x = 63 then none else dd_nx cl S x 6) S M
    else dd_fs cl m (if x = 63 then none else dd_nx cl (S ++ [x]) x 6) (S ++ [x]) (M ||| 2 ^ x)
def dd_re (cl : Nat → Nat) : Nat → Nat → Nat
  | 0, out => out
  | m + 1, out => dd_re cl m (if cl (dd_an out (2 ^ m)) = 63 then dd_an out (2 ^ m) else out)
def dd_hk (K : List Nat) (x : Nat) : Nat → Nat → Bool → Bool
  | 0, _, any => any
  | m + 1, k, any => dd_hk K x m (k + 1) (any || dd_w (dd_g K k) x)
/-- addKey: i keys to look at from above; those looked at have moved up by one -/
def dd_ak (x : Nat) : Nat → List Nat → List Nat
  | 0, K => K.set 0 x
  | i + 1, K => if x < dd_g K i then dd_ak x i (K.set (i + 1) (dd_g K i)) else K.set (i + 1) x
def dd_fk (cl : Nat → Nat) : Nat → List Nat → List Nat
  | 0, K => K
  | m + 1, K => if cl m = 63 then (if dd_hk K m K.length 0 false = true then dd_fk cl m K else dd_fk cl m (dd_ak (dd_re cl 6 m) K.length (K ++ [0]))) else dd_fk cl m K
def dd_c (C x : Nat) : Nat := (C >>> (6 * x)) &&& 63
/-- what study finds: closures (six bits a set), stems in order, stems as bits, keys -/
def dd_sy (D : List (Nat × Nat × Bool)) (q : Nat × List Nat × Nat × List Nat) : Bool :=
  (List.range 64).all (fun x => dd_cs D (2 ^ D.length - 1) x == dd_c q.1 x) && (dd_fs (dd_c q.1) 64 (some (dd_co (dd_c q.1) [] 7 0)) [] 0 == (q.2.1, q.2.2.1)) && (dd_fk (dd_c q.1) 64 [dd_re (dd_c q.1) 6 63] == q.2.2.2) && Nat.ble q.2.2.2.length 20
end
section
/-! blocks: each not empty, together at most six columns -/
def dd_pc (b : Nat) : Nat := b % 2 + b / 2 % 2 + b / 4 % 2 + b / 8 % 2 + b / 16 % 2 + b / 32 % 2
def dd_ps : List Nat → Nat
  | [] => 0
  | b :: L => dd_pc b + dd_ps L
theorem dd_pc_pos {b : Nat} (h : b < 64) (h0 : 0 < b) : 0 < dd_pc b := (by decide +kernel : ∀ b, b < 64 → 0 < b → 0 < dd_pc b) b h h0
theorem dd_pc_split {b w : Nat} (h : b < 64) (hw : w < 64) : dd_pc (b &&& w) + dd_pc (dd_an b (b &&& w)) = dd_pc b := (by decide +kernel : ∀ b, b < 64 → ∀ w, w < 64 → dd_pc (b &&& w) + dd_pc (dd_an b (b &&& w)) = dd_pc b) b h w hw
theorem dd_ps_push (L : List Nat) (v : Nat) : dd_ps (L ++ [v]) = dd_ps L + dd_pc v := by
  induction L with
  | nil => simp [dd_ps]
  | cons b L ih => simp [dd_ps, ih, Nat.add_assoc]
theorem dd_ps_set (L : List Nat) (k v : Nat) (h : k < L.length) : dd_ps (L.set k v) + dd_pc (dd_g L k) = dd_ps L + dd_pc v := by
  induction L generalizing k with
  | nil => simp at h
  | cons b L ih =>
    cases k with
    | zero => simp [dd_ps, dd_g]; omega
    | succ k =>
      have := ih k (by simpa using h)
      have e : dd_g (b :: L) (k + 1) = dd_g L k := by simp [dd_g]
      rw [e]
      simp [dd_ps]
      omega
def dd_iv (bl : List Nat) : Prop := (∀ i, i < bl.length → 0 < dd_g bl i) ∧ dd_lt 64 bl ∧ dd_ps bl ≤ 6
theorem dd_ps_len (L : List Nat) (h : ∀ i, i < L.length → 0 < dd_g L i) (hl : dd_lt 64 L) : L.length ≤ dd_ps L := by
  induction L with
  | nil => simp
  | cons b L ih =>
    have h1 : 0 < b := h 0 (by simp)
    have h2 : b < 64 := hl 0
    have h3 := dd_pc_pos h2 h1
    have := ih (fun i hi => by have := h (i + 1) (by simpa using hi); simpa [dd_g] using this) (fun i => by have := hl (i + 1); simpa [dd_g] using this)
    simp [dd_ps]
    omega
theorem dd_iv_len {bl : List Nat} (h : dd_iv bl) : bl.length ≤ 6 := Nat.le_trans (dd_ps_len bl h.1 h.2.1) h.2.2
theorem dd_iv_split {bl : List Nat} {k w : Nat} (h : dd_iv bl) (hk : k < bl.length) (hw : w < 64) (h0 : ¬ dd_g bl k &&& w = 0) (h1 : ¬ dd_g bl k &&& w = dd_g bl k) : dd_iv ((bl ++ [dd_an (dd_g bl k) (dd_g bl k &&& w)]).set k (dd_g bl k &&& w)) := by
  have hb : dd_g bl k < 64 := h.2.1 k
  have ek : dd_g (bl ++ [dd_an (dd_g bl k) (dd_g bl k &&& w)]) k = dd_g bl k := by rw [dd_g_push, if_pos hk]
  have hn : 0 < dd_an (dd_g bl k) (dd_g bl k &&& w) :=
    (by decide +kernel : ∀ b, b < 64 → ∀ w, w < 64 → ¬ b &&& w = b → 0 < dd_an b (b &&& w)) _ hb w hw h1
  refine ⟨fun i hi => ?_, dd_lt_set (dd_lt_push h.2.1 (dd_n64 _ hb)) (dd_a64 _ hb), ?_⟩
  · rw [dd_g_set]
    split
    · omega
    · rw [dd_g_push]
      split
      · exact h.1 i (by assumption)
      · simp at hi
        rw [if_pos (by omega)]
        exact hn
  · have := dd_ps_set (bl ++ [dd_an (dd_g bl k) (dd_g bl k &&& w)]) k (dd_g bl k &&& w) (by simp; omega)
    rw [ek, dd_ps_push] at this
    have := dd_pc_split hb hw
    have := h.2.2
    omega
theorem dd_sp_iv {v w : Nat} (hw : w < 64) : ∀ m k bl any, k + m ≤ bl.length → dd_iv bl → dd_iv (dd_sp v w m k bl any).1 ∧ bl.length ≤ (dd_sp v w m k bl any).1.length := by
  intro m
  induction m with
  | zero => intro k bl any _ h; exact ⟨h, Nat.le_refl _⟩
  | succ m ih =>
    intro k bl any hk h
    unfold dd_sp
    split
    · split
      · exact ih _ _ _ (by omega) h
      · split
        · exact ih _ _ _ (by omega) h
        · rename_i h0 h1
          have := ih (k + 1) _ true (by simp; omega) (dd_iv_split h (by omega) hw h0 h1)
          exact ⟨this.1, Nat.le_trans (by simp) this.2⟩
    · exact ih _ _ _ (by omega) h
theorem dd_sg_iv {l r : Nat} : ∀ m c bl any, c + m ≤ 6 → dd_iv bl → dd_iv (dd_sg l r m c bl any).1 := by
  intro m
  induction m with
  | zero => intro c bl any _ h; exact h
  | succ m ih =>
    intro c bl any hc h
    unfold dd_sg
    split
    · exact ih _ _ _ (by omega) (dd_sp_iv (dd_p64 (by omega)) _ _ _ _ (by omega) h).1
    · exact ih _ _ _ (by omega) h
theorem dd_sd_iv {e : Nat × Nat × Bool} {bl : List Nat} (he : e.2.1 < 64) (h : dd_iv bl) : dd_iv (dd_sd e bl).1 := by
  unfold dd_sd
  split
  · exact (dd_sp_iv he _ _ _ _ (by omega) h).1
  · exact dd_sg_iv _ _ _ _ (by omega) h
def dd_D (a1 a2 a3 : Nat → Int32) (D : List (Nat × Nat × Bool)) : Prop := D.length ≤ 10 ∧ ∀ i, i < D.length → a1 i = nI (dd_d D i).1 ∧ a2 i = nI (dd_d D i).2.1 ∧ a3 i = dd_b (dd_d D i).2.2 ∧ (dd_d D i).1 < 64 ∧ (dd_d D i).2.1 < 64
def dd_dl (D : List (Nat × Nat × Bool)) : Prop := ∀ i, i < D.length → (dd_d D i).1 < 64 ∧ (dd_d D i).2.1 < 64
theorem dd_D_dl {a1 a2 a3 : Nat → Int32} {D : List (Nat × Nat × Bool)} (h : dd_D a1 a2 a3 D) : dd_dl D := fun i hi => (h.2 i hi).2.2.2
theorem dd_fi_iv {D : List (Nat × Nat × Bool)} {ct : Nat} (hD : dd_dl D) : ∀ m k bl more, k + m = D.length → dd_iv bl → dd_iv (dd_fi D ct m k bl more).1 := by
  intro m
  induction m with
  | zero => intro k bl any _ h; exact h
  | succ m ih =>
    intro k bl any hk h
    unfold dd_fi
    split
    · exact ih _ _ _ (by omega) (dd_sd_iv (hD k (by omega)).2 h)
    · exact ih _ _ _ (by omega) h
theorem dd_fo_iv {D : List (Nat × Nat × Bool)} {ct : Nat} (hD : dd_dl D) : ∀ m bl, dd_iv bl → dd_iv (dd_fo D ct m bl) := by
  intro m
  induction m with
  | zero => intro bl h; exact h
  | succ m ih =>
    intro bl h
    unfold dd_fo
    split
    · exact ih _ (dd_fi_iv hD _ _ _ _ (by omega) h)
    · exact dd_fi_iv hD _ _ _ _ (by omega) h
theorem dd_iv_nil : dd_iv [] := ⟨fun i h => absurd h (by simp), dd_lt_nil (by omega), by simp [dd_ps]⟩
theorem dd_iv_one {x : Nat} (h : x < 64) (hx : x ≠ 63) : dd_iv [dd_an 63 x] := by
  have t := (by decide +kernel : ∀ x, x < 64 → x ≠ 63 → 0 < dd_an 63 x ∧ dd_an 63 x < 64 ∧ dd_pc (dd_an 63 x) ≤ 6) x h hx
  refine ⟨fun i hi => ?_, fun i => ?_, ?_⟩
  · have : i = 0 := by simpa using hi
    subst this
    exact t.1
  · cases i with
    | zero => exact t.2.1
    | succ i => simp [dd_g]
  · simpa [dd_ps] using t.2.2
theorem dd_fb_iv {D : List (Nat × Nat × Bool)} {ct x : Nat} (hD : dd_dl D) (hx : x < 64) : dd_iv (dd_fb D ct x) := by
  unfold dd_fb
  apply dd_fo_iv hD
  split
  · exact dd_iv_nil
  · exact dd_iv_one hx (by assumption)
end
section
section
variable {f0_count f0_counting f0_blocks f0_isStudied f0_stemCount f0_keyCount f0_partCount f0_rows : Int32} {a1 a2 a3 a4 a5 a6 a7 a8 a9 a10 a11 a12 a13 a14 : Nat → Int32}
theorem dd_z {a : Nat} (h : a < 2 ^ 31) : nI a = 0 ↔ a = 0 := by rw [← nI_0]; exact nI_eq h (by omega)
theorem dd_31 {a : Nat} (h : a < 64) : a < 2 ^ 31 := Nat.lt_trans h (by decide)
theorem dd_splitBlock {post : Int32 → St2 → Prop} {bl : List Nat} {k w : Nat} (h4 : dd_am a4 bl) (hv : dd_iv bl) (hk : k < bl.length) (hw : w < 64)
    (H0 : dd_g bl k &&& w = 0 ∨ dd_g bl k &&& w = dd_g bl k → post 0 (f0_count, f0_counting, nI bl.length, f0_isStudied, f0_stemCount, f0_keyCount, f0_partCount, f0_rows, a1, a2, a3, a4, a5, a6, a7, a8, a9, a10, a11, a12, a13, a14))
    (H1 : ¬ dd_g bl k &&& w = 0 → ¬ dd_g bl k &&& w = dd_g bl k → ∀ a4', dd_am a4' ((bl ++ [dd_an (dd_g bl k) (dd_g bl k &&& w)]).set k (dd_g bl k &&& w)) → post 1 (f0_count, f0_counting, nI (bl.length + 1), f0_isStudied, f0_stemCount, f0_keyCount, f0_partCount, f0_rows, a1, a2, a3, a4', a5, a6, a7, a8, a9, a10, a11, a12, a13, a14)) :
    wpX_splitBlock post (f0_count, f0_counting, nI bl.length, f0_isStudied, f0_stemCount, f0_keyCount, f0_partCount, f0_rows, a1, a2, a3, a4, a5, a6, a7, a8, a9, a10, a11, a12, a13, a14) (nI k) (nI w) := by
  have h6 := dd_iv_len hv
  have hb : dd_g bl k < 64 := hv.2.1 k
  have e : a4 (nI k).toNatClampNeg = nI (dd_g bl k) := dd_rd h4 rfl hk (by omega)
  have hi : vp_in (nI k) 6 := pk_in k 6 (by omega)
  have hbw := dd_a64 w hb
  unfold wpX_splitBlock
  dsimp only
  rw [e]
  refine ⟨hi, nm_r (dd_and _ _) ?_⟩
  refine ek_if (dd_z (dd_31 hbw)) (fun h => H0 (Or.inl h)) (fun h => ⟨hi, ?_⟩)
  refine ek_if (nI_eq (dd_31 hbw) (dd_31 hb)) (fun h' => H0 (Or.inr h')) (fun h' => ⟨hi, ?_⟩)
  have hv' := dd_iv_len (dd_iv_split hv hk hw h h')
  have hl : bl.length < 6 := by simp at hv'; omega
  exact ⟨pk_in bl.length 6 hl, nm_e ⟨hi, nm_e (nm_r (nI_1 _) (H1 h h' _ (dd_am_set (dd_am_push h4 rfl (by omega) (dd_andn _ _)) rfl (by omega) rfl)))⟩⟩
theorem dd_splitBy_l {post : Int32 → St2 → Prop} {v w N : Nat} (hv : v < 64) (hw : w < 64) : ∀ m k bl any a4, k + m = N → N ≤ bl.length → dd_iv bl → dd_am a4 bl →
    (∀ a4', dd_am a4' (dd_sp v w m k bl any).1 → post (dd_b (dd_sp v w m k bl any).2) (f0_count, f0_counting, nI (dd_sp v w m k bl any).1.length, f0_isStudied, f0_stemCount, f0_keyCount, f0_partCount, f0_rows, a1, a2, a3, a4', a5, a6, a7, a8, a9, a10, a11, a12, a13, a14)) →
    wX_splitBy_11 post (nI v) (nI w) (nI N) (m + 1) (dd_b any) (nI k) f0_count f0_counting (nI bl.length) f0_isStudied f0_stemCount f0_keyCount f0_partCount f0_rows a1 a2 a3 a4 a5 a6 a7 a8 a9 a10 a11 a12 a13 a14 := by
  intro m
  induction m with
  | zero =>
    intro k bl any a4 hk hN hi h4 H
    have h6 := dd_iv_len hi
    exact pk_le N k (fun _ => ⟨dd_nar any, H a4 h4⟩) (fun z => absurd z (by omega))
  | succ m ih =>
    intro k bl any a4 hk hN hi h4 H
    have h6 := dd_iv_len hi
    have hb : dd_g bl k < 64 := hi.2.1 k
    have e : a4 (nI k).toNatClampNeg = nI (dd_g bl k) := dd_rd h4 rfl (by omega) (by omega)
    refine pk_le N k (fun z => absurd z (by omega)) (fun _ => ⟨pk_in k 6 (by omega), ?_⟩)
    refine ek_if (d := dd_g bl k &&& v = 0) (by rw [e, dd_and]; exact dd_z (dd_31 (dd_a64 _ hb))) (fun h => ?_) (fun h => nm_r (nI_1 k) ?_)
    · refine dd_splitBlock h4 hi (by omega) hw (fun h0 => ?_) (fun h0 h1 a4' h4' => ?_)
      · have E : dd_sp v w (m + 1) k bl any = dd_sp v w m (k + 1) bl any := by
          rcases h0 with h0 | h0
          · rw [dd_sp, if_pos h, if_pos h0]
          · rw [dd_sp, if_pos h]
            split
            · rfl
            · rfl
        rw [E] at H
        have IH := ih (k + 1) bl any a4 (by omega) hN hi h4 H
        refine dd_br any (fun ha => br_t rfl (nm_r (nI_1 k) ?_)) (fun ha => nm_r (nI_1 k) ?_)
        · rw [ha] at IH; exact IH
        · rw [ha] at IH; exact IH
      · have E : dd_sp v w (m + 1) k bl any = dd_sp v w m (k + 1) ((bl ++ [dd_an (dd_g bl k) (dd_g bl k &&& w)]).set k (dd_g bl k &&& w)) true := by
          rw [dd_sp, if_pos h, if_neg h0, if_neg h1]
        rw [E] at H
        have IH := ih (k + 1) _ true a4' (by omega) (by simp; omega) (dd_iv_split hi (by omega) hw h0 h1) h4' H
        rw [List.length_set, List.length_append] at IH
        exact dd_br any (fun ha => br_f (by decide) (nm_r (nI_1 k) IH)) (fun ha => nm_r (nI_1 k) IH)
    · have E : dd_sp v w (m + 1) k bl any = dd_sp v w m (k + 1) bl any := by rw [dd_sp, if_neg h]
      rw [E] at H
      exact ih (k + 1) bl any a4 (by omega) hN hi h4 H
theorem dd_splitBy {post : Int32 → St2 → Prop} {v w : Nat} {bl : List Nat} (hv : v < 64) (hw : w < 64) (hi : dd_iv bl) (h4 : dd_am a4 bl)
    (H : ∀ a4', dd_am a4' (dd_sp v w bl.length 0 bl false).1 → post (dd_b (dd_sp v w bl.length 0 bl false).2) (f0_count, f0_counting, nI (dd_sp v w bl.length 0 bl false).1.length, f0_isStudied, f0_stemCount, f0_keyCount, f0_partCount, f0_rows, a1, a2, a3, a4', a5, a6, a7, a8, a9, a10, a11, a12, a13, a14)) :
    wpX_splitBy post (f0_count, f0_counting, nI bl.length, f0_isStudied, f0_stemCount, f0_keyCount, f0_partCount, f0_rows, a1, a2, a3, a4, a5, a6, a7, a8, a9, a10, a11, a12, a13, a14) (nI v) (nI w) :=
  ⟨bl.length + 1, dd_splitBy_l hv hw bl.length 0 bl false a4 (by omega) (Nat.le_refl _) hi h4 H⟩
theorem dd_splitByGiven_l {post : Int32 → St2 → Prop} {D : List (Nat × Nat × Bool)} {d : Nat} (hD : dd_D a1 a2 a3 D) (hd : d < D.length) : ∀ m c bl any a4, c + m = 6 → dd_iv bl → dd_am a4 bl →
    (∀ a4', dd_am a4' (dd_sg (dd_d D d).1 (dd_d D d).2.1 m c bl any).1 → post (dd_b (dd_sg (dd_d D d).1 (dd_d D d).2.1 m c bl any).2) (f0_count, f0_counting, nI (dd_sg (dd_d D d).1 (dd_d D d).2.1 m c bl any).1.length, f0_isStudied, f0_stemCount, f0_keyCount, f0_partCount, f0_rows, a1, a2, a3, a4', a5, a6, a7, a8, a9, a10, a11, a12, a13, a14)) →
    wX_splitByGiven_30 post (nI d) (m + 1) (dd_b any) (nI c) f0_count f0_counting (nI bl.length) f0_isStudied f0_stemCount f0_keyCount f0_partCount f0_rows a1 a2 a3 a4 a5 a6 a7 a8 a9 a10 a11 a12 a13 a14 := by
  obtain ⟨h10, hD⟩ := hD
  obtain ⟨e1, e2, e3, hl, hr⟩ := hD d hd
  have hcl : (nI d).toNatClampNeg = d := nI_clamp (by omega)
  have hin : vp_in (nI d) 10 := pk_in d 10 (by omega)
  generalize (dd_d D d).1 = l at *
  generalize (dd_d D d).2.1 = r at *
  intro m
  induction m with
  | zero =>
    intro c bl any a4 hc hi h4 H
    exact pk_le 6 c (fun _ => ⟨dd_nar any, H a4 h4⟩) (fun z => absurd z (by omega))
  | succ m ih =>
    intro c bl any a4 hc hi h4 H
    refine pk_le 6 c (fun z => absurd z (by omega)) (fun _ => ⟨hin, ?_⟩)
    refine ek_if (d := r.testBit c = true) (by rw [hcl, e2]; exact dd_bit1 (dd_31 hr) (by omega)) (fun h => ⟨hin, ?_⟩) (fun h => nm_r (nI_1 c) ?_)
    · rw [hcl, e1, dd_one c (by omega)]
      rw [dd_sg, if_pos h] at H
      refine dd_splitBy hl (dd_p64 (by omega)) hi h4 (fun a4' h4' => ?_)
      have IH := ih (c + 1) _ _ a4' (by omega) (dd_sp_iv (dd_p64 (by omega)) _ _ _ _ (by omega) hi).1 h4' H
      refine dd_br any (fun ha => dd_br (dd_sp l (2 ^ c) bl.length 0 bl false).2 (fun hb => nm_r (nI_1 c) ?_) (fun hb => nm_r (nI_1 c) ?_)) (fun ha => nm_r (nI_1 c) ?_)
      · rw [ha, hb] at IH; exact IH
      · rw [ha, hb] at IH; exact IH
      · rw [ha] at IH; exact IH
    · rw [dd_sg, if_neg h] at H
      exact ih (c + 1) bl any a4 (by omega) hi h4 H
theorem dd_splitByGiven {post : Int32 → St2 → Prop} {D : List (Nat × Nat × Bool)} {d : Nat} (hD : dd_D a1 a2 a3 D) (hd : d < D.length) {bl : List Nat} (hi : dd_iv bl) (h4 : dd_am a4 bl)
    (H : ∀ a4', dd_am a4' (dd_sd (dd_d D d) bl).1 → post (dd_b (dd_sd (dd_d D d) bl).2) (f0_count, f0_counting, nI (dd_sd (dd_d D d) bl).1.length, f0_isStudied, f0_stemCount, f0_keyCount, f0_partCount, f0_rows, a1, a2, a3, a4', a5, a6, a7, a8, a9, a10, a11, a12, a13, a14)) :
    wpX_splitByGiven post (f0_count, f0_counting, nI bl.length, f0_isStudied, f0_stemCount, f0_keyCount, f0_partCount, f0_rows, a1, a2, a3, a4, a5, a6, a7, a8, a9, a10, a11, a12, a13, a14) (nI d) := by
  have h10 := hD.1
  obtain ⟨e1, e2, e3, hl, hr⟩ := hD.2 d hd
  have hcl : (nI d).toNatClampNeg = d := nI_clamp (by omega)
  have hin : vp_in (nI d) 10 := pk_in d 10 (by omega)
  unfold wpX_splitByGiven
  refine ⟨hin, dd_br (dd_d D d).2.2 (fun h => ?_) (fun h => ⟨hin, hin, ?_⟩) (by rw [hcl, e3])⟩
  · rw [dd_sd, if_neg (by rw [h]; decide)] at H
    exact ⟨7, dd_splitByGiven_l hD hd 6 0 bl false a4 (by omega) hi h4 H⟩
  · rw [dd_sd, if_pos h] at H
    rw [hcl, e1, e2]
    exact dd_splitBy hl hr hi h4 (fun a4' h4' => ⟨dd_nar _, H a4' h4'⟩)
theorem dd_findBasis_i {post : St2 → Prop} {J : Int32 → Int32 → Int32 → Int32 → Int32 → Int32 → Int32 → Int32 → Int32 → Int32 → (Nat → Int32) → (Nat → Int32) → (Nat → Int32) → (Nat → Int32) → (Nat → Int32) → (Nat → Int32) → (Nat → Int32) → (Nat → Int32) → (Nat → Int32) → (Nat → Int32) → (Nat → Int32) → (Nat → Int32) → (Nat → Int32) → (Nat → Int32) → Prop}
    {D : List (Nat × Nat × Bool)} {ct t : Nat} (hD : dd_D a1 a2 a3 D) (hct : ct < 2 ^ 31) : ∀ m k bl more a4, k + m = D.length → dd_iv bl → dd_am a4 bl →
    (∀ a4', dd_am a4' (dd_fi D ct m k bl more).1 → J (dd_b (dd_fi D ct m k bl more).2) (nI (t + 1)) (nI D.length) (nI ct) (nI (dd_fi D ct m k bl more).1.length) f0_isStudied f0_stemCount f0_keyCount f0_partCount f0_rows a1 a2 a3 a4' a5 a6 a7 a8 a9 a10 a11 a12 a13 a14) →
    wX_findBasis_47 post J (nI t) (m + 1) (dd_b more) (nI k) (nI D.length) (nI ct) (nI bl.length) f0_isStudied f0_stemCount f0_keyCount f0_partCount f0_rows a1 a2 a3 a4 a5 a6 a7 a8 a9 a10 a11 a12 a13 a14 := by
  have h10 := hD.1
  intro m
  induction m with
  | zero =>
    intro k bl more a4 hk hi h4 H
    exact pk_le D.length k (fun _ => nm_r (nI_1 t) (H a4 h4)) (fun z => absurd z (by omega))
  | succ m ih =>
    intro k bl more a4 hk hi h4 H
    refine pk_le D.length k (fun z => absurd z (by omega)) (fun _ => ?_)
    refine dd_bb1 ct k (fun h => ?_) (fun h => nm_r (nI_1 k) ?_) hct (by omega)
    · rw [dd_fi, if_pos h] at H
      refine dd_splitByGiven hD (by omega) hi h4 (fun a4' h4' => ?_)
      have IH := ih (k + 1) _ _ a4' (by omega) (dd_sd_iv (hD.2 k (by omega)).2.2.2.2 hi) h4' H
      refine dd_br more (fun ha => dd_br (dd_sd (dd_d D k) bl).2 (fun hb => nm_r (nI_1 k) ?_) (fun hb => nm_r (nI_1 k) ?_)) (fun ha => nm_r (nI_1 k) ?_)
      · rw [ha, hb] at IH; exact IH
      · rw [ha, hb] at IH; exact IH
      · rw [ha] at IH; exact IH
    · rw [dd_fi, if_neg (by rw [h]; decide)] at H
      exact ih (k + 1) bl more a4 (by omega) hi h4 H
theorem dd_findBasis_o {post : St2 → Prop} {D : List (Nat × Nat × Bool)} {ct : Nat} (hD : dd_D a1 a2 a3 D) (hct : ct < 2 ^ 31) : ∀ m t bl a4, t + m = 6 → dd_iv bl → dd_am a4 bl →
    (∀ a4', dd_am a4' (dd_fo D ct m bl) → post (nI D.length, nI ct, nI (dd_fo D ct m bl).length, f0_isStudied, f0_stemCount, f0_keyCount, f0_partCount, f0_rows, a1, a2, a3, a4', a5, a6, a7, a8, a9, a10, a11, a12, a13, a14)) →
    wX_findBasis_32 post (m + 1) 1 (nI t) (nI D.length) (nI ct) (nI bl.length) f0_isStudied f0_stemCount f0_keyCount f0_partCount f0_rows a1 a2 a3 a4 a5 a6 a7 a8 a9 a10 a11 a12 a13 a14 := by
  intro m
  induction m with
  | zero =>
    intro t bl a4 ht hi h4 H
    exact pk_le 6 t (fun _ => H a4 h4) (fun z => absurd z (by omega))
  | succ m ih =>
    intro t bl a4 ht hi h4 H
    refine pk_le 6 t (fun z => absurd z (by omega)) (fun _ => br_f (by decide) ⟨D.length + 1, ?_⟩)
    refine dd_findBasis_i hD hct D.length 0 bl false a4 (by omega) hi h4 (fun a4' h4' => ?_)
    have hi' := dd_fi_iv (ct := ct) (dd_D_dl hD) D.length 0 bl false (by omega) hi
    by_cases hm : (dd_fi D ct D.length 0 bl false).2 = true
    · rw [dd_fo, if_pos hm] at H
      rw [hm]
      exact ih (t + 1) _ a4' (by omega) hi' h4' H
    · rw [dd_fo, if_neg hm] at H
      rw [dd_nt hm]
      cases m with
      | zero => exact pk_le 6 (t + 1) (fun _ => H a4' h4') (fun z => absurd z (by omega))
      | succ m => exact pk_le 6 (t + 1) (fun z => absurd z (by omega)) (fun _ => br_t rfl (H a4' h4'))
theorem dd_findBasis {post : St2 → Prop} {D : List (Nat × Nat × Bool)} {ct x : Nat} (hD : dd_D a1 a2 a3 D) (hct : ct < 2 ^ 31) (hx : x < 64)
    (H : ∀ a4', dd_am a4' (dd_fb D ct x) → post (nI D.length, nI ct, nI (dd_fb D ct x).length, f0_isStudied, f0_stemCount, f0_keyCount, f0_partCount, f0_rows, a1, a2, a3, a4', a5, a6, a7, a8, a9, a10, a11, a12, a13, a14)) :
    wpX_findBasis post (nI D.length, nI ct, f0_blocks, f0_isStudied, f0_stemCount, f0_keyCount, f0_partCount, f0_rows, a1, a2, a3, a4, a5, a6, a7, a8, a9, a10, a11, a12, a13, a14) (nI x) := by
  unfold wpX_findBasis
  refine pk_eq x 63 (fun h => ⟨7, ?_⟩) (fun h => nm_e ⟨7, ?_⟩)
  · rw [dd_fb, if_pos h] at H
    exact dd_findBasis_o hD hct 6 0 [] a4 (by omega) dd_iv_nil dd_am_nil H
  · rw [dd_fb, if_neg h] at H
    exact dd_findBasis_o hD hct 6 0 [dd_an 63 x] _ (by omega) (dd_iv_one hx h) (dd_am_push (L := []) dd_am_nil (x := 0) rfl (by decide) (dd_andn 63 x)) H
end
end
section
section
variable {f0_count f0_counting f0_blocks f0_isStudied f0_stemCount f0_keyCount f0_partCount f0_rows : Int32} {a1 a2 a3 a4 a5 a6 a7 a8 a9 a10 a11 a12 a13 a14 : Nat → Int32}
theorem dd_pm (x : Int32) : x + (-1) = x - 1 := by rw [Int32.sub_eq_add_neg]
theorem dd_lowestOf_l {post : Int32 → Prop} {s : Nat} (hs : s < 64) : ∀ m f, m ≤ 6 → f < 6 → post (nI (dd_lo s m f)) → ∀ x, x = nI m - 1 →
    wX_lowestOf_4 post (nI s) f0_count f0_counting f0_blocks f0_isStudied f0_stemCount f0_keyCount f0_partCount f0_rows a1 a2 a3 a4 a5 a6 a7 a8 a9 a10 a11 a12 a13 a14 (m + 1) (nI f) x := by
  intro m
  induction m with
  | zero =>
    intro f _ _ H x hx
    subst hx
    exact br_t (by decide) H
  | succ m ih =>
    intro f hm hf H x hx
    rw [nI_pred] at hx
    subst hx
    rw [dd_lo] at H
    refine br_f (nI_pos (by omega)) (dd_bb1 s m (fun h => nm_r (dd_pm _) ?_) (fun h => nm_r (dd_pm _) ?_) (dd_31 hs) (by omega))
    · rw [if_pos h] at H
      exact ih m (by omega) (by omega) H _ rfl
    · rw [if_neg (by rw [h]; decide)] at H
      exact ih f (by omega) hf H _ rfl
theorem dd_lo_lt (s : Nat) : ∀ m f, m ≤ 6 → f < 6 → dd_lo s m f < 6 := by
  intro m
  induction m with
  | zero => intro f _ h; exact h
  | succ m ih =>
    intro f hm hf
    rw [dd_lo]
    split
    · exact ih m (by omega) (by omega)
    · exact ih f (by omega) hf
theorem dd_lowestOf {post : Int32 → Prop} {s : Nat} (hs : s < 64) (H : post (nI (dd_lo s 6 0))) : wpX_lowestOf post (f0_count, f0_counting, f0_blocks, f0_isStudied, f0_stemCount, f0_keyCount, f0_partCount, f0_rows, a1, a2, a3, a4, a5, a6, a7, a8, a9, a10, a11, a12, a13, a14) (nI s) :=
  ⟨7, dd_lowestOf_l hs 6 0 (by omega) (by omega) H 5 (by decide)⟩
theorem dd_hi {s c : Nat} (hs : s < 64) (hc : c < 6) : ((nI s >>> (nI c &&& 31)) <<< ((31 : Int32) &&& 31)) = 0 ↔ s.testBit c = false :=
  (by decide +kernel : ∀ s, s < 64 → ∀ c, c < 6 → (((nI s >>> (nI c &&& 31)) <<< ((31 : Int32) &&& 31)) = 0 ↔ s.testBit c = false)) s hs c hc
theorem dd_isDetermined_l {post : Int32 → Prop} {D : List (Nat × Nat × Bool)} {ct c : Nat} (hD : dd_D a1 a2 a3 D) (hct : ct < 2 ^ 31) (hc : c < 6) : ∀ m k any, k + m = D.length →
    post (dd_b (dd_dt D ct c m k any)) → wX_isDetermined_4 post (nI c) (nI D.length) (nI ct) f0_blocks f0_isStudied f0_stemCount f0_keyCount f0_partCount f0_rows a1 a2 a3 a4 a5 a6 a7 a8 a9 a10 a11 a12 a13 a14 (m + 1) (dd_b any) (nI k) := by
  have h10 := hD.1
  intro m
  induction m with
  | zero =>
    intro k any hk H
    exact pk_le D.length k (fun _ => ⟨dd_nar any, H⟩) (fun z => absurd z (by omega))
  | succ m ih =>
    intro k any hk H
    obtain ⟨e1, e2, e3, hl, hr⟩ := hD.2 k (by omega)
    have hcl : (nI k).toNatClampNeg = k := nI_clamp (by omega)
    have hin : vp_in (nI k) 10 := pk_in k 10 (by omega)
    rw [dd_dt] at H
    have IH := ih (k + 1) _ (by omega) H
    have W : ∀ z, z = dd_b ((dd_an (dd_d D k).2.1 (dd_d D k).1).testBit c) → wX_isDetermined_40 post (wX_isDetermined_4 post (nI c) (nI D.length) (nI ct) f0_blocks f0_isStudied f0_stemCount f0_keyCount f0_partCount f0_rows a1 a2 a3 a4 a5 a6 a7 a8 a9 a10 a11 a12 a13 a14 (m + 1)) (nI c) (dd_b any) (nI k) z (nI D.length) (nI ct) f0_blocks f0_isStudied f0_stemCount f0_keyCount f0_partCount f0_rows a1 a2 a3 a4 a5 a6 a7 a8 a9 a10 a11 a12 a13 a14 := by
      intro z hz
      refine dd_br any (fun ha => ?_) (fun ha => nm_r (nI_1 k) (by rw [ha] at IH; exact IH))
      refine dd_bb1 ct k (fun h => ⟨hin, ?_⟩) (fun h => nm_r (nI_1 k) (by rw [ha, h] at IH; exact IH)) hct (by omega)
      refine dd_br (dd_d D k).2.2 (fun hb => ?_) (fun hb => nm_r (nI_1 k) (by rw [ha, h, hb] at IH; exact IH)) (by rw [hcl, e3])
      exact dd_br _ (fun hd => nm_r (nI_1 k) (by rw [ha, h, hb, hd] at IH; exact IH)) (fun hd => nm_r (nI_1 k) (by rw [ha, h, hb, hd] at IH; exact IH)) hz
    refine pk_le D.length k (fun z => absurd z (by omega)) (fun _ => ⟨hin, hin, ?_⟩)
    exact ek_if (d := (dd_an (dd_d D k).2.1 (dd_d D k).1).testBit c = false) (by rw [hcl, e1, e2, dd_andn]; exact dd_hi (dd_n64 _ hr) hc) (fun h => W 0 (by rw [h]; rfl)) (fun h => W 1 (by rw [dd_nf h]; rfl))
theorem dd_isDetermined {post : Int32 → Prop} {D : List (Nat × Nat × Bool)} {ct c : Nat} (hD : dd_D a1 a2 a3 D) (hct : ct < 2 ^ 31) (hc : c < 6)
    (H : post (dd_b (dd_dt D ct c D.length 0 false))) : wpX_isDetermined post (nI D.length, nI ct, f0_blocks, f0_isStudied, f0_stemCount, f0_keyCount, f0_partCount, f0_rows, a1, a2, a3, a4, a5, a6, a7, a8, a9, a10, a11, a12, a13, a14) (nI c) :=
  ⟨D.length + 1, dd_isDetermined_l hD hct hc D.length 0 false (by omega) H⟩
theorem dd_m1 {b : Nat} (h : 0 < b) : nI b - 1 = nI (b - 1) := pk_sub h
theorem dd_closeSet_l {post : Int32 → St2 → Prop} {D : List (Nat × Nat × Bool)} {ct : Nat} {bl : List Nat} (hD : dd_D a1 a2 a3 D) (hct : ct < 2 ^ 31) (hi : dd_iv bl) (h4 : dd_am a4 bl) : ∀ m k out, k + m = bl.length →
    post (nI (dd_cl D ct bl m k out)) (nI D.length, nI ct, nI bl.length, f0_isStudied, f0_stemCount, f0_keyCount, f0_partCount, f0_rows, a1, a2, a3, a4, a5, a6, a7, a8, a9, a10, a11, a12, a13, a14) →
    wX_closeSet_9 post (nI D.length) (nI ct) (nI bl.length) f0_isStudied f0_stemCount f0_keyCount f0_partCount f0_rows a1 a2 a3 a4 a5 a6 a7 a8 a9 a10 a11 a12 a13 a14 (m + 1) (nI out) (nI k) := by
  have h6 := dd_iv_len hi
  intro m
  induction m with
  | zero =>
    intro k out hk H
    exact pk_le bl.length k (fun _ => H) (fun z => absurd z (by omega))
  | succ m ih =>
    intro k out hk H
    have hb : dd_g bl k < 64 := hi.2.1 k
    have hb0 : 0 < dd_g bl k := hi.1 k (by omega)
    have e : a4 (nI k).toNatClampNeg = nI (dd_g bl k) := dd_rd h4 rfl (by omega) (by omega)
    have hin : vp_in (nI k) 6 := pk_in k 6 (by omega)
    rw [dd_cl] at H
    have IH := ih (k + 1) _ (by omega) H
    refine pk_le bl.length k (fun z => absurd z (by omega)) (fun _ => ⟨hin, hin, ?_⟩)
    refine ek_if (d := dd_g bl k &&& (dd_g bl k - 1) = 0) (by rw [e, dd_m1 hb0, dd_and]; exact dd_z (dd_31 (dd_a64 _ hb))) (fun h => ?_) (fun h => ?_)
    · rw [if_pos h] at IH
      refine br_f (by decide) ⟨hin, ?_⟩
      rw [e]
      refine dd_lowestOf hb (dd_isDetermined hD hct (dd_lo_lt _ _ _ (by omega) (by omega)) ?_)
      refine dd_br _ (fun hd => nm_r (nI_1 k) ?_) (fun hd => ⟨hin, nm_r (dd_or _ _) (nm_r (nI_1 k) ?_)⟩)
      · rw [if_neg (by rw [hd]; decide)] at IH
        exact IH
      · rw [if_pos hd] at IH
        exact IH
    · rw [if_neg h] at IH
      exact br_t rfl (nm_r (nI_1 k) IH)
theorem dd_closeSet {post : Int32 → St2 → Prop} {D : List (Nat × Nat × Bool)} {ct x : Nat} (hD : dd_D a1 a2 a3 D) (hct : ct < 2 ^ 31) (hx : x < 64)
    (H : ∀ b a4', post (nI (dd_cs D ct x)) (nI D.length, nI ct, b, f0_isStudied, f0_stemCount, f0_keyCount, f0_partCount, f0_rows, a1, a2, a3, a4', a5, a6, a7, a8, a9, a10, a11, a12, a13, a14)) :
    wpX_closeSet post (nI D.length, nI ct, f0_blocks, f0_isStudied, f0_stemCount, f0_keyCount, f0_partCount, f0_rows, a1, a2, a3, a4, a5, a6, a7, a8, a9, a10, a11, a12, a13, a14) (nI x) := by
  unfold wpX_closeSet
  refine dd_findBasis hD hct hx (fun a4' h4' => ⟨(dd_fb D ct x).length + 1, ?_⟩)
  exact dd_closeSet_l hD hct (dd_fb_iv (dd_D_dl hD) hx) h4' _ 0 x (by omega) (H _ a4')
theorem dd_cl_lt {D : List (Nat × Nat × Bool)} {ct : Nat} {bl : List Nat} (hl : dd_lt 64 bl) : ∀ m k out, out < 64 → dd_cl D ct bl m k out < 64 := by
  intro m
  induction m with
  | zero => intro k out h; exact h
  | succ m ih =>
    intro k out h
    rw [dd_cl]
    split
    · split
      · exact ih _ _ (dd_o64 h (hl k))
      · exact ih _ _ h
    · exact ih _ _ h
theorem dd_cs_lt {D : List (Nat × Nat × Bool)} {ct x : Nat} (hD : dd_dl D) (hx : x < 64) : dd_cs D ct x < 64 := dd_cl_lt (dd_fb_iv hD hx).2.1 _ _ _ hx
end
end
section
section
variable {f0_count f0_counting f0_blocks f0_isStudied f0_stemCount f0_keyCount f0_partCount f0_rows : Int32} {a1 a2 a3 a4 a5 a6 a7 a8 a9 a10 a11 a12 a13 a14 : Nat → Int32}
theorem dd_splitBlock_2 {post : Int32 → St2 → Prop} {bl : List Nat} {k w : Nat} (h4 : dd_am a4 bl) (hv : dd_iv bl) (hk : k < bl.length) (hw : w < 64)
    (H0 : dd_g bl k &&& w = 0 ∨ dd_g bl k &&& w = dd_g bl k → post 0 (f0_count, f0_counting, nI bl.length, f0_isStudied, f0_stemCount, f0_keyCount, f0_partCount, f0_rows, a1, a2, a3, a4, a5, a6, a7, a8, a9, a10, a11, a12, a13, a14))
    (H1 : ¬ dd_g bl k &&& w = 0 → ¬ dd_g bl k &&& w = dd_g bl k → ∀ a4', dd_am a4' ((bl ++ [dd_an (dd_g bl k) (dd_g bl k &&& w)]).set k (dd_g bl k &&& w)) → post 1 (f0_count, f0_counting, nI (bl.length + 1), f0_isStudied, f0_stemCount, f0_keyCount, f0_partCount, f0_rows, a1, a2, a3, a4', a5, a6, a7, a8, a9, a10, a11, a12, a13, a14)) :
    wpX_splitBlock_2 post (f0_count, f0_counting, nI bl.length, f0_isStudied, f0_stemCount, f0_keyCount, f0_partCount, f0_rows, a1, a2, a3, a4, a5, a6, a7, a8, a9, a10, a11, a12, a13, a14) (nI k) (nI w) := by
  have h6 := dd_iv_len hv
  have hb : dd_g bl k < 64 := hv.2.1 k
  have e : a4 (nI k).toNatClampNeg = nI (dd_g bl k) := dd_rd h4 rfl hk (by omega)
  have hi : vp_in (nI k) 6 := pk_in k 6 (by omega)
  have hbw := dd_a64 w hb
  unfold wpX_splitBlock_2
  dsimp only
  rw [e]
  refine ⟨hi, nm_r (dd_and _ _) ?_⟩
  refine ek_if (dd_z (dd_31 hbw)) (fun h => H0 (Or.inl h)) (fun h => ⟨hi, ?_⟩)
  refine ek_if (nI_eq (dd_31 hbw) (dd_31 hb)) (fun h' => H0 (Or.inr h')) (fun h' => ⟨hi, ?_⟩)
  have hv' := dd_iv_len (dd_iv_split hv hk hw h h')
  have hl : bl.length < 6 := by simp at hv'; omega
  exact ⟨pk_in bl.length 6 hl, nm_e ⟨hi, nm_e (nm_r (nI_1 _) (H1 h h' _ (dd_am_set (dd_am_push h4 rfl (by omega) (dd_andn _ _)) rfl (by omega) rfl)))⟩⟩
theorem dd_splitBy_2_l {post : Int32 → St2 → Prop} {v w N : Nat} (hv : v < 64) (hw : w < 64) : ∀ m k bl any a4, k + m = N → N ≤ bl.length → dd_iv bl → dd_am a4 bl →
    (∀ a4', dd_am a4' (dd_sp v w m k bl any).1 → post (dd_b (dd_sp v w m k bl any).2) (f0_count, f0_counting, nI (dd_sp v w m k bl any).1.length, f0_isStudied, f0_stemCount, f0_keyCount, f0_partCount, f0_rows, a1, a2, a3, a4', a5, a6, a7, a8, a9, a10, a11, a12, a13, a14)) →
    wX_splitBy_2_11 post (nI v) (nI w) (nI N) (m + 1) (dd_b any) (nI k) f0_count f0_counting (nI bl.length) f0_isStudied f0_stemCount f0_keyCount f0_partCount f0_rows a1 a2 a3 a4 a5 a6 a7 a8 a9 a10 a11 a12 a13 a14 := by
  intro m
  induction m with
  | zero =>
    intro k bl any a4 hk hN hi h4 H
    have h6 := dd_iv_len hi
    exact pk_le N k (fun _ => ⟨dd_nar any, H a4 h4⟩) (fun z => absurd z (by omega))
  | succ m ih =>
    intro k bl any a4 hk hN hi h4 H
    have h6 := dd_iv_len hi
    have hb : dd_g bl k < 64 := hi.2.1 k
    have e : a4 (nI k).toNatClampNeg = nI (dd_g bl k) := dd_rd h4 rfl (by omega) (by omega)
    refine pk_le N k (fun z => absurd z (by omega)) (fun _ => ⟨pk_in k 6 (by omega), ?_⟩)
    refine ek_if (d := dd_g bl k &&& v = 0) (by rw [e, dd_and]; exact dd_z (dd_31 (dd_a64 _ hb))) (fun h => ?_) (fun h => nm_r (nI_1 k) ?_)
    · refine dd_splitBlock_2 h4 hi (by omega) hw (fun h0 => ?_) (fun h0 h1 a4' h4' => ?_)
      · have E : dd_sp v w (m + 1) k bl any = dd_sp v w m (k + 1) bl any := by
          rcases h0 with h0 | h0
          · rw [dd_sp, if_pos h, if_pos h0]
          · rw [dd_sp, if_pos h]
            split
            · rfl
            · rfl
        rw [E] at H
        have IH := ih (k + 1) bl any a4 (by omega) hN hi h4 H
        refine dd_br any (fun ha => br_t rfl (nm_r (nI_1 k) ?_)) (fun ha => nm_r (nI_1 k) ?_)
        · rw [ha] at IH; exact IH
        · rw [ha] at IH; exact IH
      · have E : dd_sp v w (m + 1) k bl any = dd_sp v w m (k + 1) ((bl ++ [dd_an (dd_g bl k) (dd_g bl k &&& w)]).set k (dd_g bl k &&& w)) true := by
          rw [dd_sp, if_pos h, if_neg h0, if_neg h1]
        rw [E] at H
        have IH := ih (k + 1) _ true a4' (by omega) (by simp; omega) (dd_iv_split hi (by omega) hw h0 h1) h4' H
        rw [List.length_set, List.length_append] at IH
        exact dd_br any (fun ha => br_f (by decide) (nm_r (nI_1 k) IH)) (fun ha => nm_r (nI_1 k) IH)
    · have E : dd_sp v w (m + 1) k bl any = dd_sp v w m (k + 1) bl any := by rw [dd_sp, if_neg h]
      rw [E] at H
      exact ih (k + 1) bl any a4 (by omega) hN hi h4 H
theorem dd_splitBy_2 {post : Int32 → St2 → Prop} {v w : Nat} {bl : List Nat} (hv : v < 64) (hw : w < 64) (hi : dd_iv bl) (h4 : dd_am a4 bl)
    (H : ∀ a4', dd_am a4' (dd_sp v w bl.length 0 bl false).1 → post (dd_b (dd_sp v w bl.length 0 bl false).2) (f0_count, f0_counting, nI (dd_sp v w bl.length 0 bl false).1.length, f0_isStudied, f0_stemCount, f0_keyCount, f0_partCount, f0_rows, a1, a2, a3, a4', a5, a6, a7, a8, a9, a10, a11, a12, a13, a14)) :
    wpX_splitBy_2 post (f0_count, f0_counting, nI bl.length, f0_isStudied, f0_stemCount, f0_keyCount, f0_partCount, f0_rows, a1, a2, a3, a4, a5, a6, a7, a8, a9, a10, a11, a12, a13, a14) (nI v) (nI w) :=
  ⟨bl.length + 1, dd_splitBy_2_l hv hw bl.length 0 bl false a4 (by omega) (Nat.le_refl _) hi h4 H⟩
theorem dd_splitByGiven_2_l {post : Int32 → St2 → Prop} {D : List (Nat × Nat × Bool)} {d : Nat} (hD : dd_D a1 a2 a3 D) (hd : d < D.length) : ∀ m c bl any a4, c + m = 6 → dd_iv bl → dd_am a4 bl →
    (∀ a4', dd_am a4' (dd_sg (dd_d D d).1 (dd_d D d).2.1 m c bl any).1 → post (dd_b (dd_sg (dd_d D d).1 (dd_d D d).2.1 m c bl any).2) (f0_count, f0_counting, nI (dd_sg (dd_d D d).1 (dd_d D d).2.1 m c bl any).1.length, f0_isStudied, f0_stemCount, f0_keyCount, f0_partCount, f0_rows, a1, a2, a3, a4', a5, a6, a7, a8, a9, a10, a11, a12, a13, a14)) →
    wX_splitByGiven_2_30 post (nI d) (m + 1) (dd_b any) (nI c) f0_count f0_counting (nI bl.length) f0_isStudied f0_stemCount f0_keyCount f0_partCount f0_rows a1 a2 a3 a4 a5 a6 a7 a8 a9 a10 a11 a12 a13 a14 := by
  obtain ⟨h10, hD⟩ := hD
  obtain ⟨e1, e2, e3, hl, hr⟩ := hD d hd
  have hcl : (nI d).toNatClampNeg = d := nI_clamp (by omega)
  have hin : vp_in (nI d) 10 := pk_in d 10 (by omega)
  generalize (dd_d D d).1 = l at *
  generalize (dd_d D d).2.1 = r at *
  intro m
  induction m with
  | zero =>
    intro c bl any a4 hc hi h4 H
    exact pk_le 6 c (fun _ => ⟨dd_nar any, H a4 h4⟩) (fun z => absurd z (by omega))
  | succ m ih =>
    intro c bl any a4 hc hi h4 H
    refine pk_le 6 c (fun z => absurd z (by omega)) (fun _ => ⟨hin, ?_⟩)
    refine ek_if (d := r.testBit c = true) (by rw [hcl, e2]; exact dd_bit1 (dd_31 hr) (by omega)) (fun h => ⟨hin, ?_⟩) (fun h => nm_r (nI_1 c) ?_)
    · rw [hcl, e1, dd_one c (by omega)]
      rw [dd_sg, if_pos h] at H
      refine dd_splitBy_2 hl (dd_p64 (by omega)) hi h4 (fun a4' h4' => ?_)
      have IH := ih (c + 1) _ _ a4' (by omega) (dd_sp_iv (dd_p64 (by omega)) _ _ _ _ (by omega) hi).1 h4' H
      refine dd_br any (fun ha => dd_br (dd_sp l (2 ^ c) bl.length 0 bl false).2 (fun hb => nm_r (nI_1 c) ?_) (fun hb => nm_r (nI_1 c) ?_)) (fun ha => nm_r (nI_1 c) ?_)
      · rw [ha, hb] at IH; exact IH
      · rw [ha, hb] at IH; exact IH
      · rw [ha] at IH; exact IH
    · rw [dd_sg, if_neg h] at H
      exact ih (c + 1) bl any a4 (by omega) hi h4 H
theorem dd_splitByGiven_2 {post : Int32 → St2 → Prop} {D : List (Nat × Nat × Bool)} {d : Nat} (hD : dd_D a1 a2 a3 D) (hd : d < D.length) {bl : List Nat} (hi : dd_iv bl) (h4 : dd_am a4 bl)
    (H : ∀ a4', dd_am a4' (dd_sd (dd_d D d) bl).1 → post (dd_b (dd_sd (dd_d D d) bl).2) (f0_count, f0_counting, nI (dd_sd (dd_d D d) bl).1.length, f0_isStudied, f0_stemCount, f0_keyCount, f0_partCount, f0_rows, a1, a2, a3, a4', a5, a6, a7, a8, a9, a10, a11, a12, a13, a14)) :
    wpX_splitByGiven_2 post (f0_count, f0_counting, nI bl.length, f0_isStudied, f0_stemCount, f0_keyCount, f0_partCount, f0_rows, a1, a2, a3, a4, a5, a6, a7, a8, a9, a10, a11, a12, a13, a14) (nI d) := by
  have h10 := hD.1
  obtain ⟨e1, e2, e3, hl, hr⟩ := hD.2 d hd
  have hcl : (nI d).toNatClampNeg = d := nI_clamp (by omega)
  have hin : vp_in (nI d) 10 := pk_in d 10 (by omega)
  unfold wpX_splitByGiven_2
  refine ⟨hin, dd_br (dd_d D d).2.2 (fun h => ?_) (fun h => ⟨hin, hin, ?_⟩) (by rw [hcl, e3])⟩
  · rw [dd_sd, if_neg (by rw [h]; decide)] at H
    exact ⟨7, dd_splitByGiven_2_l hD hd 6 0 bl false a4 (by omega) hi h4 H⟩
  · rw [dd_sd, if_pos h] at H
    rw [hcl, e1, e2]
    exact dd_splitBy_2 hl hr hi h4 (fun a4' h4' => ⟨dd_nar _, H a4' h4'⟩)
theorem dd_findBasis_2_i {post : St2 → Prop} {J : Int32 → Int32 → Int32 → Int32 → Int32 → Int32 → Int32 → Int32 → Int32 → Int32 → (Nat → Int32) → (Nat → Int32) → (Nat → Int32) → (Nat → Int32) → (Nat → Int32) → (Nat → Int32) → (Nat → Int32) → (Nat → Int32) → (Nat → Int32) → (Nat → Int32) → (Nat → Int32) → (Nat → Int32) → (Nat → Int32) → (Nat → Int32) → Prop}
    {D : List (Nat × Nat × Bool)} {ct t : Nat} (hD : dd_D a1 a2 a3 D) (hct : ct < 2 ^ 31) : ∀ m k bl more a4, k + m = D.length → dd_iv bl → dd_am a4 bl →
    (∀ a4', dd_am a4' (dd_fi D ct m k bl more).1 → J (dd_b (dd_fi D ct m k bl more).2) (nI (t + 1)) (nI D.length) (nI ct) (nI (dd_fi D ct m k bl more).1.length) f0_isStudied f0_stemCount f0_keyCount f0_partCount f0_rows a1 a2 a3 a4' a5 a6 a7 a8 a9 a10 a11 a12 a13 a14) →
    wX_findBasis_2_47 post J (nI t) (m + 1) (dd_b more) (nI k) (nI D.length) (nI ct) (nI bl.length) f0_isStudied f0_stemCount f0_keyCount f0_partCount f0_rows a1 a2 a3 a4 a5 a6 a7 a8 a9 a10 a11 a12 a13 a14 := by
  have h10 := hD.1
  intro m
  induction m with
  | zero =>
    intro k bl more a4 hk hi h4 H
    exact pk_le D.length k (fun _ => nm_r (nI_1 t) (H a4 h4)) (fun z => absurd z (by omega))
  | succ m ih =>
    intro k bl more a4 hk hi h4 H
    refine pk_le D.length k (fun z => absurd z (by omega)) (fun _ => ?_)
    refine dd_bb1 ct k (fun h => ?_) (fun h => nm_r (nI_1 k) ?_) hct (by omega)
    · rw [dd_fi, if_pos h] at H
      refine dd_splitByGiven_2 hD (by omega) hi h4 (fun a4' h4' => ?_)
      have IH := ih (k + 1) _ _ a4' (by omega) (dd_sd_iv (hD.2 k (by omega)).2.2.2.2 hi) h4' H
      refine dd_br more (fun ha => dd_br (dd_sd (dd_d D k) bl).2 (fun hb => nm_r (nI_1 k) ?_) (fun hb => nm_r (nI_1 k) ?_)) (fun ha => nm_r (nI_1 k) ?_)
      · rw [ha, hb] at IH; exact IH
      · rw [ha, hb] at IH; exact IH
      · rw [ha] at IH; exact IH
    · rw [dd_fi, if_neg (by rw [h]; decide)] at H
      exact ih (k + 1) bl more a4 (by omega) hi h4 H
theorem dd_findBasis_2_o {post : St2 → Prop} {D : List (Nat × Nat × Bool)} {ct : Nat} (hD : dd_D a1 a2 a3 D) (hct : ct < 2 ^ 31) : ∀ m t bl a4, t + m = 6 → dd_iv bl → dd_am a4 bl →
    (∀ a4', dd_am a4' (dd_fo D ct m bl) → post (nI D.length, nI ct, nI (dd_fo D ct m bl).length, f0_isStudied, f0_stemCount, f0_keyCount, f0_partCount, f0_rows, a1, a2, a3, a4', a5, a6, a7, a8, a9, a10, a11, a12, a13, a14)) →
    wX_findBasis_2_32 post (m + 1) 1 (nI t) (nI D.length) (nI ct) (nI bl.length) f0_isStudied f0_stemCount f0_keyCount f0_partCount f0_rows a1 a2 a3 a4 a5 a6 a7 a8 a9 a10 a11 a12 a13 a14 := by
  intro m
  induction m with
  | zero =>
    intro t bl a4 ht hi h4 H
    exact pk_le 6 t (fun _ => H a4 h4) (fun z => absurd z (by omega))
  | succ m ih =>
    intro t bl a4 ht hi h4 H
    refine pk_le 6 t (fun z => absurd z (by omega)) (fun _ => br_f (by decide) ⟨D.length + 1, ?_⟩)
    refine dd_findBasis_2_i hD hct D.length 0 bl false a4 (by omega) hi h4 (fun a4' h4' => ?_)
    have hi' := dd_fi_iv (ct := ct) (dd_D_dl hD) D.length 0 bl false (by omega) hi
    by_cases hm : (dd_fi D ct D.length 0 bl false).2 = true
    · rw [dd_fo, if_pos hm] at H
      rw [hm]
      exact ih (t + 1) _ a4' (by omega) hi' h4' H
    · rw [dd_fo, if_neg hm] at H
      rw [dd_nt hm]
      cases m with
      | zero => exact pk_le 6 (t + 1) (fun _ => H a4' h4') (fun z => absurd z (by omega))
      | succ m => exact pk_le 6 (t + 1) (fun z => absurd z (by omega)) (fun _ => br_t rfl (H a4' h4'))
theorem dd_findBasis_2 {post : St2 → Prop} {D : List (Nat × Nat × Bool)} {ct x : Nat} (hD : dd_D a1 a2 a3 D) (hct : ct < 2 ^ 31) (hx : x < 64)
    (H : ∀ a4', dd_am a4' (dd_fb D ct x) → post (nI D.length, nI ct, nI (dd_fb D ct x).length, f0_isStudied, f0_stemCount, f0_keyCount, f0_partCount, f0_rows, a1, a2, a3, a4', a5, a6, a7, a8, a9, a10, a11, a12, a13, a14)) :
    wpX_findBasis_2 post (nI D.length, nI ct, f0_blocks, f0_isStudied, f0_stemCount, f0_keyCount, f0_partCount, f0_rows, a1, a2, a3, a4, a5, a6, a7, a8, a9, a10, a11, a12, a13, a14) (nI x) := by
  unfold wpX_findBasis_2
  refine pk_eq x 63 (fun h => ⟨7, ?_⟩) (fun h => nm_e ⟨7, ?_⟩)
  · rw [dd_fb, if_pos h] at H
    exact dd_findBasis_2_o hD hct 6 0 [] a4 (by omega) dd_iv_nil dd_am_nil H
  · rw [dd_fb, if_neg h] at H
    exact dd_findBasis_2_o hD hct 6 0 [dd_an 63 x] _ (by omega) (dd_iv_one hx h) (dd_am_push (L := []) dd_am_nil (x := 0) rfl (by decide) (dd_andn 63 x)) H
theorem dd_closeSet_2_l {post : Int32 → St2 → Prop} {D : List (Nat × Nat × Bool)} {ct : Nat} {bl : List Nat} (hD : dd_D a1 a2 a3 D) (hct : ct < 2 ^ 31) (hi : dd_iv bl) (h4 : dd_am a4 bl) : ∀ m k out, k + m = bl.length →
    post (nI (dd_cl D ct bl m k out)) (nI D.length, nI ct, nI bl.length, f0_isStudied, f0_stemCount, f0_keyCount, f0_partCount, f0_rows, a1, a2, a3, a4, a5, a6, a7, a8, a9, a10, a11, a12, a13, a14) →
    wX_closeSet_2_9 post (nI D.length) (nI ct) (nI bl.length) f0_isStudied f0_stemCount f0_keyCount f0_partCount f0_rows a1 a2 a3 a4 a5 a6 a7 a8 a9 a10 a11 a12 a13 a14 (m + 1) (nI out) (nI k) := by
  have h6 := dd_iv_len hi
  intro m
  induction m with
  | zero =>
    intro k out hk H
    exact pk_le bl.length k (fun _ => H) (fun z => absurd z (by omega))
  | succ m ih =>
    intro k out hk H
    have hb : dd_g bl k < 64 := hi.2.1 k
    have hb0 : 0 < dd_g bl k := hi.1 k (by omega)
    have e : a4 (nI k).toNatClampNeg = nI (dd_g bl k) := dd_rd h4 rfl (by omega) (by omega)
    have hin : vp_in (nI k) 6 := pk_in k 6 (by omega)
    rw [dd_cl] at H
    have IH := ih (k + 1) _ (by omega) H
    refine pk_le bl.length k (fun z => absurd z (by omega)) (fun _ => ⟨hin, hin, ?_⟩)
    refine ek_if (d := dd_g bl k &&& (dd_g bl k - 1) = 0) (by rw [e, dd_m1 hb0, dd_and]; exact dd_z (dd_31 (dd_a64 _ hb))) (fun h => ?_) (fun h => ?_)
    · rw [if_pos h] at IH
      refine br_f (by decide) ⟨hin, ?_⟩
      rw [e]
      refine dd_lowestOf hb (dd_isDetermined hD hct (dd_lo_lt _ _ _ (by omega) (by omega)) ?_)
      refine dd_br _ (fun hd => nm_r (nI_1 k) ?_) (fun hd => ⟨hin, nm_r (dd_or _ _) (nm_r (nI_1 k) ?_)⟩)
      · rw [if_neg (by rw [hd]; decide)] at IH
        exact IH
      · rw [if_pos hd] at IH
        exact IH
    · rw [if_neg h] at IH
      exact br_t rfl (nm_r (nI_1 k) IH)
theorem dd_closeSet_2 {post : Int32 → St2 → Prop} {D : List (Nat × Nat × Bool)} {ct x : Nat} (hD : dd_D a1 a2 a3 D) (hct : ct < 2 ^ 31) (hx : x < 64)
    (H : ∀ b a4', post (nI (dd_cs D ct x)) (nI D.length, nI ct, b, f0_isStudied, f0_stemCount, f0_keyCount, f0_partCount, f0_rows, a1, a2, a3, a4', a5, a6, a7, a8, a9, a10, a11, a12, a13, a14)) :
    wpX_closeSet_2 post (nI D.length, nI ct, f0_blocks, f0_isStudied, f0_stemCount, f0_keyCount, f0_partCount, f0_rows, a1, a2, a3, a4, a5, a6, a7, a8, a9, a10, a11, a12, a13, a14) (nI x) := by
  unfold wpX_closeSet_2
  refine dd_findBasis_2 hD hct hx (fun a4' h4' => ⟨(dd_fb D ct x).length + 1, ?_⟩)
  exact dd_closeSet_2_l hD hct (dd_fb_iv (dd_D_dl hD) hx) h4' _ 0 x (by omega) (H _ a4')
end
end
section
section
variable {f0_count f0_counting f0_blocks f0_isStudied f0_stemCount f0_keyCount f0_partCount f0_rows : Int32} {a1 a2 a3 a4 a5 a6 a7 a8 a9 a10 a11 a12 a13 a14 : Nat → Int32}
theorem dd_within {post : Int32 → Prop} {x y : Nat} {u : St2} (hx : x < 64) (H : post (dd_b (dd_w x y))) : wpX_within post u (nI x) (nI y) := by
  obtain ⟨f0_count, f0_counting, f0_blocks, f0_isStudied, f0_stemCount, f0_keyCount, f0_partCount, f0_rows, a1, a2, a3, a4, a5, a6, a7, a8, a9, a10, a11, a12, a13, a14⟩ := u
  unfold wpX_within
  have e : nI x &&& (nI y ^^^ (-1)) = 0 ↔ dd_w x y = true := by
    rw [dd_andn, dd_z (dd_31 (dd_n64 _ hx)), dd_w, beq_iff_eq]
  exact ek_if e (fun h => by rw [h] at H; exact H) (fun h => by rw [dd_nt h] at H; exact H)
theorem dd_ci_lt {cl : Nat → Nat} {S : List Nat} (hc : ∀ x, cl x < 64) : ∀ m k out, out < 64 → dd_ci cl S m k out < 64 := by
  intro m
  induction m with
  | zero => intro k out h; exact h
  | succ m ih =>
    intro k out h
    rw [dd_ci]
    split
    · split
      · exact ih _ _ h
      · exact ih _ _ (dd_o64 h (hc _))
    · exact ih _ _ h
theorem dd_co_lt {cl : Nat → Nat} {S : List Nat} (hc : ∀ x, cl x < 64) : ∀ m out, out < 64 → dd_co cl S m out < 64 := by
  intro m
  induction m with
  | zero => intro out h; exact h
  | succ m ih =>
    intro out h
    rw [dd_co]
    split
    · exact h
    · exact ih _ (dd_ci_lt hc _ _ _ h)
theorem dd_closedByStems_i {post : Int32 → Prop} {J : Int32 → Int32 → Int32 → Prop} {cl : Nat → Nat} {S : List Nat} {t bf : Nat} (hc : ∀ x, cl x < 64) (h5 : ∀ x, x < 64 → a5 x = nI (cl x)) (hS : dd_lt 64 S) (h6 : dd_am a6 S) (hl : S.length ≤ 64) (hbf : bf < 64) : ∀ m k out, k + m = S.length → out < 64 →
    J (nI (dd_ci cl S m k out)) (dd_b (!(dd_ci cl S m k out == bf))) (nI (t + 1)) →
    wX_closedByStems_24 post J (nI t) (nI bf) f0_count f0_counting f0_blocks f0_isStudied (nI S.length) f0_keyCount f0_partCount f0_rows a1 a2 a3 a4 a5 a6 a7 a8 a9 a10 a11 a12 a13 a14 (m + 1) (nI out) (nI k) := by
  intro m
  induction m with
  | zero =>
    intro k out hk ho H
    rw [dd_ci] at H
    refine pk_le S.length k (fun _ => pk_eq out bf (fun h => nm_r (nI_1 t) ?_) (fun h => nm_r (nI_1 t) ?_)) (fun z => absurd z (by omega))
    · rw [beq_iff_eq.mpr h] at H; exact H
    · rw [beq_eq_false_iff_ne.mpr h] at H; exact H
  | succ m ih =>
    intro k out hk ho H
    have hs : dd_g S k < 64 := hS k
    have e : a6 (nI k).toNatClampNeg = nI (dd_g S k) := dd_rd h6 rfl (by omega) (by omega)
    have hin : vp_in (nI k) 64 := pk_in k 64 (by omega)
    rw [dd_ci] at H
    have IH := ih (k + 1) _ (by omega) (by
      split
      · split
        · exact ho
        · exact dd_o64 ho (hc _)
      · exact ho) H
    refine pk_le S.length k (fun z => absurd z (by omega)) (fun _ => ⟨hin, ?_⟩)
    rw [e]
    refine dd_within hs ?_
    refine dd_br _ (fun h => br_t rfl (nm_r (nI_1 k) ?_)) (fun h => ⟨hin, ?_⟩)
    · rw [if_neg (by rw [h]; decide)] at IH; exact IH
    · rw [if_pos h] at IH
      refine pk_eq (dd_g S k) out (fun h' => br_t rfl (nm_r (nI_1 k) ?_)) (fun h' => br_f (by decide) ⟨hin, ?_⟩)
      · rw [if_pos h'] at IH; exact IH
      · rw [if_neg h'] at IH
        refine ⟨pk_in (dd_g S k) 64 hs e, nm_r ?_ (nm_r (nI_1 k) IH)⟩
        rw [e, nI_clamp (dd_31 hs), h5 _ hs, dd_or]
theorem dd_closedByStems_o {post : Int32 → Prop} {cl : Nat → Nat} {S : List Nat} (hc : ∀ x, cl x < 64) (h5 : ∀ x, x < 64 → a5 x = nI (cl x)) (hS : dd_lt 64 S) (h6 : dd_am a6 S) (hl : S.length ≤ 64) : ∀ m t out, t + m = 7 → out < 64 →
    post (nI (dd_co cl S m out)) → wX_closedByStems_7 post f0_count f0_counting f0_blocks f0_isStudied (nI S.length) f0_keyCount f0_partCount f0_rows a1 a2 a3 a4 a5 a6 a7 a8 a9 a10 a11 a12 a13 a14 (m + 1) (nI out) 1 (nI t) := by
  intro m
  induction m with
  | zero =>
    intro t out ht ho H
    exact pk_le 7 t (fun _ => H) (fun z => absurd z (by omega))
  | succ m ih =>
    intro t out ht ho H
    refine pk_le 7 t (fun z => absurd z (by omega)) (fun _ => br_f (by decide) ⟨S.length + 1, ?_⟩)
    refine dd_closedByStems_i hc h5 hS h6 hl ho S.length 0 out (by omega) ho ?_
    rw [dd_co] at H
    by_cases h : dd_ci cl S S.length 0 out = out
    · rw [if_pos h] at H
      rw [h, beq_self_eq_true]
      exact pk_le 7 (t + 1) (fun _ => H) (fun z => br_t rfl H)
    · rw [if_neg h] at H
      rw [beq_eq_false_iff_ne.mpr h]
      exact ih (t + 1) _ (by omega) (dd_ci_lt hc _ _ _ ho) H
theorem dd_closedByStems {post : Int32 → Prop} {cl : Nat → Nat} {S : List Nat} {x : Nat} (hc : ∀ x, cl x < 64) (h5 : ∀ x, x < 64 → a5 x = nI (cl x)) (hS : dd_lt 64 S) (h6 : dd_am a6 S) (hl : S.length ≤ 64) (hx : x < 64)
    (H : post (nI (dd_co cl S 7 x))) : wpX_closedByStems post (f0_count, f0_counting, f0_blocks, f0_isStudied, nI S.length, f0_keyCount, f0_partCount, f0_rows, a1, a2, a3, a4, a5, a6, a7, a8, a9, a10, a11, a12, a13, a14) (nI x) :=
  ⟨8, dd_closedByStems_o hc h5 hS h6 hl 7 0 x (by omega) hx H⟩
def dd_o (x : Option Nat) : Int32 := match x with
  | none => -1
  | some y => nI y
theorem dd_one1 {c : Nat} (h : c < 6) : (1 : Int32) <<< (nI c &&& 31) - 1 = nI (2 ^ c - 1) := (by decide +kernel : ∀ c, c < 6 → (1 : Int32) <<< (nI c &&& 31) - 1 = nI (2 ^ c - 1)) c h
theorem dd_nextSet_l {post : Int32 → Prop} {cl : Nat → Nat} {S : List Nat} {x : Nat} (hc : ∀ x, cl x < 64) (h5 : ∀ x, x < 64 → a5 x = nI (cl x)) (hS : dd_lt 64 S) (h6 : dd_am a6 S) (hl : S.length ≤ 64) (hx : x < 64) : ∀ m, m ≤ 6 →
    post (dd_o (dd_nx cl S x m)) → ∀ y, y = nI m - 1 → wX_nextSet_2 post (nI x) f0_count f0_counting f0_blocks f0_isStudied (nI S.length) f0_keyCount f0_partCount f0_rows a1 a2 a3 a4 a5 a6 a7 a8 a9 a10 a11 a12 a13 a14 (m + 1) y := by
  intro m
  induction m with
  | zero =>
    intro _ H y hy
    subst hy
    exact br_t (by decide) H
  | succ m ih =>
    intro hm H y hy
    rw [nI_pred] at hy
    subst hy
    rw [dd_nx] at H
    refine br_f (nI_pos (by omega)) (dd_bb0 x m (fun h => ?_) (fun h => nm_r (dd_pm _) ?_) (dd_31 hx) (by omega))
    · rw [if_pos h] at H
      refine nm_r (dd_one1 (by omega)) ?_
      have hm6 : 2 ^ m < 64 := dd_p64 (by omega)
      have hz : (x &&& (2 ^ m - 1)) ||| 2 ^ m < 64 := dd_o64 (dd_a64 _ hx) hm6
      rw [dd_one m (by omega), dd_and, dd_or]
      refine dd_closedByStems hc h5 hS h6 hl hz ?_
      have hr : dd_co cl S 7 ((x &&& (2 ^ m - 1)) ||| 2 ^ m) < 64 := dd_co_lt hc _ _ hz
      refine ek_if (d := dd_co cl S 7 ((x &&& (2 ^ m - 1)) ||| 2 ^ m) &&& (2 ^ m - 1) = x &&& (2 ^ m - 1)) (by rw [dd_and]; exact nI_eq (dd_31 (dd_a64 _ hr)) (dd_31 (dd_a64 _ hx))) (fun h' => ?_) (fun h' => nm_r (dd_pm _) ?_)
      · rw [if_pos h'] at H; exact H
      · rw [if_neg h'] at H; exact ih (by omega) H _ rfl
    · rw [if_neg (by rw [h]; decide)] at H
      exact ih (by omega) H _ rfl
theorem dd_nextSet {post : Int32 → Prop} {cl : Nat → Nat} {S : List Nat} {x : Nat} (hc : ∀ x, cl x < 64) (h5 : ∀ x, x < 64 → a5 x = nI (cl x)) (hS : dd_lt 64 S) (h6 : dd_am a6 S) (hl : S.length ≤ 64) (hx : x < 64)
    (H : post (dd_o (dd_nx cl S x 6))) : wpX_nextSet post (f0_count, f0_counting, f0_blocks, f0_isStudied, nI S.length, f0_keyCount, f0_partCount, f0_rows, a1, a2, a3, a4, a5, a6, a7, a8, a9, a10, a11, a12, a13, a14) (nI x) :=
  ⟨7, dd_nextSet_l hc h5 hS h6 hl hx 6 (by omega) H 5 (by decide)⟩
theorem dd_nx_lt {cl : Nat → Nat} {S : List Nat} {x : Nat} (hc : ∀ x, cl x < 64) (hx : x < 64) : ∀ m, m ≤ 6 → ∀ y, dd_nx cl S x m = some y → y < 64 := by
  intro m
  induction m with
  | zero => intro _ y h; exact absurd h (by simp [dd_nx])
  | succ m ih =>
    intro hm y h
    rw [dd_nx] at h
    split at h
    · split at h
      · have hm6 : 2 ^ m < 64 := dd_p64 (by omega)
        have := dd_co_lt (S := S) hc 7 _ (dd_o64 (dd_a64 (2 ^ m - 1) hx) hm6)
        injection h with h
        omega
      · exact ih (by omega) y h
    · exact ih (by omega) y h
def dd_bm (a : Nat → Int32) (M : Nat) : Prop := ∀ y, y < 64 → a y = dd_b (M.testBit y)
theorem dd_bm_set {a : Nat → Int32} {M x : Nat} {i : Int32} (h : dd_bm a M) (hx : x < 64) (hi : i = nI x) : dd_bm (upd a i.toNatClampNeg 1) (M ||| 2 ^ x) := by
  intro y hy
  rw [hi, nI_clamp (dd_31 hx), Nat.testBit_or, Nat.testBit_two_pow]
  by_cases e : y = x
  · rw [e, pk_us]
    simp [dd_b]
  · rw [pk_un e, h y hy]
    have : ¬ x = y := fun z => e z.symm
    simp [this]
theorem dd_findStems_l {post : St2 → Prop} {cl : Nat → Nat} (hc : ∀ x, cl x < 64) (h5 : ∀ x, x < 64 → a5 x = nI (cl x)) : ∀ m i x S M a6 a7, i + m = 64 → S.length ≤ i → dd_lt 64 S → dd_am a6 S → dd_bm a7 M → (∀ y, x = some y → y < 64) →
    (∀ a6' a7', dd_bm a7' (dd_fs cl m x S M).2 → post (f0_count, f0_counting, f0_blocks, f0_isStudied, nI (dd_fs cl m x S M).1.length, f0_keyCount, f0_partCount, f0_rows, a1, a2, a3, a4, a5, a6', a7', a8, a9, a10, a11, a12, a13, a14)) →
    wX_findStems_34 post f0_count f0_counting f0_blocks f0_isStudied f0_keyCount f0_partCount f0_rows (m + 1) (dd_o x) (nI i) (nI S.length) a1 a2 a3 a4 a5 a6 a7 a8 a9 a10 a11 a12 a13 a14 := by
  intro m
  induction m with
  | zero =>
    intro i x S M a6 a7 hi hl hS h6 h7 hx H
    exact pk_le 64 i (fun _ => H a6 a7 h7) (fun z => absurd z (by omega))
  | succ m ih =>
    intro i x S M a6 a7 hi hl hS h6 h7 hx H
    refine pk_le 64 i (fun z => absurd z (by omega)) (fun _ => ?_)
    cases x with
    | none => exact br_t rfl (H a6 a7 h7)
    | some x =>
      have hx' : x < 64 := hx x rfl
      have hin : vp_in (nI x) 64 := pk_in x 64 hx'
      have hn : ¬ nI x = -1 := (by decide +kernel : ∀ x, x < 64 → ¬ nI x = -1) x hx'
      refine br_f hn ⟨hin, ?_⟩
      rw [dd_fs] at H
      have nxt : ∀ (S : List Nat) (M : Nat) (a6 a7 : Nat → Int32), S.length ≤ i + 1 → dd_lt 64 S → dd_am a6 S → dd_bm a7 M →
          (∀ a6' a7', dd_bm a7' (dd_fs cl m (if x = 63 then none else dd_nx cl S x 6) S M).2 → post (f0_count, f0_counting, f0_blocks, f0_isStudied, nI (dd_fs cl m (if x = 63 then none else dd_nx cl S x 6) S M).1.length, f0_keyCount, f0_partCount, f0_rows, a1, a2, a3, a4, a5, a6', a7', a8, a9, a10, a11, a12, a13, a14)) →
          wX_findStems_82 post (wX_findStems_34 post f0_count f0_counting f0_blocks f0_isStudied f0_keyCount f0_partCount f0_rows (m + 1)) (nI x) (nI i) f0_count f0_counting f0_blocks f0_isStudied (nI S.length) f0_keyCount f0_partCount f0_rows a1 a2 a3 a4 a5 a6 a7 a8 a9 a10 a11 a12 a13 a14 := by
        intro S M a6 a7 hl hS h6 h7 H
        refine pk_eq x 63 (fun h => nm_r (nI_1 i) ?_) (fun h => ?_)
        · rw [if_pos h] at H
          exact ih (i + 1) none S M a6 a7 (by omega) hl hS h6 h7 (fun y hy => absurd hy (by simp)) H
        · rw [if_neg h] at H
          refine dd_nextSet hc h5 hS h6 (by omega) hx' (nm_r (nI_1 i) ?_)
          exact ih (i + 1) _ S M a6 a7 (by omega) hl hS h6 h7 (fun y hy => dd_nx_lt hc hx' 6 (by omega) y hy) H
      refine ek_if (d := cl x = x) (by show a5 (nI x).toNatClampNeg = nI x ↔ _; rw [nI_clamp (dd_31 hx'), h5 x hx']; exact nI_eq (dd_31 (hc x)) (dd_31 hx')) (fun h => ?_) (fun h => ⟨hin, nm_e ⟨pk_in S.length 64 (by omega), nm_e (nm_r (nI_1 _) ?_)⟩⟩)
      · rw [if_pos h] at H
        exact nxt S M a6 a7 (by omega) hS h6 h7 H
      · rw [if_neg h] at H
        have := nxt (S ++ [x]) (M ||| 2 ^ x) _ _ (by simp; omega) (dd_lt_push hS hx') (dd_am_push h6 rfl (by omega) rfl) (dd_bm_set h7 hx' rfl) H
        rw [List.length_append] at this
        exact this
theorem dd_findStems_c {post : St2 → Prop} {cl : Nat → Nat} (hc : ∀ x, cl x < 64) (h5 : ∀ x, x < 64 → a5 x = nI (cl x))
    (H : ∀ a6' a7', dd_bm a7' (dd_fs cl 64 (some (dd_co cl [] 7 0)) [] 0).2 → post (f0_count, f0_counting, f0_blocks, f0_isStudied, nI (dd_fs cl 64 (some (dd_co cl [] 7 0)) [] 0).1.length, f0_keyCount, f0_partCount, f0_rows, a1, a2, a3, a4, a5, a6', a7', a8, a9, a10, a11, a12, a13, a14)) : ∀ m k a7, k + m = 64 → (∀ y, y < k → a7 y = 0) →
    wX_findStems_7 post f0_count f0_counting f0_blocks f0_isStudied (nI 0) f0_keyCount f0_partCount f0_rows (m + 1) (nI k) a1 a2 a3 a4 a5 a6 a7 a8 a9 a10 a11 a12 a13 a14 := by
  intro m
  induction m with
  | zero =>
    intro k a7 hk h7
    refine pk_le 64 k (fun _ => ?_) (fun z => absurd z (by omega))
    refine dd_closedByStems (S := []) hc h5 (dd_lt_nil (by omega)) dd_am_nil (by simp) (x := 0) (by omega) ⟨65, ?_⟩
    refine dd_findStems_l hc h5 64 0 (some (dd_co cl [] 7 0)) [] 0 a6 a7 (by omega) (by simp) (dd_lt_nil (by omega)) dd_am_nil (fun y hy => ?_) (fun y hy => ?_) H
    · rw [h7 y (by omega), Nat.zero_testBit]; rfl
    · injection hy with hy
      rw [← hy]
      exact dd_co_lt hc _ _ (by omega)
  | succ m ih =>
    intro k a7 hk h7
    refine pk_le 64 k (fun z => absurd z (by omega)) (fun _ => ⟨pk_in k 64 (by omega), nm_e (nm_r (nI_1 k) ?_)⟩)
    refine ih (k + 1) _ (by omega) (fun y hy => ?_)
    rw [nI_clamp (by omega)]
    by_cases e : y = k
    · rw [e, pk_us]
    · rw [pk_un e, h7 y (by omega)]
theorem dd_findStems {post : St2 → Prop} {cl : Nat → Nat} (hc : ∀ x, cl x < 64) (h5 : ∀ x, x < 64 → a5 x = nI (cl x))
    (H : ∀ a6' a7', dd_bm a7' (dd_fs cl 64 (some (dd_co cl [] 7 0)) [] 0).2 → post (f0_count, f0_counting, f0_blocks, f0_isStudied, nI (dd_fs cl 64 (some (dd_co cl [] 7 0)) [] 0).1.length, f0_keyCount, f0_partCount, f0_rows, a1, a2, a3, a4, a5, a6', a7', a8, a9, a10, a11, a12, a13, a14)) :
    wpX_findStems post (f0_count, f0_counting, f0_blocks, f0_isStudied, f0_stemCount, f0_keyCount, f0_partCount, f0_rows, a1, a2, a3, a4, a5, a6, a7, a8, a9, a10, a11, a12, a13, a14) :=
  ⟨65, dd_findStems_c hc h5 H 64 0 a7 (by omega) (fun y hy => absurd hy (by omega))⟩
end
end
section
section
variable {f0_count f0_counting f0_blocks f0_isStudied f0_stemCount f0_keyCount f0_partCount f0_rows : Int32} {a1 a2 a3 a4 a5 a6 a7 a8 a9 a10 a11 a12 a13 a14 : Nat → Int32}
theorem dd_reduced_l {post : Int32 → Prop} {cl : Nat → Nat} (hc : ∀ x, cl x < 64) (h5 : ∀ x, x < 64 → a5 x = nI (cl x)) : ∀ m out, m ≤ 6 → out < 64 →
    post (nI (dd_re cl m out)) → ∀ y, y = nI m - 1 → wX_reduced_4 post f0_count f0_counting f0_blocks f0_isStudied f0_stemCount f0_keyCount f0_partCount f0_rows a1 a2 a3 a4 a5 a6 a7 a8 a9 a10 a11 a12 a13 a14 (m + 1) (nI out) y := by
  intro m
  induction m with
  | zero =>
    intro out _ _ H y hy
    subst hy
    exact br_t (by decide) H
  | succ m ih =>
    intro out hm ho H y hy
    rw [nI_pred] at hy
    subst hy
    rw [dd_re] at H
    have hl : dd_an out (2 ^ m) < 64 := dd_n64 _ ho
    refine br_f (nI_pos (by omega)) (nm_r (by rw [dd_one m (by omega), dd_andn]) ⟨pk_in _ 64 hl, ?_⟩)
    refine ek_if (d := cl (dd_an out (2 ^ m)) = 63) (by rw [nI_clamp (dd_31 hl), h5 _ hl]; exact nI_eq (b := 63) (dd_31 (hc _)) (by omega)) (fun h => nm_r (dd_pm _) ?_) (fun h => nm_r (dd_pm _) ?_)
    · rw [if_pos h] at H; exact ih _ (by omega) hl H _ rfl
    · rw [if_neg h] at H; exact ih _ (by omega) ho H _ rfl
theorem dd_re_lt {cl : Nat → Nat} : ∀ m out, out < 64 → dd_re cl m out < 64 := by
  intro m
  induction m with
  | zero => intro out h; exact h
  | succ m ih =>
    intro out h
    rw [dd_re]
    split
    · exact ih _ (dd_n64 _ h)
    · exact ih _ h
theorem dd_reduced {post : Int32 → Prop} {cl : Nat → Nat} {x : Nat} (hc : ∀ x, cl x < 64) (h5 : ∀ x, x < 64 → a5 x = nI (cl x)) (hx : x < 64)
    (H : post (nI (dd_re cl 6 x))) : wpX_reduced post (f0_count, f0_counting, f0_blocks, f0_isStudied, f0_stemCount, f0_keyCount, f0_partCount, f0_rows, a1, a2, a3, a4, a5, a6, a7, a8, a9, a10, a11, a12, a13, a14) (nI x) :=
  ⟨7, dd_reduced_l hc h5 6 x (by omega) hx H 5 (by decide)⟩
theorem dd_hasKeyWithin_l {post : Int32 → Prop} {K : List Nat} {x : Nat} (hK : dd_lt 64 K) (h8 : dd_am a8 K) (hl : K.length ≤ 20) : ∀ m k any, k + m = K.length →
    post (dd_b (dd_hk K x m k any)) → wX_hasKeyWithin_4 post (nI x) f0_count f0_counting f0_blocks f0_isStudied f0_stemCount (nI K.length) f0_partCount f0_rows a1 a2 a3 a4 a5 a6 a7 a8 a9 a10 a11 a12 a13 a14 (m + 1) (dd_b any) (nI k) := by
  intro m
  induction m with
  | zero =>
    intro k any hk H
    exact pk_le K.length k (fun _ => ⟨dd_nar any, H⟩) (fun z => absurd z (by omega))
  | succ m ih =>
    intro k any hk H
    have e : a8 (nI k).toNatClampNeg = nI (dd_g K k) := dd_rd h8 rfl (by omega) (by omega)
    rw [dd_hk] at H
    have IH := ih (k + 1) _ (by omega) H
    refine pk_le K.length k (fun z => absurd z (by omega)) (fun _ => dd_br any (fun ha => ⟨pk_in k 20 (by omega), ?_⟩) (fun ha => nm_r (nI_1 k) ?_))
    · rw [e]
      refine dd_within (hK k) (dd_br _ (fun h => nm_r (nI_1 k) ?_) (fun h => nm_r (nI_1 k) ?_))
      · rw [ha, h] at IH; exact IH
      · rw [ha, h] at IH; exact IH
    · rw [ha] at IH; exact IH
theorem dd_hasKeyWithin {post : Int32 → Prop} {K : List Nat} {x : Nat} (hK : dd_lt 64 K) (h8 : dd_am a8 K) (hl : K.length ≤ 20)
    (H : post (dd_b (dd_hk K x K.length 0 false))) : wpX_hasKeyWithin post (f0_count, f0_counting, f0_blocks, f0_isStudied, f0_stemCount, nI K.length, f0_partCount, f0_rows, a1, a2, a3, a4, a5, a6, a7, a8, a9, a10, a11, a12, a13, a14) (nI x) :=
  ⟨K.length + 1, dd_hasKeyWithin_l hK h8 hl K.length 0 false (by omega) H⟩
/-- all places but i -/
def dd_ho (a : Nat → Int32) (K : List Nat) (i : Nat) : Prop := ∀ j, j < K.length → j ≠ i → a j = nI (dd_g K j)
theorem dd_ho_fill {a : Nat → Int32} {K : List Nat} {i w : Nat} {x : Int32} (h : dd_ho a K i) (hx : x = nI i) (hi : i < 2 ^ 31) : dd_am (upd a x.toNatClampNeg (nI w)) (K.set i w) := by
  intro j hj
  rw [List.length_set] at hj
  rw [hx, nI_clamp hi, dd_g_set]
  by_cases e : j = i
  · subst e
    rw [pk_us, if_pos ⟨rfl, hj⟩]
  · rw [pk_un e, h j hj e, if_neg (fun z => e z.1)]
theorem dd_ho_move {a : Nat → Int32} {K : List Nat} {i : Nat} {x v : Int32} (h : dd_ho a K (i + 1)) (hx : x = nI (i + 1)) (hi : i + 1 < 2 ^ 31) (hv : v = nI (dd_g K i)) : dd_ho (upd a x.toNatClampNeg v) (K.set (i + 1) (dd_g K i)) i := by
  intro j hj hji
  rw [List.length_set] at hj
  rw [hx, nI_clamp hi, dd_g_set, hv]
  by_cases e : j = i + 1
  · subst e
    rw [pk_us, if_pos ⟨rfl, hj⟩]
  · rw [pk_un e, h j hj e, if_neg (fun z => e z.1)]
theorem dd_addKey_l {post : St2 → Prop} {x n : Nat} (hx : x < 64) : ∀ i K a8, i < K.length → K.length ≤ 20 → dd_lt 64 K → dd_ho a8 K i →
    (∀ a8', dd_am a8' (dd_ak x i K) → post (f0_count, f0_counting, f0_blocks, f0_isStudied, f0_stemCount, nI (n + 1), f0_partCount, f0_rows, a1, a2, a3, a4, a5, a6, a7, a8', a9, a10, a11, a12, a13, a14)) →
    wX_addKey_10 post (nI x) f0_count f0_counting f0_blocks f0_isStudied f0_stemCount (nI n) f0_partCount f0_rows (i + 1) (nI i) (nI i) a1 a2 a3 a4 a5 a6 a7 a8 a9 a10 a11 a12 a13 a14 := by
  intro i
  induction i with
  | zero =>
    intro K a8 hi hl hK h8 H
    exact br_t (by decide) ⟨pk_in 0 20 (by omega), nm_e (nm_r (nI_1 n) (H _ (dd_ho_fill h8 rfl (by omega))))⟩
  | succ i ih =>
    intro K a8 hi hl hK h8 H
    have e : a8 (nI (i + 1) - 1).toNatClampNeg = nI (dd_g K i) := by
      rw [nI_pred, nI_clamp (by omega), h8 i (by omega) (by omega)]
    have hin : vp_in (nI (i + 1) - 1) 20 := pk_in i 20 (by omega) (nI_pred i)
    rw [dd_ak] at H
    refine br_f (nI_nle (by omega) (by omega)) ⟨hin, ?_⟩
    refine ek_if (d := dd_g K i ≤ x) (by rw [e]; exact nI_leI (dd_31 (hK i)) (dd_31 hx)) (fun h => ?_) (fun h => ⟨hin, pk_in (i + 1) 20 (by omega), nm_e (nm_r (nI_pred i) (nm_r (pk_m1 i) ?_))⟩)
    · rw [if_neg (by omega)] at H
      exact ⟨pk_in (i + 1) 20 (by omega), nm_e (nm_r (nI_1 n) (H _ (dd_ho_fill h8 rfl (by omega))))⟩
    · rw [if_pos (by omega)] at H
      exact ih _ _ (by simp; omega) (by simp; omega) (dd_lt_set hK (hK i)) (dd_ho_move h8 rfl (by omega) e) H
theorem dd_ak_len (x : Nat) : ∀ i K, (dd_ak x i K).length = K.length := by
  intro i
  induction i with
  | zero => intro K; simp [dd_ak]
  | succ i ih =>
    intro K
    rw [dd_ak]
    split
    · rw [ih]; simp
    · simp
theorem dd_ak_lt {x : Nat} (hx : x < 64) : ∀ i K, dd_lt 64 K → dd_lt 64 (dd_ak x i K) := by
  intro i
  induction i with
  | zero => intro K h; rw [dd_ak]; exact dd_lt_set h hx
  | succ i ih =>
    intro K h
    rw [dd_ak]
    split
    · exact ih _ (dd_lt_set h (h i))
    · exact dd_lt_set h hx
theorem dd_addKey {post : St2 → Prop} {x : Nat} {K : List Nat} (hx : x < 64) (hl : K.length < 20) (hK : dd_lt 64 K) (h8 : dd_am a8 K)
    (H : ∀ a8', dd_am a8' (dd_ak x K.length (K ++ [0])) → post (f0_count, f0_counting, f0_blocks, f0_isStudied, f0_stemCount, nI (K.length + 1), f0_partCount, f0_rows, a1, a2, a3, a4, a5, a6, a7, a8', a9, a10, a11, a12, a13, a14)) :
    wpX_addKey post (f0_count, f0_counting, f0_blocks, f0_isStudied, f0_stemCount, nI K.length, f0_partCount, f0_rows, a1, a2, a3, a4, a5, a6, a7, a8, a9, a10, a11, a12, a13, a14) (nI x) := by
  refine ⟨K.length + 1, dd_addKey_l hx K.length (K ++ [0]) a8 (by simp) (by simp; omega) (dd_lt_push hK (by omega)) (fun j hj hji => ?_) H⟩
  rw [List.length_append] at hj
  simp at hj
  have : j < K.length := by omega
  rw [dd_g_push, if_pos this, h8 j this]
theorem dd_fk_len {cl : Nat → Nat} : ∀ m K, K.length ≤ (dd_fk cl m K).length := by
  intro m
  induction m with
  | zero => intro K; exact Nat.le_refl _
  | succ m ih =>
    intro K
    rw [dd_fk]
    split
    · split
      · exact ih _
      · refine Nat.le_trans ?_ (ih _)
        rw [dd_ak_len]
        simp
    · exact ih _
theorem dd_findKeys_l {post : St2 → Prop} {cl : Nat → Nat} (hc : ∀ x, cl x < 64) (h5 : ∀ x, x < 64 → a5 x = nI (cl x)) : ∀ m K a8, m ≤ 64 → dd_lt 64 K → dd_am a8 K → (dd_fk cl m K).length ≤ 20 →
    (∀ a8', dd_am a8' (dd_fk cl m K) → post (f0_count, f0_counting, f0_blocks, f0_isStudied, f0_stemCount, nI (dd_fk cl m K).length, f0_partCount, f0_rows, a1, a2, a3, a4, a5, a6, a7, a8', a9, a10, a11, a12, a13, a14)) → ∀ y, y = nI m - 1 →
    wX_findKeys_20 post (m + 1) y f0_count f0_counting f0_blocks f0_isStudied f0_stemCount (nI K.length) f0_partCount f0_rows a1 a2 a3 a4 a5 a6 a7 a8 a9 a10 a11 a12 a13 a14 := by
  intro m
  induction m with
  | zero =>
    intro K a8 _ hK h8 hl H y hy
    subst hy
    exact br_t (by decide) (H a8 h8)
  | succ m ih =>
    intro K a8 hm hK h8 hl H y hy
    rw [nI_pred] at hy
    subst hy
    have hl0 := dd_fk_len (cl := cl) (m + 1) K
    rw [dd_fk] at H hl
    refine br_f (nI_pos (by omega)) ⟨pk_in m 64 (by omega), ?_⟩
    refine ek_if (d := cl m = 63) (by rw [nI_clamp (by omega), h5 m (by omega)]; exact nI_eq (b := 63) (dd_31 (hc m)) (by omega)) (fun h => ?_) (fun h => nm_r (dd_pm _) ?_)
    · rw [if_pos h] at H hl
      refine dd_hasKeyWithin hK h8 (by rw [dd_fk, if_pos h] at hl0; omega) ?_
      refine dd_br _ (fun hb => ?_) (fun hb => nm_r (dd_pm _) ?_)
      · rw [if_neg (by rw [hb]; decide)] at H hl
        have hl1 := dd_fk_len (cl := cl) m (dd_ak (dd_re cl 6 m) K.length (K ++ [0]))
        rw [dd_ak_len] at hl1
        simp at hl1
        refine dd_reduced hc h5 (by omega) (dd_addKey (dd_re_lt _ _ (by omega)) (by omega) hK h8 (fun a8' h8' => nm_r (dd_pm _) ?_))
        have := ih _ a8' (by omega) (dd_ak_lt (dd_re_lt (cl := cl) 6 m (by omega)) _ _ (dd_lt_push hK (by omega))) h8' hl H _ rfl
        rw [dd_ak_len, List.length_append] at this
        exact this
      · rw [if_pos hb] at H hl
        exact ih K a8 (by omega) hK h8 hl H _ rfl
    · rw [if_neg h] at H hl
      exact ih K a8 (by omega) hK h8 hl H _ rfl
theorem dd_findKeys {post : St2 → Prop} {cl : Nat → Nat} (hc : ∀ x, cl x < 64) (h5 : ∀ x, x < 64 → a5 x = nI (cl x)) (hl : (dd_fk cl 64 [dd_re cl 6 63]).length ≤ 20)
    (H : ∀ a8', dd_am a8' (dd_fk cl 64 [dd_re cl 6 63]) → post (f0_count, f0_counting, f0_blocks, f0_isStudied, f0_stemCount, nI (dd_fk cl 64 [dd_re cl 6 63]).length, f0_partCount, f0_rows, a1, a2, a3, a4, a5, a6, a7, a8', a9, a10, a11, a12, a13, a14)) :
    wpX_findKeys post (f0_count, f0_counting, f0_blocks, f0_isStudied, f0_stemCount, f0_keyCount, f0_partCount, f0_rows, a1, a2, a3, a4, a5, a6, a7, a8, a9, a10, a11, a12, a13, a14) := by
  unfold wpX_findKeys
  have hr : dd_re cl 6 63 < 64 := dd_re_lt _ _ (by omega)
  refine dd_reduced hc h5 (x := 63) (by omega) (dd_addKey (K := []) hr (by simp) (dd_lt_nil (by omega)) dd_am_nil (fun a8' h8' => ⟨65, ?_⟩))
  exact dd_findKeys_l hc h5 64 [dd_re cl 6 63] a8' (by omega) (dd_lt_push (L := []) (dd_lt_nil (by omega)) hr) h8' hl H 63 (by decide)
/-- what a studied desk holds -/
def dd_St (q : Nat × List Nat × Nat × List Nat) (sc kc : Int32) (a5 a7 a8 : Nat → Int32) : Prop :=
  sc = nI q.2.1.length ∧ kc = nI q.2.2.2.length ∧ (∀ x, x < 64 → a5 x = nI (dd_c q.1 x)) ∧ dd_bm a7 q.2.2.1 ∧ dd_am a8 q.2.2.2
theorem dd_c_lt (C x : Nat) : dd_c C x < 64 := Nat.lt_of_le_of_lt Nat.and_le_right (by omega)
theorem dd_sy_of {D : List (Nat × Nat × Bool)} {q : Nat × List Nat × Nat × List Nat} (h : dd_sy D q = true) :
    (∀ x, x < 64 → dd_cs D (2 ^ D.length - 1) x = dd_c q.1 x) ∧ dd_fs (dd_c q.1) 64 (some (dd_co (dd_c q.1) [] 7 0)) [] 0 = (q.2.1, q.2.2.1) ∧ dd_fk (dd_c q.1) 64 [dd_re (dd_c q.1) 6 63] = q.2.2.2 ∧ q.2.2.2.length ≤ 20 := by
  unfold dd_sy at h
  rw [Bool.and_eq_true, Bool.and_eq_true, Bool.and_eq_true, List.all_eq_true] at h
  obtain ⟨⟨⟨h1, h2⟩, h3⟩, h4⟩ := h
  refine ⟨fun x hx => ?_, eq_of_beq h2, eq_of_beq h3, Nat.le_of_ble_eq_true h4⟩
  exact eq_of_beq (h1 x (List.mem_range.mpr hx))
theorem dd_p10 {n : Nat} (h : n ≤ 10) : 2 ^ n - 1 < 2 ^ 31 := Nat.lt_of_le_of_lt (Nat.sub_le _ _) (Nat.lt_of_le_of_lt (Nat.pow_le_pow_right (by omega) h) (by decide))
theorem dd_full {n : Nat} (h : n ≤ 10) : (1 : Int32) <<< (nI n &&& 31) - 1 = nI (2 ^ n - 1) := (by decide +kernel : ∀ n, n < 11 → (1 : Int32) <<< (nI n &&& 31) - 1 = nI (2 ^ n - 1)) n (by omega)
theorem dd_study_l {post : St2 → Prop} {D : List (Nat × Nat × Bool)} {q : Nat × List Nat × Nat × List Nat} (hD : dd_D a1 a2 a3 D) (hq : dd_sy D q = true)
    (H : ∀ ct b sc kc a4 a5 a6 a7 a8, dd_St q sc kc a5 a7 a8 → post (nI D.length, ct, b, 1, sc, kc, f0_partCount, f0_rows, a1, a2, a3, a4, a5, a6, a7, a8, a9, a10, a11, a12, a13, a14)) : ∀ m x f0_blocks a4 a5, x + m = 64 → (∀ y, y < x → a5 y = nI (dd_c q.1 y)) →
    wX_study_22 post (m + 1) (nI x) (nI D.length) (nI (2 ^ D.length - 1)) f0_blocks f0_isStudied f0_stemCount f0_keyCount f0_partCount f0_rows a1 a2 a3 a4 a5 a6 a7 a8 a9 a10 a11 a12 a13 a14 := by
  have h10 := hD.1
  obtain ⟨q1, q2, q3, q4⟩ := dd_sy_of hq
  intro m
  induction m with
  | zero =>
    intro x f0_blocks a4 a5 hx h5
    have hx' : x = 64 := by omega
    subst hx'
    refine pk_le 64 64 (fun _ => ?_) (fun z => absurd z (by omega))
    refine dd_findStems (cl := dd_c q.1) (dd_c_lt _) h5 (fun a6' a7' h7' => ?_)
    refine dd_findKeys (cl := dd_c q.1) (dd_c_lt _) h5 (by rw [q3]; exact q4) (fun a8' h8' => ?_)
    refine H _ _ _ _ _ _ _ _ _ ⟨by rw [q2], by rw [q3], h5, by rw [q2] at h7'; exact h7', by rw [q3] at h8'; exact h8'⟩
  | succ m ih =>
    intro x f0_blocks a4 a5 hx h5
    refine pk_le 64 x (fun z => absurd z (by omega)) (fun _ => ?_)
    refine dd_closeSet hD (dd_p10 h10) (by omega) (fun b a4' => ⟨pk_in x 64 (by omega), nm_e (nm_r (nI_1 x) ?_)⟩)
    refine ih (x + 1) b a4' _ (by omega) (fun y hy => ?_)
    rw [nI_clamp (by omega)]
    by_cases e : y = x
    · rw [e, pk_us, q1 x (by omega)]
    · rw [pk_un e, h5 y (by omega)]
end
end
section
/-! pictures of the questions -/
def dd_ge (cl : Nat → Nat) (s out : Nat) : Nat := if dd_w s (cl 0) = true then out else out ||| (cl 0 &&& s)
def dd_gi (cl : Nat → Nat) (s : Nat) : Nat → Nat → Nat → Nat
  | 0, _, out => dd_ge cl s out
  | f + 1, x, out => if x = 0 then dd_ge cl s out else dd_gi cl s f ((x - 1) &&& s) (if dd_w s (cl x) = true then out else out ||| dd_an (cl x &&& s) x)
def dd_im (cl : Nat → Nat) (x s : Nat) : Nat → Nat → Bool → Bool
  | 0, _, g => g
  | m + 1, c, g => dd_im cl x s m (c + 1) (g && !(x.testBit c && dd_w s (cl (dd_an x (2 ^ c)))))
def dd_pr (cl : Nat → Nat) (s : Nat) : Nat → Nat → Nat → Nat
  | 0, _, out => out
  | f + 1, x, out => if x = 0 then out else dd_pr cl s f ((x - 1) &&& s) (if dd_w s (cl x) = true then (if dd_im cl x s 6 0 true = true then out ||| x else out) else out)
def dd_cd (cl : Nat → Nat) : Nat → Nat → Nat → Nat
  | 0, _, n => n
  | m + 1, x, n => dd_cd cl m (x + 1) (if cl x = x then n + 1 else n)
def dd_ic (cl : Nat → Nat) (x : Nat) : Nat → Nat → Nat → Nat
  | 0, _, co => co
  | m + 1, c, co => dd_ic cl x m (c + 1) (if x.testBit c = false then co &&& cl (x ||| 2 ^ c) else co)
def dd_cn (cl : Nat → Nat) : Nat → Nat → Nat → Nat
  | 0, _, n => n
  | m + 1, x, n => dd_cn cl m (x + 1) (if cl x = x then (if dd_ic cl x 6 0 63 = x then n else n + 1) else n)
def dd_sm (M : Nat) (i : Option Nat) : Nat → Nat → Nat → Option Nat
  | 0, _, _ => none
  | m + 1, x, n => if M.testBit x = false then dd_sm M i m (x + 1) n else if some n = i then some x else dd_sm M i m (x + 1) (n + 1)
def dd_bu (bl : List Nat) (y : Nat) : Nat → Nat → Bool → Bool
  | 0, _, g => g
  | m + 1, k, g => dd_bu bl y m (k + 1) (g && (dd_g bl k &&& y == 0 || dd_g bl k &&& y == dd_g bl k))
def dd_fr (D : List (Nat × Nat × Bool)) (cl : Nat → Nat) : Nat → Nat → Bool
  | 0, _ => true
  | m + 1, x => if cl x = 63 then dd_fr D cl m (x + 1) else if 1 < (dd_fb D (2 ^ D.length - 1) x).length then false else dd_fr D cl m (x + 1)
def dd_bo (s : Nat) : Nat → Nat → Nat → Nat
  | 0, _, n => n
  | m + 1, d, n => dd_bo s m (d + 1) (n + (s >>> d) % 2)
def dd_ne (D : List (Nat × Nat × Bool)) (x y : Nat) : Nat → Nat → Nat → Nat
  | 0, _, best => best
  | m + 1, s, best => if best ≤ dd_bo s 10 0 0 then dd_ne D x y m (s + 1) best else if dd_w y (dd_cs D s x) = true then dd_ne D x y m (s + 1) (dd_bo s 10 0 0) else dd_ne D x y m (s + 1) best
end
section
section
variable {f0_count f0_counting f0_blocks f0_isStudied f0_stemCount f0_keyCount f0_partCount f0_rows : Int32} {a1 a2 a3 a4 a5 a6 a7 a8 a9 a10 a11 a12 a13 a14 : Nat → Int32}
def dd_T (pc : Int32) (a9 : Nat → Int32) (T : List Nat) : Prop := pc = nI T.length ∧ T.length ≤ 4 ∧ dd_lt 64 T ∧ dd_am a9 T
def dd_W (rw : Int32) (a11 : Nat → Int32) (R : Nat) (ce : Nat → Nat) : Prop := rw = nI R ∧ R ≤ 6 ∧ ∀ i, i < 6 * R → a11 i = nI (ce i) ∧ ce i < 2 ^ 31
/-- a desk that matches the picture: dependencies D, what a study of them finds q, parts T, R rows of cells ce -/
def dd_K (D : List (Nat × Nat × Bool)) (q : Nat × List Nat × Nat × List Nat) (T : List Nat) (R : Nat) (ce : Nat → Nat) (u : St2) : Prop := match u with
  | (f0_count, f0_counting, f0_blocks, f0_isStudied, f0_stemCount, f0_keyCount, f0_partCount, f0_rows, a1, a2, a3, a4, a5, a6, a7, a8, a9, a10, a11, a12, a13, a14) => f0_count = nI D.length ∧ dd_D a1 a2 a3 D ∧ (f0_isStudied = 0 ∨ f0_isStudied = 1 ∧ dd_St q f0_stemCount f0_keyCount a5 a7 a8) ∧ dd_T f0_partCount a9 T ∧ dd_W f0_rows a11 R ce
def dd_K1 (D : List (Nat × Nat × Bool)) (q : Nat × List Nat × Nat × List Nat) (T : List Nat) (R : Nat) (ce : Nat → Nat) (u : St2) : Prop := match u with
  | (f0_count, f0_counting, f0_blocks, f0_isStudied, f0_stemCount, f0_keyCount, f0_partCount, f0_rows, a1, a2, a3, a4, a5, a6, a7, a8, a9, a10, a11, a12, a13, a14) => f0_count = nI D.length ∧ dd_D a1 a2 a3 D ∧ f0_isStudied = 1 ∧ dd_St q f0_stemCount f0_keyCount a5 a7 a8 ∧ dd_T f0_partCount a9 T ∧ dd_W f0_rows a11 R ce
variable {D : List (Nat × Nat × Bool)} {q : Nat × List Nat × Nat × List Nat} {T : List Nat} {R : Nat} {ce : Nat → Nat} {u : St2}
theorem dd_study {post : St2 → Prop} (hq : dd_sy D q = true) (hu : dd_K D q T R ce u) (H : ∀ u', dd_K1 D q T R ce u' → post u') : wpX_study post u := by
  obtain ⟨f0_count, f0_counting, f0_blocks, f0_isStudied, f0_stemCount, f0_keyCount, f0_partCount, f0_rows, a1, a2, a3, a4, a5, a6, a7, a8, a9, a10, a11, a12, a13, a14⟩ := u
  obtain ⟨rfl, hD, hs, hT, hW⟩ := hu
  unfold wpX_study
  rcases hs with rfl | ⟨rfl, hs⟩
  · refine br_t rfl (nm_r (dd_full hD.1) ⟨65, ?_⟩)
    refine dd_study_l hD hq (fun ct b sc kc a4 a5 a6 a7 a8 h => H _ ⟨rfl, hD, rfl, h, hT, hW⟩) 64 0 _ a4 a5 (by omega) (fun y hy => absurd hy (by omega))
  · exact br_f (by decide) (H _ ⟨rfl, hD, rfl, hs, hT, hW⟩)
theorem dd_keys {post : Int32 → St2 → Prop} (hq : dd_sy D q = true) (hu : dd_K D q T R ce u) (H : ∀ u', dd_K D q T R ce u' → post (nI q.2.2.2.length) u') : wpX_keys post u := by
  obtain ⟨f0_count, f0_counting, f0_blocks, f0_isStudied, f0_stemCount, f0_keyCount, f0_partCount, f0_rows, a1, a2, a3, a4, a5, a6, a7, a8, a9, a10, a11, a12, a13, a14⟩ := u
  unfold wpX_keys
  refine dd_study hq hu ?_
  rintro ⟨f0_count, f0_counting, f0_blocks, f0_isStudied, f0_stemCount, f0_keyCount, f0_partCount, f0_rows, a1, a2, a3, a4, a5, a6, a7, a8, a9, a10, a11, a12, a13, a14⟩ ⟨rfl, hD, rfl, ⟨rfl, rfl, h5, h7, h8⟩, hT, hW⟩
  exact H _ ⟨rfl, hD, Or.inr ⟨rfl, rfl, rfl, h5, h7, h8⟩, hT, hW⟩
theorem dd_stems {post : Int32 → St2 → Prop} (hq : dd_sy D q = true) (hu : dd_K D q T R ce u) (H : ∀ u', dd_K D q T R ce u' → post (nI q.2.1.length) u') : wpX_stems post u := by
  obtain ⟨f0_count, f0_counting, f0_blocks, f0_isStudied, f0_stemCount, f0_keyCount, f0_partCount, f0_rows, a1, a2, a3, a4, a5, a6, a7, a8, a9, a10, a11, a12, a13, a14⟩ := u
  unfold wpX_stems
  refine dd_study hq hu ?_
  rintro ⟨f0_count, f0_counting, f0_blocks, f0_isStudied, f0_stemCount, f0_keyCount, f0_partCount, f0_rows, a1, a2, a3, a4, a5, a6, a7, a8, a9, a10, a11, a12, a13, a14⟩ ⟨rfl, hD, rfl, ⟨rfl, rfl, h5, h7, h8⟩, hT, hW⟩
  exact H _ ⟨rfl, hD, Or.inr ⟨rfl, rfl, rfl, h5, h7, h8⟩, hT, hW⟩
theorem dd_key {post : Int32 → St2 → Prop} {i : Nat} (hq : dd_sy D q = true) (hi : i < q.2.2.2.length) (hu : dd_K D q T R ce u) (H : ∀ u', dd_K D q T R ce u' → post (nI (dd_g q.2.2.2 i)) u') : wpX_key post u (nI i) := by
  have h20 := (dd_sy_of hq).2.2.2
  obtain ⟨f0_count, f0_counting, f0_blocks, f0_isStudied, f0_stemCount, f0_keyCount, f0_partCount, f0_rows, a1, a2, a3, a4, a5, a6, a7, a8, a9, a10, a11, a12, a13, a14⟩ := u
  unfold wpX_key
  refine dd_study hq hu ?_
  rintro ⟨f0_count, f0_counting, f0_blocks, f0_isStudied, f0_stemCount, f0_keyCount, f0_partCount, f0_rows, a1, a2, a3, a4, a5, a6, a7, a8, a9, a10, a11, a12, a13, a14⟩ ⟨rfl, hD, rfl, ⟨rfl, rfl, h5, h7, h8⟩, hT, hW⟩
  refine br_f (nI_pos (by omega)) (br_t (nI_lt hi (by omega)) ⟨pk_in i 20 (by omega), ?_⟩)
  rw [dd_rd h8 rfl hi (by omega)]
  exact H _ ⟨rfl, hD, Or.inr ⟨rfl, rfl, rfl, h5, h7, h8⟩, hT, hW⟩
theorem dd_key_o {post : Int32 → St2 → Prop} {i : Nat} (hq : dd_sy D q = true) (hi : q.2.2.2.length ≤ i) (hi' : i < 2 ^ 31) (hu : dd_K D q T R ce u) (H : ∀ u', dd_K D q T R ce u' → post (-3) u') : wpX_key post u (nI i) := by
  obtain ⟨f0_count, f0_counting, f0_blocks, f0_isStudied, f0_stemCount, f0_keyCount, f0_partCount, f0_rows, a1, a2, a3, a4, a5, a6, a7, a8, a9, a10, a11, a12, a13, a14⟩ := u
  unfold wpX_key
  refine dd_study hq hu ?_
  rintro ⟨f0_count, f0_counting, f0_blocks, f0_isStudied, f0_stemCount, f0_keyCount, f0_partCount, f0_rows, a1, a2, a3, a4, a5, a6, a7, a8, a9, a10, a11, a12, a13, a14⟩ ⟨rfl, hD, rfl, ⟨rfl, rfl, h5, h7, h8⟩, hT, hW⟩
  exact br_f (nI_pos hi') (br_f (nI_nlt hi hi') (H _ ⟨rfl, hD, Or.inr ⟨rfl, rfl, rfl, h5, h7, h8⟩, hT, hW⟩))
theorem dd_key_n {post : Int32 → St2 → Prop} (hq : dd_sy D q = true) (hu : dd_K D q T R ce u) (H : ∀ u', dd_K D q T R ce u' → post (-3) u') : wpX_key post u (-1) := by
  obtain ⟨f0_count, f0_counting, f0_blocks, f0_isStudied, f0_stemCount, f0_keyCount, f0_partCount, f0_rows, a1, a2, a3, a4, a5, a6, a7, a8, a9, a10, a11, a12, a13, a14⟩ := u
  unfold wpX_key
  refine dd_study hq hu ?_
  rintro ⟨f0_count, f0_counting, f0_blocks, f0_isStudied, f0_stemCount, f0_keyCount, f0_partCount, f0_rows, a1, a2, a3, a4, a5, a6, a7, a8, a9, a10, a11, a12, a13, a14⟩ ⟨rfl, hD, rfl, ⟨rfl, rfl, h5, h7, h8⟩, hT, hW⟩
  exact br_t (by decide) (H _ ⟨rfl, hD, Or.inr ⟨rfl, rfl, rfl, h5, h7, h8⟩, hT, hW⟩)
theorem dd_closed_l {post : Int32 → St2 → Prop} {cl : Nat → Nat} (hc : ∀ x, cl x < 64) (h5 : ∀ x, x < 64 → a5 x = nI (cl x)) : ∀ m x n, x + m = 64 → post (nI (dd_cd cl m x n)) (f0_count, f0_counting, f0_blocks, f0_isStudied, f0_stemCount, f0_keyCount, f0_partCount, f0_rows, a1, a2, a3, a4, a5, a6, a7, a8, a9, a10, a11, a12, a13, a14) →
    wX_closed_8 post f0_count f0_counting f0_blocks f0_isStudied f0_stemCount f0_keyCount f0_partCount f0_rows a1 a2 a3 a4 a5 a6 a7 a8 a9 a10 a11 a12 a13 a14 (m + 1) (nI n) (nI x) := by
  intro m
  induction m with
  | zero => intro x n hx H; exact pk_le 64 x (fun _ => H) (fun z => absurd z (by omega))
  | succ m ih =>
    intro x n hx H
    rw [dd_cd] at H
    refine pk_le 64 x (fun z => absurd z (by omega)) (fun _ => ⟨pk_in x 64 (by omega), ?_⟩)
    refine ek_if (d := cl x = x) (by rw [nI_clamp (by omega), h5 x (by omega)]; exact nI_eq (dd_31 (hc x)) (by omega)) (fun h => nm_r (nI_1 n) (nm_r (nI_1 x) ?_)) (fun h => nm_r (nI_1 x) ?_)
    · rw [if_pos h] at H; exact ih _ _ (by omega) H
    · rw [if_neg h] at H; exact ih _ _ (by omega) H
theorem dd_closed {post : Int32 → St2 → Prop} (hq : dd_sy D q = true) (hu : dd_K D q T R ce u) (H : ∀ u', dd_K D q T R ce u' → post (nI (dd_cd (dd_c q.1) 64 0 0)) u') : wpX_closed post u := by
  obtain ⟨f0_count, f0_counting, f0_blocks, f0_isStudied, f0_stemCount, f0_keyCount, f0_partCount, f0_rows, a1, a2, a3, a4, a5, a6, a7, a8, a9, a10, a11, a12, a13, a14⟩ := u
  unfold wpX_closed
  refine dd_study hq hu ?_
  rintro ⟨f0_count, f0_counting, f0_blocks, f0_isStudied, f0_stemCount, f0_keyCount, f0_partCount, f0_rows, a1, a2, a3, a4, a5, a6, a7, a8, a9, a10, a11, a12, a13, a14⟩ ⟨rfl, hD, rfl, ⟨rfl, rfl, h5, h7, h8⟩, hT, hW⟩
  exact ⟨65, dd_closed_l (dd_c_lt _) h5 64 0 0 (by omega) (H _ ⟨rfl, hD, Or.inr ⟨rfl, rfl, rfl, h5, h7, h8⟩, hT, hW⟩)⟩
theorem dd_ic_lt {cl : Nat → Nat} {x : Nat} : ∀ m c co, co < 64 → dd_ic cl x m c co < 64 := by
  intro m
  induction m with
  | zero => intro c co h; exact h
  | succ m ih =>
    intro c co h
    rw [dd_ic]
    split
    · exact ih _ _ (dd_a64 _ h)
    · exact ih _ _ h
theorem dd_isCorner_l {post : Int32 → Prop} {cl : Nat → Nat} {x : Nat} (h5 : ∀ x, x < 64 → a5 x = nI (cl x)) (hx : x < 64) : ∀ m c co, c + m = 6 → co < 64 → post (dd_b (!(dd_ic cl x m c co == x))) →
    wX_isCorner_5 post (nI x) f0_count f0_counting f0_blocks f0_isStudied f0_stemCount f0_keyCount f0_partCount f0_rows a1 a2 a3 a4 a5 a6 a7 a8 a9 a10 a11 a12 a13 a14 (m + 1) (nI co) (nI c) := by
  intro m
  induction m with
  | zero =>
    intro c co hc hco H
    rw [dd_ic] at H
    refine pk_le 6 c (fun _ => pk_eq co x (fun h => ?_) (fun h => ?_)) (fun z => absurd z (by omega))
    · rw [beq_iff_eq.mpr h] at H; exact H
    · rw [beq_eq_false_iff_ne.mpr h] at H; exact H
  | succ m ih =>
    intro c co hc hco H
    rw [dd_ic] at H
    have hz : x ||| 2 ^ c < 64 := dd_o64 hx (dd_p64 (by omega))
    refine pk_le 6 c (fun z => absurd z (by omega)) (fun _ => dd_bb0 x c (fun h => ?_) (fun h => nm_r (nI_1 c) ?_) (dd_31 hx) (by omega))
    · rw [if_pos h] at H
      rw [dd_one c (by omega), dd_or, nI_clamp (dd_31 hz), h5 _ hz]
      exact ⟨pk_in _ 64 hz, nm_r (dd_and _ _) (nm_r (nI_1 c) (ih _ _ (by omega) (dd_a64 _ hco) H))⟩
    · rw [if_neg (by rw [h]; decide)] at H
      exact ih _ _ (by omega) hco H
theorem dd_isCorner {post : Int32 → Prop} {cl : Nat → Nat} {x : Nat} (h5 : ∀ x, x < 64 → a5 x = nI (cl x)) (hx : x < 64) (H : post (dd_b (!(dd_ic cl x 6 0 63 == x)))) :
    wpX_isCorner post (f0_count, f0_counting, f0_blocks, f0_isStudied, f0_stemCount, f0_keyCount, f0_partCount, f0_rows, a1, a2, a3, a4, a5, a6, a7, a8, a9, a10, a11, a12, a13, a14) (nI x) := ⟨7, dd_isCorner_l h5 hx 6 0 63 (by omega) (by omega) H⟩
theorem dd_corners_l {post : Int32 → St2 → Prop} {cl : Nat → Nat} (hc : ∀ x, cl x < 64) (h5 : ∀ x, x < 64 → a5 x = nI (cl x)) : ∀ m x n, x + m = 63 → post (nI (dd_cn cl m x n)) (f0_count, f0_counting, f0_blocks, f0_isStudied, f0_stemCount, f0_keyCount, f0_partCount, f0_rows, a1, a2, a3, a4, a5, a6, a7, a8, a9, a10, a11, a12, a13, a14) →
    wX_corners_8 post f0_count f0_counting f0_blocks f0_isStudied f0_stemCount f0_keyCount f0_partCount f0_rows a1 a2 a3 a4 a5 a6 a7 a8 a9 a10 a11 a12 a13 a14 (m + 1) (nI n) (nI x) := by
  intro m
  induction m with
  | zero => intro x n hx H; exact pk_le 63 x (fun _ => H) (fun z => absurd z (by omega))
  | succ m ih =>
    intro x n hx H
    rw [dd_cn] at H
    refine pk_le 63 x (fun z => absurd z (by omega)) (fun _ => ⟨pk_in x 64 (by omega), ?_⟩)
    refine ek_if (d := cl x = x) (by rw [nI_clamp (by omega), h5 x (by omega)]; exact nI_eq (dd_31 (hc x)) (by omega)) (fun h => ?_) (fun h => nm_r (nI_1 x) ?_)
    · rw [if_pos h] at H
      refine dd_isCorner h5 (by omega) (dd_br _ (fun hb => nm_r (nI_1 x) ?_) (fun hb => nm_r (nI_1 n) (nm_r (nI_1 x) ?_)))
      · rw [if_pos (by simpa using hb)] at H; exact ih _ _ (by omega) H
      · rw [if_neg (by simpa using hb)] at H; exact ih _ _ (by omega) H
    · rw [if_neg h] at H; exact ih _ _ (by omega) H
theorem dd_corners {post : Int32 → St2 → Prop} (hq : dd_sy D q = true) (hu : dd_K D q T R ce u) (H : ∀ u', dd_K D q T R ce u' → post (nI (dd_cn (dd_c q.1) 63 0 0)) u') : wpX_corners post u := by
  obtain ⟨f0_count, f0_counting, f0_blocks, f0_isStudied, f0_stemCount, f0_keyCount, f0_partCount, f0_rows, a1, a2, a3, a4, a5, a6, a7, a8, a9, a10, a11, a12, a13, a14⟩ := u
  unfold wpX_corners
  refine dd_study hq hu ?_
  rintro ⟨f0_count, f0_counting, f0_blocks, f0_isStudied, f0_stemCount, f0_keyCount, f0_partCount, f0_rows, a1, a2, a3, a4, a5, a6, a7, a8, a9, a10, a11, a12, a13, a14⟩ ⟨rfl, hD, rfl, ⟨rfl, rfl, h5, h7, h8⟩, hT, hW⟩
  exact ⟨64, dd_corners_l (dd_c_lt _) h5 63 0 0 (by omega) (H _ ⟨rfl, hD, Or.inr ⟨rfl, rfl, rfl, h5, h7, h8⟩, hT, hW⟩)⟩
def dd_n3 (x : Option Nat) : Int32 := match x with
  | none => -3
  | some y => nI y
theorem dd_o_eq {n : Nat} {i : Option Nat} (hn : n < 2 ^ 31) (hi : ∀ y, i = some y → y < 2 ^ 31) : nI n = dd_o i ↔ some n = i := by
  cases i with
  | none =>
    refine ⟨fun h => ?_, fun h => absurd h (by simp)⟩
    have h2 : (nI n).toInt = (-1 : Int32).toInt := congrArg Int32.toInt h
    rw [nI_toInt hn] at h2
    exact absurd h2 (by simp)
  | some y =>
    show nI n = nI y ↔ _
    rw [nI_eq hn (hi y rfl)]
    simp
theorem dd_stem_l {post : Int32 → St2 → Prop} {M : Nat} {i : Option Nat} (hi : ∀ y, i = some y → y < 2 ^ 31) (h7 : dd_bm a7 M) : ∀ m x n, x + m = 64 → n ≤ x → post (dd_n3 (dd_sm M i m x n)) (f0_count, f0_counting, f0_blocks, f0_isStudied, f0_stemCount, f0_keyCount, f0_partCount, f0_rows, a1, a2, a3, a4, a5, a6, a7, a8, a9, a10, a11, a12, a13, a14) →
    wX_stem_8 post (dd_o i) f0_count f0_counting f0_blocks f0_isStudied f0_stemCount f0_keyCount f0_partCount f0_rows a1 a2 a3 a4 a5 a6 a7 a8 a9 a10 a11 a12 a13 a14 (m + 1) (nI n) (nI x) := by
  intro m
  induction m with
  | zero => intro x n hx hn H; exact pk_le 64 x (fun _ => H) (fun z => absurd z (by omega))
  | succ m ih =>
    intro x n hx hn H
    rw [dd_sm] at H
    refine pk_le 64 x (fun z => absurd z (by omega)) (fun _ => ⟨pk_in x 64 (by omega), ?_⟩)
    refine dd_br (M.testBit x) (fun h => nm_r (nI_1 x) ?_) (fun h => ek_if (dd_o_eq (by omega) hi) (fun h' => ?_) (fun h' => nm_r (nI_1 n) (nm_r (nI_1 x) ?_))) (by rw [nI_clamp (by omega), h7 x (by omega)])
    · rw [if_pos h] at H; exact ih _ _ (by omega) (by omega) H
    · rw [if_neg (by rw [h]; decide), if_pos h'] at H; exact H
    · rw [if_neg (by rw [h]; decide), if_neg h'] at H; exact ih _ _ (by omega) (by omega) H
theorem dd_stem {post : Int32 → St2 → Prop} {i : Option Nat} (hq : dd_sy D q = true) (hi : ∀ y, i = some y → y < 2 ^ 31) (hu : dd_K D q T R ce u) (H : ∀ u', dd_K D q T R ce u' → post (dd_n3 (dd_sm q.2.2.1 i 64 0 0)) u') : wpX_stem post u (dd_o i) := by
  obtain ⟨f0_count, f0_counting, f0_blocks, f0_isStudied, f0_stemCount, f0_keyCount, f0_partCount, f0_rows, a1, a2, a3, a4, a5, a6, a7, a8, a9, a10, a11, a12, a13, a14⟩ := u
  unfold wpX_stem
  refine dd_study hq hu ?_
  rintro ⟨f0_count, f0_counting, f0_blocks, f0_isStudied, f0_stemCount, f0_keyCount, f0_partCount, f0_rows, a1, a2, a3, a4, a5, a6, a7, a8, a9, a10, a11, a12, a13, a14⟩ ⟨rfl, hD, rfl, ⟨rfl, rfl, h5, h7, h8⟩, hT, hW⟩
  exact ⟨65, dd_stem_l hi h7 64 0 0 (by omega) (by omega) (H _ ⟨rfl, hD, Or.inr ⟨rfl, rfl, rfl, h5, h7, h8⟩, hT, hW⟩)⟩
end
end
section
section
variable {f0_count f0_counting f0_blocks f0_isStudied f0_stemCount f0_keyCount f0_partCount f0_rows : Int32} {a1 a2 a3 a4 a5 a6 a7 a8 a9 a10 a11 a12 a13 a14 : Nat → Int32}
variable {D : List (Nat × Nat × Bool)} {q : Nat × List Nat × Nat × List Nat} {T : List Nat} {R : Nat} {ce : Nat → Nat} {u : St2}
theorem dd_ok {post : Int32 → Prop} {x : Nat} (hx : x < 64) (H : post 0) : wpX_badSet post u (nI x) := by
  obtain ⟨f0_count, f0_counting, f0_blocks, f0_isStudied, f0_stemCount, f0_keyCount, f0_partCount, f0_rows, a1, a2, a3, a4, a5, a6, a7, a8, a9, a10, a11, a12, a13, a14⟩ := u
  exact br_f (nI_pos (by omega)) (br_t (nI_le (b := 63) (by omega) (by omega)) H)
theorem dd_bad {post : Int32 → Prop} {x : Int32} (hx : x < 0 ∨ ¬ x ≤ 63) (H : post 1) : wpX_badSet post u x := by
  obtain ⟨f0_count, f0_counting, f0_blocks, f0_isStudied, f0_stemCount, f0_keyCount, f0_partCount, f0_rows, a1, a2, a3, a4, a5, a6, a7, a8, a9, a10, a11, a12, a13, a14⟩ := u
  exact br_c (fun _ => H) (fun h => br_f (hx.resolve_left h) H)
theorem dd_closure {post : Int32 → St2 → Prop} {x : Nat} (hq : dd_sy D q = true) (hx : x < 64) (hu : dd_K D q T R ce u) (H : ∀ u', dd_K D q T R ce u' → post (nI (dd_c q.1 x)) u') : wpX_closure post u (nI x) := by
  obtain ⟨f0_count, f0_counting, f0_blocks, f0_isStudied, f0_stemCount, f0_keyCount, f0_partCount, f0_rows, a1, a2, a3, a4, a5, a6, a7, a8, a9, a10, a11, a12, a13, a14⟩ := u
  unfold wpX_closure
  refine dd_ok hx (br_t rfl (dd_study hq hu ?_))
  rintro ⟨f0_count, f0_counting, f0_blocks, f0_isStudied, f0_stemCount, f0_keyCount, f0_partCount, f0_rows, a1, a2, a3, a4, a5, a6, a7, a8, a9, a10, a11, a12, a13, a14⟩ ⟨rfl, hD, rfl, ⟨rfl, rfl, h5, h7, h8⟩, hT, hW⟩
  refine ⟨pk_in x 64 hx, ?_⟩
  rw [nI_clamp (dd_31 hx), h5 x hx]
  exact H _ ⟨rfl, hD, Or.inr ⟨rfl, rfl, rfl, h5, h7, h8⟩, hT, hW⟩
theorem dd_follows {post : Int32 → St2 → Prop} {x y : Nat} (hq : dd_sy D q = true) (hx : x < 64) (hy : y < 64) (hu : dd_K D q T R ce u) (H : ∀ u', dd_K D q T R ce u' → post (dd_b (dd_w y (dd_c q.1 x))) u') : wpX_follows post u (nI x) (nI y) := by
  obtain ⟨f0_count, f0_counting, f0_blocks, f0_isStudied, f0_stemCount, f0_keyCount, f0_partCount, f0_rows, a1, a2, a3, a4, a5, a6, a7, a8, a9, a10, a11, a12, a13, a14⟩ := u
  unfold wpX_follows
  refine dd_ok hx (br_t rfl (dd_ok hy (br_t rfl (dd_study hq hu ?_))))
  rintro ⟨f0_count, f0_counting, f0_blocks, f0_isStudied, f0_stemCount, f0_keyCount, f0_partCount, f0_rows, a1, a2, a3, a4, a5, a6, a7, a8, a9, a10, a11, a12, a13, a14⟩ ⟨rfl, hD, rfl, ⟨rfl, rfl, h5, h7, h8⟩, hT, hW⟩
  refine ⟨pk_in x 64 hx, ?_⟩
  rw [nI_clamp (dd_31 hx), h5 x hx]
  exact dd_within hy ⟨dd_nar _, H _ ⟨rfl, hD, Or.inr ⟨rfl, rfl, rfl, h5, h7, h8⟩, hT, hW⟩⟩
theorem dd_gi_lt {cl : Nat → Nat} {s : Nat} (hc : ∀ x, cl x < 64) : ∀ f x out, out < 64 → dd_gi cl s f x out < 64 := by
  have he : ∀ out, out < 64 → dd_ge cl s out < 64 := by
    intro out h
    unfold dd_ge
    split
    · exact h
    · exact dd_o64 h (dd_a64 _ (hc 0))
  intro f
  induction f with
  | zero => intro x out h; exact he out h
  | succ f ih =>
    intro x out h
    rw [dd_gi]
    split
    · exact he out h
    · split
      · exact ih _ _ h
      · exact ih _ _ (dd_o64 h (dd_n64 _ (dd_a64 _ (hc _))))
theorem dd_givenIn_l {post : Int32 → Prop} {cl : Nat → Nat} {s : Nat} (hc : ∀ x, cl x < 64) (h5 : ∀ x, x < 64 → a5 x = nI (cl x)) (hs : s < 64) : ∀ f x out, x ≤ f → x < 64 →
    post (nI (dd_gi cl s f x out)) → wX_givenIn_4 post (nI s) f0_count f0_counting f0_blocks f0_isStudied f0_stemCount f0_keyCount f0_partCount f0_rows a1 a2 a3 a4 a5 a6 a7 a8 a9 a10 a11 a12 a13 a14 (f + 1) (nI out) (nI x) := by
  have he : ∀ out, post (nI (dd_ge cl s out)) → wpX_within (fun r_2 => (((r_2 = 0 → (post ((nI out) ||| ((a5 0) &&& (nI s))))) ∧ (¬ r_2 = 0 → (post (nI out)))))) (f0_count, f0_counting, f0_blocks, f0_isStudied, f0_stemCount, f0_keyCount, f0_partCount, f0_rows, a1, a2, a3, a4, a5, a6, a7, a8, a9, a10, a11, a12, a13, a14) (nI s) (a5 0) := by
    intro out H
    rw [dd_ge] at H
    rw [h5 0 (by omega)]
    refine dd_within hs (dd_br _ (fun h => ?_) (fun h => ?_))
    · rw [if_neg (by rw [h]; decide)] at H
      rw [dd_and, dd_or]
      exact H
    · rw [if_pos h] at H; exact H
  intro f
  induction f with
  | zero =>
    intro x out hx hx' H
    exact pk_le x 0 (fun _ => he out H) (fun z => absurd z (by omega))
  | succ f ih =>
    intro x out hx hx' H
    rw [dd_gi] at H
    refine pk_le x 0 (fun z => ?_) (fun z => ⟨pk_in x 64 hx', ?_⟩)
    · rw [if_pos (by omega)] at H; exact he out H
    · rw [if_neg (by omega)] at H
      have hx2 : (x - 1) &&& s ≤ x - 1 := Nat.and_le_left
      rw [nI_clamp (dd_31 hx'), h5 x hx']
      refine dd_within hs (dd_br _ (fun h => ⟨pk_in x 64 hx', ?_⟩) (fun h => ?_))
      · rw [if_neg (by rw [h]; decide)] at H
        rw [dd_and, dd_andn, dd_or]
        exact nm_r (by rw [dd_m1 z, dd_and]) (ih _ _ (by omega) (by omega) H)
      · rw [if_pos h] at H
        exact nm_r (by rw [dd_m1 z, dd_and]) (ih _ _ (by omega) (by omega) H)
theorem dd_givenIn {post : Int32 → Prop} {cl : Nat → Nat} {s : Nat} (hc : ∀ x, cl x < 64) (h5 : ∀ x, x < 64 → a5 x = nI (cl x)) (hs : s < 64) (H : post (nI (dd_gi cl s 64 s 0))) : wpX_givenIn post (f0_count, f0_counting, f0_blocks, f0_isStudied, f0_stemCount, f0_keyCount, f0_partCount, f0_rows, a1, a2, a3, a4, a5, a6, a7, a8, a9, a10, a11, a12, a13, a14) (nI s) :=
  ⟨65, dd_givenIn_l hc h5 hs 64 s 0 (by omega) hs H⟩
theorem dd_isMinimal_l {post : Int32 → Prop} {cl : Nat → Nat} {x s : Nat} (h5 : ∀ x, x < 64 → a5 x = nI (cl x)) (hx : x < 64) (hs : s < 64) : ∀ m c g, c + m = 6 →
    post (dd_b (dd_im cl x s m c g)) → wX_isMinimal_5 post (nI x) (nI s) f0_count f0_counting f0_blocks f0_isStudied f0_stemCount f0_keyCount f0_partCount f0_rows a1 a2 a3 a4 a5 a6 a7 a8 a9 a10 a11 a12 a13 a14 (m + 1) (dd_b g) (nI c) := by
  intro m
  induction m with
  | zero =>
    intro c g hc H
    exact pk_le 6 c (fun _ => ⟨dd_nar g, H⟩) (fun z => absurd z (by omega))
  | succ m ih =>
    intro c g hc H
    rw [dd_im] at H
    have IH := ih (c + 1) _ (by omega) H
    have hz : dd_an x (2 ^ c) < 64 := dd_n64 _ hx
    refine pk_le 6 c (fun z => absurd z (by omega)) (fun _ => dd_bb1 x c (fun h => ?_) (fun h => ?_) (dd_31 hx) (by omega))
    · refine dd_br g (fun hg => nm_r (nI_1 c) ?_) (fun hg => br_f (by decide) ?_)
      · rw [hg] at IH; exact IH
      · rw [dd_one c (by omega), dd_andn, nI_clamp (dd_31 hz), h5 _ hz]
        refine ⟨pk_in _ 64 hz, dd_within hs (dd_br _ (fun hw => nm_r (nI_1 c) ?_) (fun hw => nm_r (nI_1 c) ?_))⟩
        · rw [hg, h, hw] at IH; exact IH
        · rw [hg, h, hw] at IH; exact IH
    · refine dd_br g (fun hg => nm_r (nI_1 c) ?_) (fun hg => br_t rfl (nm_r (nI_1 c) ?_))
      · rw [hg] at IH; exact IH
      · rw [hg, h] at IH; exact IH
theorem dd_isMinimal {post : Int32 → Prop} {cl : Nat → Nat} {x s : Nat} (h5 : ∀ x, x < 64 → a5 x = nI (cl x)) (hx : x < 64) (hs : s < 64) (H : post (dd_b (dd_im cl x s 6 0 true))) : wpX_isMinimal post (f0_count, f0_counting, f0_blocks, f0_isStudied, f0_stemCount, f0_keyCount, f0_partCount, f0_rows, a1, a2, a3, a4, a5, a6, a7, a8, a9, a10, a11, a12, a13, a14) (nI x) (nI s) :=
  ⟨7, dd_isMinimal_l h5 hx hs 6 0 true (by omega) H⟩
theorem dd_primeIn_l {post : Int32 → Prop} {cl : Nat → Nat} {s : Nat} (h5 : ∀ x, x < 64 → a5 x = nI (cl x)) (hs : s < 64) : ∀ f x out, x ≤ f → x < 64 →
    post (nI (dd_pr cl s f x out)) → wX_primeIn_4 post (nI s) f0_count f0_counting f0_blocks f0_isStudied f0_stemCount f0_keyCount f0_partCount f0_rows a1 a2 a3 a4 a5 a6 a7 a8 a9 a10 a11 a12 a13 a14 (f + 1) (nI out) (nI x) := by
  intro f
  induction f with
  | zero =>
    intro x out hx hx' H
    exact pk_le x 0 (fun _ => H) (fun z => absurd z (by omega))
  | succ f ih =>
    intro x out hx hx' H
    rw [dd_pr] at H
    refine pk_le x 0 (fun z => ?_) (fun z => ⟨pk_in x 64 hx', ?_⟩)
    · rw [if_pos (by omega)] at H; exact H
    · rw [if_neg (by omega)] at H
      have hx2 : (x - 1) &&& s ≤ x - 1 := Nat.and_le_left
      have ex : (nI x - 1) &&& nI s = nI ((x - 1) &&& s) := by rw [dd_m1 z, dd_and]
      rw [nI_clamp (dd_31 hx'), h5 x hx']
      refine dd_within hs (dd_br _ (fun h => nm_r ex ?_) (fun h => dd_isMinimal h5 hx' hs (dd_br _ (fun h' => nm_r ex ?_) (fun h' => nm_r (dd_or _ _) (nm_r ex ?_)))))
      · rw [if_neg (by rw [h]; decide)] at H; exact ih _ _ (by omega) (by omega) H
      · rw [if_pos h, if_neg (by rw [h']; decide)] at H; exact ih _ _ (by omega) (by omega) H
      · rw [if_pos h, if_pos h'] at H; exact ih _ _ (by omega) (by omega) H
theorem dd_primeIn {post : Int32 → Prop} {cl : Nat → Nat} {s : Nat} (h5 : ∀ x, x < 64 → a5 x = nI (cl x)) (hs : s < 64) (H : post (nI (dd_pr cl s 64 s 0))) : wpX_primeIn post (f0_count, f0_counting, f0_blocks, f0_isStudied, f0_stemCount, f0_keyCount, f0_partCount, f0_rows, a1, a2, a3, a4, a5, a6, a7, a8, a9, a10, a11, a12, a13, a14) (nI s) :=
  ⟨65, dd_primeIn_l h5 hs 64 s 0 (by omega) hs H⟩
theorem dd_third {post : Int32 → St2 → Prop} {s : Nat} (hq : dd_sy D q = true) (hs : s < 64) (hu : dd_K D q T R ce u) (H : ∀ u', dd_K D q T R ce u' → post (dd_b (dd_w (dd_gi (dd_c q.1) s 64 s 0) (dd_pr (dd_c q.1) s 64 s 0))) u') : wpX_third post u (nI s) := by
  obtain ⟨f0_count, f0_counting, f0_blocks, f0_isStudied, f0_stemCount, f0_keyCount, f0_partCount, f0_rows, a1, a2, a3, a4, a5, a6, a7, a8, a9, a10, a11, a12, a13, a14⟩ := u
  unfold wpX_third
  refine dd_ok hs (br_t rfl (dd_study hq hu ?_))
  rintro ⟨f0_count, f0_counting, f0_blocks, f0_isStudied, f0_stemCount, f0_keyCount, f0_partCount, f0_rows, a1, a2, a3, a4, a5, a6, a7, a8, a9, a10, a11, a12, a13, a14⟩ ⟨rfl, hD, rfl, ⟨rfl, rfl, h5, h7, h8⟩, hT, hW⟩
  refine dd_givenIn (cl := dd_c q.1) (dd_c_lt _) h5 hs (dd_primeIn h5 hs (dd_within (dd_gi_lt (dd_c_lt _) _ _ _ (by omega)) ⟨dd_nar _, ?_⟩))
  exact H _ ⟨rfl, hD, Or.inr ⟨rfl, rfl, rfl, h5, h7, h8⟩, hT, hW⟩
theorem dd_boyce {post : Int32 → St2 → Prop} {s : Nat} (hq : dd_sy D q = true) (hs : s < 64) (hu : dd_K D q T R ce u) (H : ∀ u', dd_K D q T R ce u' → post (dd_b (dd_gi (dd_c q.1) s 64 s 0 == 0)) u') : wpX_boyce post u (nI s) := by
  obtain ⟨f0_count, f0_counting, f0_blocks, f0_isStudied, f0_stemCount, f0_keyCount, f0_partCount, f0_rows, a1, a2, a3, a4, a5, a6, a7, a8, a9, a10, a11, a12, a13, a14⟩ := u
  unfold wpX_boyce
  refine dd_ok hs (br_t rfl (dd_study hq hu ?_))
  rintro ⟨f0_count, f0_counting, f0_blocks, f0_isStudied, f0_stemCount, f0_keyCount, f0_partCount, f0_rows, a1, a2, a3, a4, a5, a6, a7, a8, a9, a10, a11, a12, a13, a14⟩ ⟨rfl, hD, rfl, ⟨rfl, rfl, h5, h7, h8⟩, hT, hW⟩
  refine dd_givenIn (cl := dd_c q.1) (dd_c_lt _) h5 hs ?_
  have HH := H (nI D.length, f0_counting, f0_blocks, 1, nI q.2.1.length, nI q.2.2.2.length, f0_partCount, f0_rows, a1, a2, a3, a4, a5, a6, a7, a8, a9, a10, a11, a12, a13, a14) ⟨rfl, hD, Or.inr ⟨rfl, rfl, rfl, h5, h7, h8⟩, hT, hW⟩
  refine ek_if (dd_z (dd_31 (dd_gi_lt (dd_c_lt _) _ _ _ (by omega)))) (fun h => ?_) (fun h => ?_)
  · rw [beq_iff_eq.mpr h] at HH; exact HH
  · rw [beq_eq_false_iff_ne.mpr h] at HH; exact HH
theorem dd_bundles_l {post : Int32 → St2 → Prop} {bl : List Nat} {y : Nat} (hi : dd_iv bl) (h4 : dd_am a4 bl) : ∀ m k g, k + m = bl.length → post (dd_b (dd_bu bl y m k g)) (f0_count, f0_counting, nI bl.length, f0_isStudied, f0_stemCount, f0_keyCount, f0_partCount, f0_rows, a1, a2, a3, a4, a5, a6, a7, a8, a9, a10, a11, a12, a13, a14) →
    wX_bundles_40 post (nI y) f0_count f0_counting (nI bl.length) f0_isStudied f0_stemCount f0_keyCount f0_partCount f0_rows a1 a2 a3 a4 a5 a6 a7 a8 a9 a10 a11 a12 a13 a14 (m + 1) (dd_b g) (nI k) := by
  have h6 := dd_iv_len hi
  intro m
  induction m with
  | zero =>
    intro k g hk H
    exact pk_le bl.length k (fun _ => ⟨dd_nar g, H⟩) (fun z => absurd z (by omega))
  | succ m ih =>
    intro k g hk H
    rw [dd_bu] at H
    have IH := ih (k + 1) _ (by omega) H
    have hb : dd_g bl k < 64 := hi.2.1 k
    have e : a4 (nI k).toNatClampNeg = nI (dd_g bl k) := dd_rd h4 rfl (by omega) (by omega)
    have hin : vp_in (nI k) 6 := pk_in k 6 (by omega)
    refine pk_le bl.length k (fun z => absurd z (by omega)) (fun _ => ⟨hin, nm_r (by rw [e, dd_and]) ?_⟩)
    refine dd_br g (fun hg => nm_r (nI_1 k) ?_) (fun hg => ?_)
    · rw [hg] at IH; exact IH
    · refine ek_if (dd_z (dd_31 (dd_a64 y hb))) (fun h => nm_r (nI_1 k) ?_) (fun h => ⟨hin, ?_⟩)
      · rw [hg, beq_iff_eq.mpr h] at IH; exact IH
      · refine ek_if (d := dd_g bl k &&& y = dd_g bl k) (by rw [e]; exact nI_eq (dd_31 (dd_a64 y hb)) (dd_31 hb)) (fun h' => nm_r (nI_1 k) ?_) (fun h' => nm_r (nI_1 k) ?_)
        · rw [hg, beq_iff_eq.mpr h', Bool.or_true] at IH; exact IH
        · rw [hg, beq_eq_false_iff_ne.mpr h, beq_eq_false_iff_ne.mpr h'] at IH; exact IH
theorem dd_bundles {post : Int32 → St2 → Prop} {x y : Nat} (hx : x < 64) (hy : y < 64) (hu : dd_K D q T R ce u) (H : ∀ u', dd_K D q T R ce u' → post (dd_b (dd_bu (dd_fb D (2 ^ D.length - 1) x) y (dd_fb D (2 ^ D.length - 1) x).length 0 true)) u') : wpX_bundles post u (nI x) (nI y) := by
  obtain ⟨f0_count, f0_counting, f0_blocks, f0_isStudied, f0_stemCount, f0_keyCount, f0_partCount, f0_rows, a1, a2, a3, a4, a5, a6, a7, a8, a9, a10, a11, a12, a13, a14⟩ := u
  obtain ⟨rfl, hD, hs, hT, hW⟩ := hu
  unfold wpX_bundles
  refine dd_ok hx (br_t rfl (dd_ok hy (br_t rfl (nm_r (dd_full hD.1) ?_))))
  refine dd_findBasis_2 hD (dd_p10 hD.1) hx (fun a4' h4' => ⟨(dd_fb D (2 ^ D.length - 1) x).length + 1, ?_⟩)
  exact dd_bundles_l (dd_fb_iv (dd_D_dl hD) hx) h4' _ 0 true (by omega) (H _ ⟨rfl, hD, hs, hT, hW⟩)
theorem dd_fourth_l {post : Int32 → St2 → Prop} (hc : ∀ x, x < 64 → a5 x = nI (dd_c q.1 x)) (hD : dd_D a1 a2 a3 D) : ∀ m x f0_blocks a4, x + m = 64 → (∀ b a4, post (dd_b (dd_fr D (dd_c q.1) m x)) (nI D.length, nI (2 ^ D.length - 1), b, f0_isStudied, f0_stemCount, f0_keyCount, f0_partCount, f0_rows, a1, a2, a3, a4, a5, a6, a7, a8, a9, a10, a11, a12, a13, a14)) →
    wX_fourth_20 post (m + 1) 1 (nI x) (nI D.length) (nI (2 ^ D.length - 1)) f0_blocks f0_isStudied f0_stemCount f0_keyCount f0_partCount f0_rows a1 a2 a3 a4 a5 a6 a7 a8 a9 a10 a11 a12 a13 a14 := by
  intro m
  induction m with
  | zero =>
    intro x f0_blocks a4 hx H
    exact pk_le 64 x (fun _ => ⟨dd_nar true, H _ _⟩) (fun z => absurd z (by omega))
  | succ m ih =>
    intro x f0_blocks a4 hx H
    rw [dd_fr] at H
    refine pk_le 64 x (fun z => absurd z (by omega)) (fun _ => br_f (by decide) ⟨pk_in x 64 (by omega), ?_⟩)
    refine ek_if (d := dd_c q.1 x = 63) (by rw [nI_clamp (by omega), hc x (by omega)]; exact nI_eq (b := 63) (dd_31 (dd_c_lt _ _)) (by omega)) (fun h => nm_r (nI_1 x) ?_) (fun h => ?_)
    · simp only [if_pos h] at H
      exact ih (x + 1) _ a4 (by omega) H
    · simp only [if_neg h] at H
      have hl := dd_iv_len (dd_fb_iv (ct := 2 ^ D.length - 1) (x := x) (dd_D_dl hD) (by omega))
      refine dd_findBasis_2 hD (dd_p10 hD.1) (by omega) (fun a4' h4' => ?_)
      refine pk_lt 1 (dd_fb D (2 ^ D.length - 1) x).length (fun h' => nm_r (nI_1 x) ?_) (fun h' => nm_r (nI_1 x) ?_)
      · simp only [if_pos h'] at H
        exact pk_le 64 (x + 1) (fun _ => ⟨dd_nar false, H _ _⟩) (fun z => br_t rfl ⟨dd_nar false, H _ _⟩)
      · simp only [if_neg (show ¬ 1 < (dd_fb D (2 ^ D.length - 1) x).length by omega)] at H
        exact ih (x + 1) _ a4' (by omega) H
theorem dd_fourth {post : Int32 → St2 → Prop} (hq : dd_sy D q = true) (hu : dd_K D q T R ce u) (H : ∀ u', dd_K D q T R ce u' → post (dd_b (dd_fr D (dd_c q.1) 64 0)) u') : wpX_fourth post u := by
  obtain ⟨f0_count, f0_counting, f0_blocks, f0_isStudied, f0_stemCount, f0_keyCount, f0_partCount, f0_rows, a1, a2, a3, a4, a5, a6, a7, a8, a9, a10, a11, a12, a13, a14⟩ := u
  unfold wpX_fourth
  refine dd_study hq hu ?_
  rintro ⟨f0_count, f0_counting, f0_blocks, f0_isStudied, f0_stemCount, f0_keyCount, f0_partCount, f0_rows, a1, a2, a3, a4, a5, a6, a7, a8, a9, a10, a11, a12, a13, a14⟩ ⟨rfl, hD, rfl, ⟨rfl, rfl, h5, h7, h8⟩, hT, hW⟩
  refine nm_r (dd_full hD.1) ⟨65, dd_fourth_l h5 hD 64 0 _ _ (by omega) (fun b a4 => ?_)⟩
  exact H _ ⟨rfl, hD, Or.inr ⟨rfl, rfl, rfl, h5, h7, h8⟩, hT, hW⟩
theorem dd_bitsOf_l {post : Int32 → Prop} {s : Nat} (hs : s < 2 ^ 31) : ∀ m d n, d + m = 10 → post (nI (dd_bo s m d n)) → wX_bitsOf_4 post (nI s) f0_count f0_counting f0_blocks f0_isStudied f0_stemCount f0_keyCount f0_partCount f0_rows a1 a2 a3 a4 a5 a6 a7 a8 a9 a10 a11 a12 a13 a14 (m + 1) (nI n) (nI d) := by
  intro m
  induction m with
  | zero => intro d n hd H; exact pk_le 10 d (fun _ => H) (fun z => absurd z (by omega))
  | succ m ih =>
    intro d n hd H
    refine pk_le 10 d (fun z => absurd z (by omega)) (fun _ => nm_r (by rw [dd_bitN hs (by omega), nI_add]) (nm_r (nI_1 d) (ih _ _ (by omega) H)))
theorem dd_bitsOf {post : Int32 → Prop} {s : Nat} (hs : s < 2 ^ 31) (H : post (nI (dd_bo s 10 0 0))) : wpX_bitsOf post (f0_count, f0_counting, f0_blocks, f0_isStudied, f0_stemCount, f0_keyCount, f0_partCount, f0_rows, a1, a2, a3, a4, a5, a6, a7, a8, a9, a10, a11, a12, a13, a14) (nI s) := ⟨11, dd_bitsOf_l hs 10 0 0 (by omega) H⟩
theorem dd_bo_le (s : Nat) : ∀ m d n, dd_bo s m d n ≤ n + m := by
  intro m
  induction m with
  | zero => intro d n; exact Nat.le_refl _
  | succ m ih =>
    intro d n
    rw [dd_bo]
    have := ih (d + 1) (n + (s >>> d) % 2)
    have : (s >>> d) % 2 < 2 := Nat.mod_lt _ (by omega)
    omega
theorem dd_sets {n : Nat} (h : n ≤ 10) : (1 : Int32) <<< (nI n &&& 31) = nI (2 ^ n) := dd_one n (by omega)
theorem dd_needs_l {post : Int32 → St2 → Prop} {x y : Nat} (hD : dd_D a1 a2 a3 D) (hx : x < 64) (hy : y < 64) : ∀ m s best f0_counting f0_blocks a4, s + m = 2 ^ D.length → best ≤ 11 → (∀ ct b a4, post (nI (dd_ne D x y m s best)) (nI D.length, ct, b, f0_isStudied, f0_stemCount, f0_keyCount, f0_partCount, f0_rows, a1, a2, a3, a4, a5, a6, a7, a8, a9, a10, a11, a12, a13, a14)) →
    wX_needs_51 post (nI x) (nI y) (m + 1) (nI best) (nI s) (nI D.length) f0_counting f0_blocks f0_isStudied f0_stemCount f0_keyCount f0_partCount f0_rows a1 a2 a3 a4 a5 a6 a7 a8 a9 a10 a11 a12 a13 a14 := by
  have h10 := hD.1
  have hp : 2 ^ D.length ≤ 1024 := Nat.pow_le_pow_right (by omega) h10
  intro m
  induction m with
  | zero =>
    intro s best f0_counting f0_blocks a4 hs hb H
    exact pk_le (2 ^ D.length) s (fun _ => H _ _ _) (fun z => absurd z (by omega)) (dd_sets h10)
  | succ m ih =>
    intro s best f0_counting f0_blocks a4 hs hb H
    rw [dd_ne] at H
    have hbo := dd_bo_le s 10 0 0
    refine pk_le (2 ^ D.length) s (fun z => absurd z (by omega)) (fun _ => dd_bitsOf (by omega) ?_) (dd_sets h10)
    refine pk_le best (dd_bo s 10 0 0) (fun h => nm_r (nI_1 s) ?_) (fun h => ?_)
    · simp only [if_pos h] at H
      exact ih (s + 1) best _ _ a4 (by omega) hb H
    · simp only [if_neg (show ¬ best ≤ dd_bo s 10 0 0 by omega)] at H
      refine dd_closeSet_2 hD (by omega) hx (fun b a4' => dd_within hy (dd_br _ (fun hw => nm_r (nI_1 s) ?_) (fun hw => nm_r (nI_1 s) ?_)))
      · simp only [hw] at H
        exact ih (s + 1) best _ _ a4' (by omega) hb H
      · simp only [hw] at H
        exact ih (s + 1) _ _ _ a4' (by omega) (by omega) H
theorem dd_needs {post : Int32 → St2 → Prop} {x y : Nat} (hq : dd_sy D q = true) (hx : x < 64) (hy : y < 64) (hu : dd_K D q T R ce u) (H : ∀ u', dd_K D q T R ce u' → post (if dd_w y (dd_c q.1 x) = true then nI (dd_ne D x y (2 ^ D.length) 0 11) else -3) u') : wpX_needs post u (nI x) (nI y) := by
  obtain ⟨f0_count, f0_counting, f0_blocks, f0_isStudied, f0_stemCount, f0_keyCount, f0_partCount, f0_rows, a1, a2, a3, a4, a5, a6, a7, a8, a9, a10, a11, a12, a13, a14⟩ := u
  unfold wpX_needs
  refine dd_ok hx (br_t rfl (dd_ok hy (br_t rfl (br_t rfl (dd_follows hq hx hy hu ?_)))))
  rintro ⟨f0_count, f0_counting, f0_blocks, f0_isStudied, f0_stemCount, f0_keyCount, f0_partCount, f0_rows, a1, a2, a3, a4, a5, a6, a7, a8, a9, a10, a11, a12, a13, a14⟩ ⟨rfl, hD, hs, hT, hW⟩
  refine dd_br _ (fun h => ?_) (fun h => ⟨2 ^ D.length + 1, ?_⟩)
  · simp only [h] at H
    exact H _ ⟨rfl, hD, hs, hT, hW⟩
  · simp only [h] at H
    exact dd_needs_l hD hx hy _ 0 11 _ _ _ (by omega) (by omega) (fun ct b a4 => H _ ⟨rfl, hD, hs, hT, hW⟩)
end
end
section
/-! pictures of parts. L: the symbols, n: how many parts -/
def dd_sa (L : List Nat) (p q S : Nat) : Nat → Nat → Bool → Bool
  | 0, _, g => g
  | m + 1, c, g => dd_sa L p q S m (c + 1) (g && (!S.testBit c || dd_g L (6 * p + c) == dd_g L (6 * q + c)))
def dd_js (c hi lo : Nat) : Nat → Nat → List Nat → List Nat
  | 0, _, L => L
  | m + 1, p, L => dd_js c hi lo m (p + 1) (L.set (6 * p + c) (if dd_g L (6 * p + c) = hi then lo else dd_g L (6 * p + c)))
def dd_jk (c n a b : Nat) (L : List Nat) : List Nat := dd_js c (if b ≤ a then a else b) (if b ≤ a then b else a) n 0 L
def dd_jr (r p q n : Nat) : Nat → Nat → List Nat → Bool → List Nat × Bool
  | 0, _, L, any => (L, any)
  | m + 1, c, L, any => if r.testBit c = true then dd_jr r p q n m (c + 1) (dd_jk c n (dd_g L (6 * p + c)) (dd_g L (6 * q + c)) L) (any || !(dd_g L (6 * p + c) == dd_g L (6 * q + c))) else dd_jr r p q n m (c + 1) L any
def dd_jo (e : Nat × Nat × Bool) (n p q : Nat) (L : List Nat) : List Nat × Bool := if dd_sa L p q e.1 6 0 true = true then dd_jr e.2.1 p q n 6 0 L false else (L, false)
def dd_jp (e : Nat × Nat × Bool) (n : Nat) : Nat → Nat → List Nat → Bool → List Nat × Bool
  | 0, _, L, any => (L, any)
  | m + 1, pr, L, any => if pr % 4 ≤ pr / 4 then dd_jp e n m (pr + 1) L any else if n ≤ pr % 4 then dd_jp e n m (pr + 1) L any
    else dd_jp e n m (pr + 1) (dd_jo e n (pr / 4) (pr % 4) L).1 (any || (dd_jo e n (pr / 4) (pr % 4) L).2)
def dd_ja (D : List (Nat × Nat × Bool)) (n : Nat) : Nat → Nat → List Nat → Bool → List Nat × Bool
  | 0, _, L, any => (L, any)
  | m + 1, d, L, any => if (dd_d D d).2.2 = true then dd_ja D n m (d + 1) L any else dd_ja D n m (d + 1) (dd_jp (dd_d D d) n 16 0 L any).1 (dd_jp (dd_d D d) n 16 0 L any).2
def dd_lr (D : List (Nat × Nat × Bool)) (n : Nat) : Nat → List Nat → List Nat
  | 0, L => L
  | m + 1, L => if (dd_ja D n D.length 0 L false).2 = true then dd_lr D n m (dd_ja D n D.length 0 L false).1 else (dd_ja D n D.length 0 L false).1
def dd_fc (s p : Nat) : Nat → Nat → List Nat → List Nat
  | 0, _, L => L
  | m + 1, c, L => dd_fc s p m (c + 1) (L ++ [if s.testBit c = true then 0 else p + 1])
def dd_fp (T : List Nat) : Nat → Nat → List Nat → List Nat
  | 0, _, L => L
  | m + 1, p, L => dd_fp T m (p + 1) (dd_fc (dd_g T p) p 6 0 L)
def dd_kn (L : List Nat) (p : Nat) : Nat → Nat → Bool → Bool
  | 0, _, g => g
  | m + 1, c, g => dd_kn L p m (c + 1) (g && dd_g L (6 * p + c) == 0)
def dd_ln (L : List Nat) : Nat → Nat → Bool → Bool
  | 0, _, any => any
  | m + 1, p, any => dd_ln L m (p + 1) (any || dd_kn L p 6 0 true)
/-- lossless -/
def dd_ll (D : List (Nat × Nat × Bool)) (T : List Nat) : Bool := if T.length = 0 then false else dd_ln (dd_lr D T.length 20 (dd_fp T T.length 0 [])) T.length 0 false
def dd_sn (D : List (Nat × Nat × Bool)) : Nat → Nat → Nat → Nat
  | 0, _, s => s
  | m + 1, d, s => dd_sn D m (d + 1) (if (dd_d D d).2.2 = true then s else s ||| 2 ^ d)
def dd_pi (D : List (Nat × Nat × Bool)) (ct : Nat) (T : List Nat) : Nat → Nat → Nat → Nat
  | 0, _, out => out
  | m + 1, p, out => dd_pi D ct T m (p + 1) (out ||| (dd_cs D ct (out &&& dd_g T p) &&& dd_g T p))
def dd_po (D : List (Nat × Nat × Bool)) (ct : Nat) (T : List Nat) : Nat → Nat → Nat
  | 0, out => out
  | m + 1, out => if dd_pi D ct T T.length 0 out = out then out else dd_po D ct T m (dd_pi D ct T T.length 0 out)
def dd_pv (D : List (Nat × Nat × Bool)) (ct : Nat) (T : List Nat) : Nat → Nat → Bool → Bool
  | 0, _, g => g
  | m + 1, d, g => dd_pv D ct T m (d + 1) (if (dd_d D d).2.2 = true then g else (g && dd_w (dd_d D d).2.1 (dd_po D ct T 7 (dd_d D d).1)))
end
section
section
variable {f0_count f0_counting f0_blocks f0_isStudied f0_stemCount f0_keyCount f0_partCount f0_rows : Int32} {a1 a2 a3 a4 a5 a6 a7 a8 a9 a10 a11 a12 a13 a14 : Nat → Int32}
variable {D : List (Nat × Nat × Bool)} {q : Nat × List Nat × Nat × List Nat} {T : List Nat} {R : Nat} {ce : Nat → Nat} {u : St2}
theorem dd_d_push (D : List (Nat × Nat × Bool)) (e : Nat × Nat × Bool) (i : Nat) (h : i < D.length) : dd_d (D ++ [e]) i = dd_d D i := by
  unfold dd_d
  simp only [List.getD_eq_getElem?_getD]
  rw [List.getElem?_append_left h]
theorem dd_d_last (D : List (Nat × Nat × Bool)) (e : Nat × Nat × Bool) : dd_d (D ++ [e]) D.length = e := by
  unfold dd_d
  simp
theorem dd_give {post : Int32 → St2 → Prop} {x y b : Nat} {q' : Nat × List Nat × Nat × List Nat} (hx : x < 64) (hy : y < 64) (hb : b < 2 ^ 31) (hl : D.length < 10) (hu : dd_K D q T R ce u)
    (H : ∀ u', dd_K (D ++ [(x, y, !(b == 0))]) q' T R ce u' → post (nI D.length) u') : wpX_give post u (nI x) (nI y) (nI b) := by
  obtain ⟨f0_count, f0_counting, f0_blocks, f0_isStudied, f0_stemCount, f0_keyCount, f0_partCount, f0_rows, a1, a2, a3, a4, a5, a6, a7, a8, a9, a10, a11, a12, a13, a14⟩ := u
  obtain ⟨rfl, hD, hs, hT, hW⟩ := hu
  have hcl : (nI D.length).toNatClampNeg = D.length := nI_clamp (by omega)
  have hin : vp_in (nI D.length) 10 := pk_in D.length 10 hl
  have key : ∀ z, z = dd_b (!(b == 0)) → ∀ a1' a2', a1' = upd a1 D.length (nI x) → a2' = upd a2 D.length (nI y) →
      wX_give_67 post z (nI D.length) (nI D.length) f0_counting f0_blocks f0_isStudied f0_stemCount f0_keyCount f0_partCount f0_rows a1' a2' a3 a4 a5 a6 a7 a8 a9 a10 a11 a12 a13 a14 := by
    intro z hz a1' a2' h1 h2
    refine ⟨hin, nm_e (nm_r (nI_1 _) ?_)⟩
    rw [nI_pred]
    refine H _ ⟨?_, ⟨?_, ?_⟩, Or.inl rfl, hT, hW⟩
    · rw [List.length_append]; rfl
    · rw [List.length_append]; simp; omega
    · intro i hi
      rw [List.length_append] at hi
      simp at hi
      rw [h1, h2, hcl]
      by_cases e : i = D.length
      · subst e
        rw [dd_d_last, pk_us, pk_us, pk_us, hz]
        refine ⟨rfl, rfl, ?_, hx, hy⟩
        cases (!(b == 0)) <;> rfl
      · have hi' : i < D.length := by omega
        rw [dd_d_push _ _ _ hi', pk_un e, pk_un e, pk_un e]
        exact hD.2 i hi'
  unfold wpX_give
  refine dd_ok hx (br_t rfl (dd_ok hy (br_t rfl (pk_eq D.length 10 (fun z => absurd z (by omega)) (fun _ => ⟨hin, nm_r (by rw [hcl]) ⟨hin, nm_r (by rw [hcl]) ?_⟩⟩)))))
  refine ek_if (dd_z hb) (fun h => key 0 ?_ _ _ rfl rfl) (fun h => key 1 ?_ _ _ rfl rfl)
  · rw [beq_iff_eq.mpr h]; rfl
  · rw [beq_eq_false_iff_ne.mpr h]; rfl
theorem dd_give_full {post : Int32 → St2 → Prop} {x y : Nat} {b : Int32} (hx : x < 64) (hy : y < 64) (hl : D.length = 10) (hu : dd_K D q T R ce u)
    (H : ∀ u', dd_K D q T R ce u' → post (-2) u') : wpX_give post u (nI x) (nI y) b := by
  obtain ⟨f0_count, f0_counting, f0_blocks, f0_isStudied, f0_stemCount, f0_keyCount, f0_partCount, f0_rows, a1, a2, a3, a4, a5, a6, a7, a8, a9, a10, a11, a12, a13, a14⟩ := u
  obtain ⟨rfl, hD, hs, hT, hW⟩ := hu
  unfold wpX_give
  exact dd_ok hx (br_t rfl (dd_ok hy (br_t rfl (pk_eq D.length 10 (fun _ => H _ ⟨rfl, hD, hs, hT, hW⟩) (fun z => absurd hl z)))))
theorem dd_take {post : Int32 → St2 → Prop} {D' : List (Nat × Nat × Bool)} {e : Nat × Nat × Bool} {q' : Nat × List Nat × Nat × List Nat} (he : D = D' ++ [e]) (hu : dd_K D q T R ce u)
    (H : ∀ u', dd_K D' q' T R ce u' → post (nI D'.length) u') : wpX_take post u := by
  obtain ⟨f0_count, f0_counting, f0_blocks, f0_isStudied, f0_stemCount, f0_keyCount, f0_partCount, f0_rows, a1, a2, a3, a4, a5, a6, a7, a8, a9, a10, a11, a12, a13, a14⟩ := u
  obtain ⟨rfl, hD, hs, hT, hW⟩ := hu
  have h10 := hD.1
  subst he
  rw [List.length_append] at *
  unfold wpX_take
  refine br_f (nI_ne0 (by simp) (by omega)) (nm_r (e' := nI D'.length) (nI_pred _) (H _ ⟨rfl, ⟨?_, ?_⟩, Or.inl rfl, hT, hW⟩))
  · simp at h10; omega
  · intro i hi
    have := hD.2 i (by simp; omega)
    rw [dd_d_push _ _ _ hi] at this
    exact this
theorem dd_take_0 {post : Int32 → St2 → Prop} (hu : dd_K [] q T R ce u) (H : ∀ u', dd_K [] q T R ce u' → post (-3) u') : wpX_take post u := by
  obtain ⟨f0_count, f0_counting, f0_blocks, f0_isStudied, f0_stemCount, f0_keyCount, f0_partCount, f0_rows, a1, a2, a3, a4, a5, a6, a7, a8, a9, a10, a11, a12, a13, a14⟩ := u
  obtain ⟨rfl, hD, hs, hT, hW⟩ := hu
  exact br_t rfl (H _ ⟨rfl, hD, hs, hT, hW⟩)
theorem dd_part {post : Int32 → St2 → Prop} {s : Nat} (hs : s < 64) (hl : T.length < 4) (hu : dd_K D q T R ce u) (H : ∀ u', dd_K D q (T ++ [s]) R ce u' → post (nI (T.length + 1)) u') : wpX_part post u (nI s) := by
  obtain ⟨f0_count, f0_counting, f0_blocks, f0_isStudied, f0_stemCount, f0_keyCount, f0_partCount, f0_rows, a1, a2, a3, a4, a5, a6, a7, a8, a9, a10, a11, a12, a13, a14⟩ := u
  obtain ⟨rfl, hD, hst, ⟨rfl, hT1, hT2, hT3⟩, hW⟩ := hu
  unfold wpX_part
  refine dd_ok hs (br_t rfl (pk_eq T.length 4 (fun z => absurd z (by omega)) (fun _ => ⟨pk_in T.length 4 hl, nm_e (nm_r (nI_1 _) (H _ ⟨rfl, hD, hst, ⟨?_, ?_, dd_lt_push hT2 hs, dd_am_push hT3 rfl (by omega) rfl⟩, hW⟩))⟩)))
  · rw [List.length_append]; rfl
  · rw [List.length_append]; simp; omega
theorem dd_part_full {post : Int32 → St2 → Prop} {s : Nat} (hs : s < 64) (hl : T.length = 4) (hu : dd_K D q T R ce u) (H : ∀ u', dd_K D q T R ce u' → post (-2) u') : wpX_part post u (nI s) := by
  obtain ⟨f0_count, f0_counting, f0_blocks, f0_isStudied, f0_stemCount, f0_keyCount, f0_partCount, f0_rows, a1, a2, a3, a4, a5, a6, a7, a8, a9, a10, a11, a12, a13, a14⟩ := u
  obtain ⟨rfl, hD, hst, ⟨rfl, hT1, hT2, hT3⟩, hW⟩ := hu
  unfold wpX_part
  exact dd_ok hs (br_t rfl (pk_eq T.length 4 (fun _ => H _ ⟨rfl, hD, hst, ⟨rfl, hT1, hT2, hT3⟩, hW⟩) (fun z => absurd hl z)))
theorem dd_whole {post : St2 → Prop} (hu : dd_K D q T R ce u) (H : ∀ u', dd_K D q [] R ce u' → post u') : wpX_whole post u := by
  obtain ⟨f0_count, f0_counting, f0_blocks, f0_isStudied, f0_stemCount, f0_keyCount, f0_partCount, f0_rows, a1, a2, a3, a4, a5, a6, a7, a8, a9, a10, a11, a12, a13, a14⟩ := u
  obtain ⟨rfl, hD, hst, hT, hW⟩ := hu
  exact H _ ⟨rfl, hD, hst, ⟨rfl, by simp, dd_lt_nil (by omega), dd_am_nil⟩, hW⟩
theorem dd_sameSymbols_l {post : Int32 → Prop} {L : List Nat} {n p t S : Nat} (h10 : dd_am a10 L) (hL : dd_lt 64 L) (hl : L.length = 6 * n) (hn : n ≤ 4) (hp : p < n) (ht : t < n) (hS : S < 64) : ∀ m c g, c + m = 6 →
    post (dd_b (dd_sa L p t S m c g)) → wX_sameSymbols_6 post (nI p) (nI t) (nI S) f0_count f0_counting f0_blocks f0_isStudied f0_stemCount f0_keyCount f0_partCount f0_rows a1 a2 a3 a4 a5 a6 a7 a8 a9 a10 a11 a12 a13 a14 (m + 1) (dd_b g) (nI c) := by
  intro m
  induction m with
  | zero => intro c g hc H; exact pk_le 6 c (fun _ => ⟨dd_nar g, H⟩) (fun z => absurd z (by omega))
  | succ m ih =>
    intro c g hc H
    rw [dd_sa] at H
    have IH := ih (c + 1) _ (by omega) H
    refine pk_le 6 c (fun z => absurd z (by omega)) (fun _ => dd_br g (fun hg => nm_r (nI_1 c) ?_) (fun hg => dd_bb0 S c (fun h => nm_r (nI_1 c) ?_) (fun h => ?_) (dd_31 hS) (by omega)))
    · rw [hg] at IH; exact IH
    · rw [hg, h] at IH; exact IH
    · refine ⟨pk_in (6 * p + c) 24 (by omega) (dd_i6 p c), pk_in (6 * t + c) 24 (by omega) (dd_i6 t c), ?_⟩
      refine ek_if (d := dd_g L (6 * p + c) = dd_g L (6 * t + c)) (by rw [dd_rd h10 (dd_i6 p c) (by omega) (by omega), dd_rd h10 (dd_i6 t c) (by omega) (by omega)]; exact nI_eq (dd_31 (hL _)) (dd_31 (hL _))) (fun h' => nm_r (nI_1 c) ?_) (fun h' => nm_r (nI_1 c) ?_)
      · rw [hg, h, beq_iff_eq.mpr h'] at IH; exact IH
      · rw [hg, h, beq_eq_false_iff_ne.mpr h'] at IH; exact IH
theorem dd_js_len {c hi lo : Nat} : ∀ m p L, (dd_js c hi lo m p L).length = L.length := by
  intro m
  induction m with
  | zero => intro p L; rfl
  | succ m ih => intro p L; rw [dd_js, ih, List.length_set]
theorem dd_js_lt {c hi lo : Nat} (hlo : lo < 64) : ∀ m p L, dd_lt 64 L → dd_lt 64 (dd_js c hi lo m p L) := by
  intro m
  induction m with
  | zero => intro p L h; exact h
  | succ m ih =>
    intro p L h
    rw [dd_js]
    refine ih _ _ (dd_lt_set h ?_)
    split
    · exact hlo
    · exact h _
theorem dd_joinSymbols_l {post : Int32 → St2 → Prop} {n c a b hi lo : Nat} (hn : n ≤ 4) (hc : c < 6) (ha : a < 64) (hb : b < 64) (hhi : hi < 64) (hlo : lo < 64) : ∀ m p L a10, p + m = n → L.length = 6 * n → dd_lt 64 L → dd_am a10 L →
    (∀ a10', dd_am a10' (dd_js c hi lo m p L) → post (dd_b (!(a == b))) (f0_count, f0_counting, f0_blocks, f0_isStudied, f0_stemCount, f0_keyCount, nI n, f0_rows, a1, a2, a3, a4, a5, a6, a7, a8, a9, a10', a11, a12, a13, a14)) →
    wX_joinSymbols_27 post (nI c) (nI a) (nI b) (nI lo) (nI hi) f0_count f0_counting f0_blocks f0_isStudied f0_stemCount f0_keyCount (nI n) f0_rows (m + 1) (nI p) a1 a2 a3 a4 a5 a6 a7 a8 a9 a10 a11 a12 a13 a14 := by
  intro m
  induction m with
  | zero =>
    intro p L a10 hp hl hL h10 H
    have HH := H a10 h10
    refine pk_le n p (fun _ => pk_eq a b (fun h => ?_) (fun h => ?_)) (fun z => absurd z (by omega))
    · rw [beq_iff_eq.mpr h] at HH; exact HH
    · rw [beq_eq_false_iff_ne.mpr h] at HH; exact HH
  | succ m ih =>
    intro p L a10 hp hl hL h10 H
    have hin : vp_in (6 * nI p + nI c) 24 := pk_in (6 * p + c) 24 (by omega) (dd_i6 p c)
    have e : a10 (6 * nI p + nI c).toNatClampNeg = nI (dd_g L (6 * p + c)) := dd_rd h10 (dd_i6 p c) (by omega) (by omega)
    rw [dd_js] at H
    refine pk_le n p (fun z => absurd z (by omega)) (fun _ => ⟨hin, ?_⟩)
    refine ek_if (d := dd_g L (6 * p + c) = hi) (by rw [e]; exact nI_eq (dd_31 (hL _)) (dd_31 hhi)) (fun h => ⟨hin, nm_e (nm_r (nI_1 p) ?_)⟩) (fun h => ⟨hin, hin, nm_e (nm_r (nI_1 p) ?_)⟩)
    · rw [if_pos h] at H
      exact ih (p + 1) _ _ (by omega) (by rw [List.length_set, hl]) (dd_lt_set hL hlo) (dd_am_set h10 (dd_i6 p c) (by omega) rfl) H
    · rw [if_neg h] at H
      exact ih (p + 1) _ _ (by omega) (by rw [List.length_set, hl]) (dd_lt_set hL (hL _)) (dd_am_set h10 (dd_i6 p c) (by omega) e) H
theorem dd_jk_len {c n a b : Nat} {L : List Nat} : (dd_jk c n a b L).length = L.length := dd_js_len _ _ _
theorem dd_jk_lt {c n a b : Nat} {L : List Nat} (ha : a < 64) (hb : b < 64) (h : dd_lt 64 L) : dd_lt 64 (dd_jk c n a b L) := by
  unfold dd_jk
  refine dd_js_lt ?_ _ _ _ h
  split
  · exact hb
  · exact ha
theorem dd_joinSymbols {post : Int32 → St2 → Prop} {n c a b : Nat} {L : List Nat} (hn : n ≤ 4) (hc : c < 6) (ha : a < 64) (hb : b < 64) (hl : L.length = 6 * n) (hL : dd_lt 64 L) (h10 : dd_am a10 L)
    (H : ∀ a10', dd_am a10' (dd_jk c n a b L) → post (dd_b (!(a == b))) (f0_count, f0_counting, f0_blocks, f0_isStudied, f0_stemCount, f0_keyCount, nI n, f0_rows, a1, a2, a3, a4, a5, a6, a7, a8, a9, a10', a11, a12, a13, a14)) :
    wpX_joinSymbols post (f0_count, f0_counting, f0_blocks, f0_isStudied, f0_stemCount, f0_keyCount, nI n, f0_rows, a1, a2, a3, a4, a5, a6, a7, a8, a9, a10, a11, a12, a13, a14) (nI c) (nI a) (nI b) := by
  unfold wpX_joinSymbols
  unfold dd_jk at H
  refine pk_le b a (fun h => pk_le b a (fun _ => ⟨n + 1, ?_⟩) (fun z => absurd z (by omega))) (fun h => pk_le b a (fun z => absurd z (by omega)) (fun _ => ⟨n + 1, ?_⟩))
  · rw [if_pos h, if_pos h] at H
    exact dd_joinSymbols_l hn hc ha hb ha hb n 0 L a10 (by omega) hl hL h10 H
  · rw [if_neg (by omega), if_neg (by omega)] at H
    exact dd_joinSymbols_l hn hc ha hb hb ha n 0 L a10 (by omega) hl hL h10 H
theorem dd_jr_ok {r p t n : Nat} : ∀ m c L any, dd_lt 64 L → dd_lt 64 (dd_jr r p t n m c L any).1 ∧ (dd_jr r p t n m c L any).1.length = L.length := by
  intro m
  induction m with
  | zero => intro c L any h; exact ⟨h, rfl⟩
  | succ m ih =>
    intro c L any h
    rw [dd_jr]
    split
    · have := ih (c + 1) (dd_jk c n (dd_g L (6 * p + c)) (dd_g L (6 * t + c)) L) (any || !(dd_g L (6 * p + c) == dd_g L (6 * t + c))) (dd_jk_lt (h _) (h _) h)
      rw [dd_jk_len] at this
      exact this
    · exact ih _ _ _ h
theorem dd_joinRows_l {post : Int32 → St2 → Prop} {n p t d : Nat} (hD : dd_D a1 a2 a3 D) (hd : d < D.length) (hn : n ≤ 4) (hp : p < n) (ht : t < n) : ∀ m c L any a10, c + m = 6 → L.length = 6 * n → dd_lt 64 L → dd_am a10 L →
    (∀ a10', dd_am a10' (dd_jr (dd_d D d).2.1 p t n m c L any).1 → post (dd_b (dd_jr (dd_d D d).2.1 p t n m c L any).2) (f0_count, f0_counting, f0_blocks, f0_isStudied, f0_stemCount, f0_keyCount, nI n, f0_rows, a1, a2, a3, a4, a5, a6, a7, a8, a9, a10', a11, a12, a13, a14)) →
    wX_joinRows_21 post (nI p) (nI t) (nI d) (m + 1) (dd_b any) (nI c) f0_count f0_counting f0_blocks f0_isStudied f0_stemCount f0_keyCount (nI n) f0_rows a1 a2 a3 a4 a5 a6 a7 a8 a9 a10 a11 a12 a13 a14 := by
  have hd10 := hD.1
  obtain ⟨e1, e2, e3, hll, hr⟩ := hD.2 d hd
  have hcl : (nI d).toNatClampNeg = d := nI_clamp (by omega)
  have hin : vp_in (nI d) 10 := pk_in d 10 (by omega)
  intro m
  induction m with
  | zero => intro c L any a10 hc hl hL h10 H; exact pk_le 6 c (fun _ => ⟨dd_nar any, H a10 h10⟩) (fun z => absurd z (by omega))
  | succ m ih =>
    intro c L any a10 hc hl hL h10 H
    rw [dd_jr] at H
    refine pk_le 6 c (fun z => absurd z (by omega)) (fun _ => ⟨hin, ?_⟩)
    refine ek_if (d := (dd_d D d).2.1.testBit c = true) (by rw [hcl, e2]; exact dd_bit1 (dd_31 hr) (by omega)) (fun h => ⟨pk_in (6 * p + c) 24 (by omega) (dd_i6 p c), pk_in (6 * t + c) 24 (by omega) (dd_i6 t c), ?_⟩) (fun h => ?_)
    · rw [if_pos h] at H
      rw [dd_rd h10 (dd_i6 p c) (by omega) (by omega), dd_rd h10 (dd_i6 t c) (by omega) (by omega)]
      refine dd_joinSymbols hn (by omega) (hL _) (hL _) hl hL h10 (fun a10' h10' => ?_)
      have IH := ih (c + 1) _ _ a10' (by omega) (by rw [dd_jk_len, hl]) (dd_jk_lt (hL _) (hL _) hL) h10' H
      refine dd_br _ (fun hb => dd_br any (fun ha => br_t rfl (nm_r (nI_1 c) ?_)) (fun ha => nm_r (nI_1 c) ?_)) (fun hb => dd_br any (fun ha => br_f (by decide) (nm_r (nI_1 c) ?_)) (fun ha => nm_r (nI_1 c) ?_))
      · rw [ha, hb] at IH; exact IH
      · rw [ha] at IH; exact IH
      · rw [ha, hb] at IH; exact IH
      · rw [ha] at IH; exact IH
    · rw [if_neg h] at H
      have IH := ih (c + 1) L any a10 (by omega) hl hL h10 H
      refine dd_br any (fun ha => br_t rfl (nm_r (nI_1 c) ?_)) (fun ha => nm_r (nI_1 c) ?_)
      · rw [ha] at IH; exact IH
      · rw [ha] at IH; exact IH
theorem dd_jo_ok {e : Nat × Nat × Bool} {n p t : Nat} {L : List Nat} (h : dd_lt 64 L) : dd_lt 64 (dd_jo e n p t L).1 ∧ (dd_jo e n p t L).1.length = L.length := by
  unfold dd_jo
  split
  · exact dd_jr_ok _ _ _ _ h
  · exact ⟨h, rfl⟩
theorem dd_joinRows {post : Int32 → St2 → Prop} {n p t d : Nat} {L : List Nat} (hD : dd_D a1 a2 a3 D) (hd : d < D.length) (hn : n ≤ 4) (hp : p < n) (ht : t < n) (hl : L.length = 6 * n) (hL : dd_lt 64 L) (h10 : dd_am a10 L)
    (H : ∀ a10', dd_am a10' (dd_jo (dd_d D d) n p t L).1 → post (dd_b (dd_jo (dd_d D d) n p t L).2) (f0_count, f0_counting, f0_blocks, f0_isStudied, f0_stemCount, f0_keyCount, nI n, f0_rows, a1, a2, a3, a4, a5, a6, a7, a8, a9, a10', a11, a12, a13, a14)) :
    wpX_joinRows post (f0_count, f0_counting, f0_blocks, f0_isStudied, f0_stemCount, f0_keyCount, nI n, f0_rows, a1, a2, a3, a4, a5, a6, a7, a8, a9, a10, a11, a12, a13, a14) (nI p) (nI t) (nI d) := by
  have hd10 := hD.1
  obtain ⟨e1, e2, e3, hll, hr⟩ := hD.2 d hd
  have hcl : (nI d).toNatClampNeg = d := nI_clamp (by omega)
  unfold wpX_joinRows
  refine ⟨pk_in d 10 (by omega), ?_⟩
  rw [hcl, e1]
  unfold dd_jo at H
  refine ⟨7, dd_sameSymbols_l h10 hL hl hn hp ht hll 6 0 true (by omega) (dd_br _ (fun h => ?_) (fun h => ⟨7, ?_⟩))⟩
  · rw [if_neg (by rw [h]; decide)] at H; exact H a10 h10
  · rw [if_pos h] at H
    exact dd_joinRows_l hD hd hn hp ht 6 0 L false a10 (by omega) hl hL h10 H
end
end
section
section
variable {f0_count f0_counting f0_blocks f0_isStudied f0_stemCount f0_keyCount f0_partCount f0_rows : Int32} {a1 a2 a3 a4 a5 a6 a7 a8 a9 a10 a11 a12 a13 a14 : Nat → Int32}
variable {D : List (Nat × Nat × Bool)} {q : Nat × List Nat × Nat × List Nat} {T : List Nat} {R : Nat} {ce : Nat → Nat} {u : St2}
theorem dd_jp_ok {e : Nat × Nat × Bool} {n : Nat} : ∀ m pr L any, dd_lt 64 L → dd_lt 64 (dd_jp e n m pr L any).1 ∧ (dd_jp e n m pr L any).1.length = L.length := by
  intro m
  induction m with
  | zero => intro pr L any h; exact ⟨h, rfl⟩
  | succ m ih =>
    intro pr L any h
    rw [dd_jp]
    split
    · exact ih _ _ _ h
    · split
      · exact ih _ _ _ h
      · have t := dd_jo_ok (e := e) (n := n) (p := pr / 4) (t := pr % 4) h
        have := ih (pr + 1) _ (any || (dd_jo e n (pr / 4) (pr % 4) L).2) t.1
        rw [t.2] at this
        exact this
theorem dd_joinAll_i {post : Int32 → St2 → Prop} {J : Int32 → Int32 → Int32 → Int32 → Int32 → Int32 → Int32 → Int32 → Int32 → Int32 → (Nat → Int32) → (Nat → Int32) → (Nat → Int32) → (Nat → Int32) → (Nat → Int32) → (Nat → Int32) → (Nat → Int32) → (Nat → Int32) → (Nat → Int32) → (Nat → Int32) → (Nat → Int32) → (Nat → Int32) → (Nat → Int32) → (Nat → Int32) → Prop}
    {n d : Nat} (hD : dd_D a1 a2 a3 D) (hd : d < D.length) (hn : n ≤ 4) (hb : (dd_d D d).2.2 = false) : ∀ m pr L any a10, pr + m = 16 → L.length = 6 * n → dd_lt 64 L → dd_am a10 L →
    (∀ a10', dd_am a10' (dd_jp (dd_d D d) n m pr L any).1 → J (dd_b (dd_jp (dd_d D d) n m pr L any).2) (nI (d + 1)) (nI D.length) f0_counting f0_blocks f0_isStudied f0_stemCount f0_keyCount (nI n) f0_rows a1 a2 a3 a4 a5 a6 a7 a8 a9 a10' a11 a12 a13 a14) →
    wX_joinAll_14 post J (nI d) (m + 1) (dd_b any) (nI pr) (nI D.length) f0_counting f0_blocks f0_isStudied f0_stemCount f0_keyCount (nI n) f0_rows a1 a2 a3 a4 a5 a6 a7 a8 a9 a10 a11 a12 a13 a14 := by
  have hd10 := hD.1
  obtain ⟨e1, e2, e3, hll, hr⟩ := hD.2 d hd
  have hcl : (nI d).toNatClampNeg = d := nI_clamp (by omega)
  have hin : vp_in (nI d) 10 := pk_in d 10 (by omega)
  intro m
  induction m with
  | zero =>
    intro pr L any a10 hpr hl hL h10 H
    exact pk_le 16 pr (fun _ => nm_r (nI_1 d) (H a10 h10)) (fun z => absurd z (by omega))
  | succ m ih =>
    intro pr L any a10 hpr hl hL h10 H
    rw [dd_jp] at H
    have h40 : ¬ (4 : Int32) = 0 := by decide
    refine pk_le 16 pr (fun z => absurd z (by omega)) (fun _ => ⟨hin, dd_br false (fun _ => ⟨h40, nm_r (e' := nI (pr / 4)) (pk_div (d := 4) (by omega) (by omega) (by omega)) ⟨h40, nm_r (e' := nI (pr % 4)) (pk_rem (d := 4) (by omega) (by omega) (by omega)) ?_⟩⟩) (fun z => absurd z (by decide)) (by rw [hcl, e3, hb])⟩)
    have skip : (∀ a10', dd_am a10' (dd_jp (dd_d D d) n m (pr + 1) L any).1 → J (dd_b (dd_jp (dd_d D d) n m (pr + 1) L any).2) (nI (d + 1)) (nI D.length) f0_counting f0_blocks f0_isStudied f0_stemCount f0_keyCount (nI n) f0_rows a1 a2 a3 a4 a5 a6 a7 a8 a9 a10' a11 a12 a13 a14) →
        wX_joinAll_71 post J (wX_joinAll_14 post J (nI d) (m + 1)) (dd_b any) (nI d) (nI pr) (nI D.length) f0_counting f0_blocks f0_isStudied f0_stemCount f0_keyCount (nI n) f0_rows a1 a2 a3 a4 a5 a6 a7 a8 a9 a10 a11 a12 a13 a14 := by
      intro H
      have IH := ih (pr + 1) L any a10 (by omega) hl hL h10 H
      refine dd_br any (fun ha => br_t rfl (nm_r (nI_1 pr) ?_)) (fun ha => nm_r (nI_1 pr) ?_)
      · rw [ha] at IH; exact IH
      · rw [ha] at IH; exact IH
    refine pk_le (pr % 4) (pr / 4) (fun h => ?_) (fun h => pk_le n (pr % 4) (fun h' => ?_) (fun h' => ?_))
    · rw [if_pos h] at H; exact skip H
    · rw [if_neg (by omega), if_pos h'] at H; exact skip H
    · rw [if_neg (by omega), if_neg (by omega)] at H
      refine dd_joinRows hD hd hn (by omega) h' hl hL h10 (fun a10' h10' => ?_)
      have t := dd_jo_ok (e := dd_d D d) (n := n) (p := pr / 4) (t := pr % 4) hL
      have IH := ih (pr + 1) _ _ a10' (by omega) (by rw [t.2, hl]) t.1 h10' H
      refine dd_br _ (fun hb => dd_br any (fun ha => br_t rfl (nm_r (nI_1 pr) ?_)) (fun ha => nm_r (nI_1 pr) ?_)) (fun hb => dd_br any (fun ha => br_f (by decide) (nm_r (nI_1 pr) ?_)) (fun ha => nm_r (nI_1 pr) ?_))
      · rw [ha, hb] at IH; exact IH
      · rw [ha] at IH; exact IH
      · rw [ha, hb] at IH; exact IH
      · rw [ha] at IH; exact IH
theorem dd_ja_ok {D : List (Nat × Nat × Bool)} {n : Nat} : ∀ m d L any, dd_lt 64 L → dd_lt 64 (dd_ja D n m d L any).1 ∧ (dd_ja D n m d L any).1.length = L.length := by
  intro m
  induction m with
  | zero => intro d L any h; exact ⟨h, rfl⟩
  | succ m ih =>
    intro d L any h
    rw [dd_ja]
    split
    · exact ih _ _ _ h
    · have t := dd_jp_ok (e := dd_d D d) (n := n) 16 0 L any h
      have := ih (d + 1) _ (dd_jp (dd_d D d) n 16 0 L any).2 t.1
      rw [t.2] at this
      exact this
theorem dd_joinAll_l {post : Int32 → St2 → Prop} {n : Nat} (hD : dd_D a1 a2 a3 D) (hn : n ≤ 4) : ∀ m d L any a10, d + m = D.length → L.length = 6 * n → dd_lt 64 L → dd_am a10 L →
    (∀ a10', dd_am a10' (dd_ja D n m d L any).1 → post (dd_b (dd_ja D n m d L any).2) (nI D.length, f0_counting, f0_blocks, f0_isStudied, f0_stemCount, f0_keyCount, nI n, f0_rows, a1, a2, a3, a4, a5, a6, a7, a8, a9, a10', a11, a12, a13, a14)) →
    wX_joinAll_4 post (m + 1) (dd_b any) (nI d) (nI D.length) f0_counting f0_blocks f0_isStudied f0_stemCount f0_keyCount (nI n) f0_rows a1 a2 a3 a4 a5 a6 a7 a8 a9 a10 a11 a12 a13 a14 := by
  have hd10 := hD.1
  intro m
  induction m with
  | zero => intro d L any a10 hd hl hL h10 H; exact pk_le D.length d (fun _ => ⟨dd_nar any, H a10 h10⟩) (fun z => absurd z (by omega))
  | succ m ih =>
    intro d L any a10 hd hl hL h10 H
    rw [dd_ja] at H
    refine pk_le D.length d (fun z => absurd z (by omega)) (fun _ => ⟨17, ?_⟩)
    by_cases hb : (dd_d D d).2.2 = true
    · rw [if_pos hb] at H
      obtain ⟨e1, e2, e3, hll, hr⟩ := hD.2 d (by omega)
      refine pk_le 16 0 (fun z => absurd z (by omega)) (fun _ => ⟨pk_in d 10 (by omega), br_f ?_ (nm_r (nI_1 d) (ih (d + 1) L any a10 (by omega) hl hL h10 H))⟩)
      rw [nI_clamp (by omega), e3, hb]
      decide
    · rw [if_neg hb] at H
      have t := dd_jp_ok (e := dd_d D d) (n := n) 16 0 L any hL
      exact dd_joinAll_i hD (by omega) hn (dd_nt hb) 16 0 L any a10 (by omega) hl hL h10 (fun a10' h10' => ih (d + 1) _ _ a10' (by omega) (by rw [t.2, hl]) t.1 h10' H)
theorem dd_joinAll {post : Int32 → St2 → Prop} {n : Nat} {L : List Nat} (hD : dd_D a1 a2 a3 D) (hn : n ≤ 4) (hl : L.length = 6 * n) (hL : dd_lt 64 L) (h10 : dd_am a10 L)
    (H : ∀ a10', dd_am a10' (dd_ja D n D.length 0 L false).1 → post (dd_b (dd_ja D n D.length 0 L false).2) (nI D.length, f0_counting, f0_blocks, f0_isStudied, f0_stemCount, f0_keyCount, nI n, f0_rows, a1, a2, a3, a4, a5, a6, a7, a8, a9, a10', a11, a12, a13, a14)) :
    wpX_joinAll post (nI D.length, f0_counting, f0_blocks, f0_isStudied, f0_stemCount, f0_keyCount, nI n, f0_rows, a1, a2, a3, a4, a5, a6, a7, a8, a9, a10, a11, a12, a13, a14) :=
  ⟨D.length + 1, dd_joinAll_l hD hn D.length 0 L false a10 (by omega) hl hL h10 H⟩
theorem dd_lossless_k {post : Int32 → St2 → Prop} {J : Int32 → Int32 → Prop} {n p : Nat} {L : List Nat} (hn : n ≤ 4) (hp : p < n) (hl : L.length = 6 * n) (hL : dd_lt 64 L) (h10 : dd_am a10 L) (any : Bool) : ∀ m c g, c + m = 6 →
    J (dd_b (any || dd_kn L p m c g)) (nI (p + 1)) → wX_lossless_114 post J (dd_b any) (nI p) f0_count f0_counting f0_blocks f0_isStudied f0_stemCount f0_keyCount f0_partCount f0_rows a1 a2 a3 a4 a5 a6 a7 a8 a9 a10 a11 a12 a13 a14 (m + 1) (dd_b g) (nI c) := by
  intro m
  induction m with
  | zero =>
    intro c g hc H
    rw [dd_kn] at H
    refine pk_le 6 c (fun _ => dd_br any (fun ha => dd_br g (fun hg => nm_r (nI_1 p) ?_) (fun hg => nm_r (nI_1 p) ?_)) (fun ha => nm_r (nI_1 p) ?_)) (fun z => absurd z (by omega))
    · rw [ha, hg] at H; exact H
    · rw [ha, hg] at H; exact H
    · rw [ha] at H; exact H
  | succ m ih =>
    intro c g hc H
    rw [dd_kn] at H
    have IH := ih (c + 1) _ (by omega) H
    refine pk_le 6 c (fun z => absurd z (by omega)) (fun _ => dd_br g (fun hg => nm_r (nI_1 c) ?_) (fun hg => ⟨pk_in (6 * p + c) 24 (by omega) (dd_i6 p c), ?_⟩))
    · rw [hg] at IH; exact IH
    · refine ek_if (d := dd_g L (6 * p + c) = 0) (by rw [dd_rd h10 (dd_i6 p c) (by omega) (by omega)]; exact dd_z (dd_31 (hL _))) (fun h => nm_r (nI_1 c) ?_) (fun h => nm_r (nI_1 c) ?_)
      · rw [hg, beq_iff_eq.mpr h] at IH; exact IH
      · rw [hg, beq_eq_false_iff_ne.mpr h] at IH; exact IH
theorem dd_lossless_e {post : Int32 → St2 → Prop} {n : Nat} {L : List Nat} (hn : n ≤ 4) (hl : L.length = 6 * n) (hL : dd_lt 64 L) (h10 : dd_am a10 L) : ∀ m p any, p + m = n →
    post (dd_b (dd_ln L m p any)) (f0_count, f0_counting, f0_blocks, f0_isStudied, f0_stemCount, f0_keyCount, nI n, f0_rows, a1, a2, a3, a4, a5, a6, a7, a8, a9, a10, a11, a12, a13, a14) → wX_lossless_100 post f0_count f0_counting f0_blocks f0_isStudied f0_stemCount f0_keyCount (nI n) f0_rows a1 a2 a3 a4 a5 a6 a7 a8 a9 a10 a11 a12 a13 a14 (m + 1) (dd_b any) (nI p) := by
  intro m
  induction m with
  | zero => intro p any hp H; exact pk_le n p (fun _ => ⟨dd_nar any, H⟩) (fun z => absurd z (by omega))
  | succ m ih =>
    intro p any hp H
    rw [dd_ln] at H
    exact pk_le n p (fun z => absurd z (by omega)) (fun _ => ⟨7, dd_lossless_k hn (by omega) hl hL h10 any 6 0 true (by omega) (ih (p + 1) _ (by omega) H)⟩)
theorem dd_lossless_r {post : Int32 → St2 → Prop} {n : Nat} (hD : dd_D a1 a2 a3 D) (hn : n ≤ 4) : ∀ m t L a10, t + m = 20 → L.length = 6 * n → dd_lt 64 L → dd_am a10 L →
    (∀ a10', post (dd_b (dd_ln (dd_lr D n m L) n 0 false)) (nI D.length, f0_counting, f0_blocks, f0_isStudied, f0_stemCount, f0_keyCount, nI n, f0_rows, a1, a2, a3, a4, a5, a6, a7, a8, a9, a10', a11, a12, a13, a14)) →
    wX_lossless_75 post (m + 1) 1 (nI t) (nI D.length) f0_counting f0_blocks f0_isStudied f0_stemCount f0_keyCount (nI n) f0_rows a1 a2 a3 a4 a5 a6 a7 a8 a9 a10 a11 a12 a13 a14 := by
  intro m
  induction m with
  | zero =>
    intro t L a10 ht hl hL h10 H
    exact pk_le 20 t (fun _ => ⟨n + 1, dd_lossless_e hn hl hL h10 n 0 false (by omega) (H a10)⟩) (fun z => absurd z (by omega))
  | succ m ih =>
    intro t L a10 ht hl hL h10 H
    rw [dd_lr] at H
    have tt := dd_ja_ok (D := D) (n := n) D.length 0 L false hL
    refine pk_le 20 t (fun z => absurd z (by omega)) (fun _ => br_f (by decide) ?_)
    refine dd_joinAll hD hn hl hL h10 (fun a10' h10' => nm_r (nI_1 t) ?_)
    by_cases hm : (dd_ja D n D.length 0 L false).2 = true
    · rw [if_pos hm] at H
      rw [hm]
      exact ih (t + 1) _ a10' (by omega) (by rw [tt.2, hl]) tt.1 h10' H
    · rw [if_neg hm] at H
      rw [dd_nt hm]
      have E : ∃ fu, wX_lossless_100 post (nI D.length) f0_counting f0_blocks f0_isStudied f0_stemCount f0_keyCount (nI n) f0_rows a1 a2 a3 a4 a5 a6 a7 a8 a9 a10' a11 a12 a13 a14 fu 0 0 := ⟨n + 1, dd_lossless_e hn (by rw [tt.2, hl]) tt.1 h10' n 0 false (by omega) (H a10')⟩
      exact pk_le 20 (t + 1) (fun _ => E) (fun z => br_t rfl E)
theorem dd_fc_ok {s p : Nat} (hp : p < 4) : ∀ m c L, dd_lt 64 L → dd_lt 64 (dd_fc s p m c L) ∧ (dd_fc s p m c L).length = L.length + m := by
  intro m
  induction m with
  | zero => intro c L h; exact ⟨h, rfl⟩
  | succ m ih =>
    intro c L h
    rw [dd_fc]
    have := ih (c + 1) (L ++ [if s.testBit c = true then 0 else p + 1]) (dd_lt_push h (by split <;> omega))
    refine ⟨this.1, ?_⟩
    rw [this.2, List.length_append]
    simp
    omega
theorem dd_lossless_c {post : Int32 → St2 → Prop} {J : Int32 → (Nat → Int32) → (Nat → Int32) → (Nat → Int32) → (Nat → Int32) → (Nat → Int32) → (Nat → Int32) → (Nat → Int32) → (Nat → Int32) → (Nat → Int32) → (Nat → Int32) → (Nat → Int32) → (Nat → Int32) → (Nat → Int32) → (Nat → Int32) → Prop}
    {p : Nat} (hT : dd_am a9 T) (hTl : dd_lt 64 T) (h4 : T.length ≤ 4) (hp : p < T.length) : ∀ m c L a10, c + m = 6 → L.length = 6 * p + c → dd_am a10 L →
    (∀ a10', dd_am a10' (dd_fc (dd_g T p) p m c L) → J (nI (p + 1)) a1 a2 a3 a4 a5 a6 a7 a8 a9 a10' a11 a12 a13 a14) →
    wX_lossless_21 post J (nI p) f0_count f0_counting f0_blocks f0_isStudied f0_stemCount f0_keyCount f0_partCount f0_rows (m + 1) (nI c) a1 a2 a3 a4 a5 a6 a7 a8 a9 a10 a11 a12 a13 a14 := by
  have e : a9 (nI p).toNatClampNeg = nI (dd_g T p) := dd_rd hT rfl hp (by omega)
  intro m
  induction m with
  | zero => intro c L a10 hc hl h10 H; exact pk_le 6 c (fun _ => nm_r (nI_1 p) (H a10 h10)) (fun z => absurd z (by omega))
  | succ m ih =>
    intro c L a10 hc hl h10 H
    rw [dd_fc] at H
    have hin : vp_in (6 * nI p + nI c) 24 := pk_in (6 * p + c) 24 (by omega) (dd_i6 p c)
    refine pk_le 6 c (fun z => absurd z (by omega)) (fun _ => ⟨pk_in p 4 (by omega), ?_⟩)
    refine ek_if (d := (dd_g T p).testBit c = true) (by rw [e]; exact dd_bit1 (dd_31 (hTl _)) (by omega)) (fun h => ⟨hin, nm_e (nm_r (nI_1 c) ?_)⟩) (fun h => ⟨hin, nm_e (nm_r (nI_1 c) ?_)⟩)
    · rw [if_pos h] at H
      exact ih (c + 1) _ _ (by omega) (by rw [List.length_append, hl]; rfl) (dd_am_push h10 (by rw [hl]; exact dd_i6 p c) (by omega) (w := 0) rfl) H
    · rw [if_neg h] at H
      exact ih (c + 1) _ _ (by omega) (by rw [List.length_append, hl]; rfl) (dd_am_push h10 (by rw [hl]; exact dd_i6 p c) (by omega) (nI_1 p)) H
theorem dd_fp_ok {T : List Nat} : ∀ m p L, p + m ≤ 4 → dd_lt 64 L → dd_lt 64 (dd_fp T m p L) ∧ (dd_fp T m p L).length = L.length + 6 * m := by
  intro m
  induction m with
  | zero => intro p L _ h; exact ⟨h, rfl⟩
  | succ m ih =>
    intro p L hp h
    rw [dd_fp]
    have t := dd_fc_ok (s := dd_g T p) (p := p) (by omega) 6 0 L h
    have := ih (p + 1) _ (by omega) t.1
    refine ⟨this.1, ?_⟩
    rw [this.2, t.2]
    omega
theorem dd_lossless_p {post : Int32 → St2 → Prop} (hD : dd_D a1 a2 a3 D) (hT : dd_am a9 T) (hTl : dd_lt 64 T) (h4 : T.length ≤ 4) : ∀ m p L a10, p + m = T.length → L.length = 6 * p → dd_lt 64 L → dd_am a10 L →
    (∀ a10', post (dd_b (dd_ln (dd_lr D T.length 20 (dd_fp T m p L)) T.length 0 false)) (nI D.length, f0_counting, f0_blocks, f0_isStudied, f0_stemCount, f0_keyCount, nI T.length, f0_rows, a1, a2, a3, a4, a5, a6, a7, a8, a9, a10', a11, a12, a13, a14)) →
    wX_lossless_11 post (nI D.length) f0_counting f0_blocks f0_isStudied f0_stemCount f0_keyCount (nI T.length) f0_rows (m + 1) (nI p) a1 a2 a3 a4 a5 a6 a7 a8 a9 a10 a11 a12 a13 a14 := by
  intro m
  induction m with
  | zero =>
    intro p L a10 hp hl hL h10 H
    refine pk_le T.length p (fun _ => ⟨21, ?_⟩) (fun z => absurd z (by omega))
    exact dd_lossless_r hD h4 20 0 L a10 (by omega) (by omega) hL h10 H
  | succ m ih =>
    intro p L a10 hp hl hL h10 H
    rw [dd_fp] at H
    have t := dd_fc_ok (s := dd_g T p) (p := p) (by omega) 6 0 L hL
    refine pk_le T.length p (fun z => absurd z (by omega)) (fun _ => ⟨7, ?_⟩)
    exact dd_lossless_c hT hTl h4 (by omega) 6 0 L a10 (by omega) (by omega) h10 (fun a10' h10' => ih (p + 1) _ a10' (by omega) (by rw [t.2, hl]; omega) t.1 h10' H)
theorem dd_lossless {post : Int32 → St2 → Prop} (hu : dd_K D q T R ce u) (H : ∀ u', dd_K D q T R ce u' → post (dd_b (dd_ll D T)) u') : wpX_lossless post u := by
  obtain ⟨f0_count, f0_counting, f0_blocks, f0_isStudied, f0_stemCount, f0_keyCount, f0_partCount, f0_rows, a1, a2, a3, a4, a5, a6, a7, a8, a9, a10, a11, a12, a13, a14⟩ := u
  obtain ⟨rfl, hD, hst, ⟨rfl, hT1, hT2, hT3⟩, hW⟩ := hu
  unfold wpX_lossless
  unfold dd_ll at H
  refine pk_eq T.length 0 (fun h => ?_) (fun h => ⟨T.length + 1, ?_⟩)
  · rw [if_pos h] at H
    exact H _ ⟨rfl, hD, hst, ⟨rfl, hT1, hT2, hT3⟩, hW⟩
  · rw [if_neg h] at H
    exact dd_lossless_p hD hT3 hT2 hT1 T.length 0 [] a10 (by omega) rfl (dd_lt_nil (by omega)) dd_am_nil (fun a10' => H _ ⟨rfl, hD, hst, ⟨rfl, hT1, hT2, hT3⟩, hW⟩)
theorem dd_sn_lt {D : List (Nat × Nat × Bool)} : ∀ m d s, d + m ≤ 10 → s < 1024 → dd_sn D m d s < 1024 := by
  intro m
  induction m with
  | zero => intro d s _ h; exact h
  | succ m ih =>
    intro d s hd h
    rw [dd_sn]
    split
    · exact ih _ _ (by omega) h
    · refine ih _ _ (by omega) (dd_lt_or (n := 10) h ?_)
      exact Nat.pow_lt_pow_right (by omega) (by omega)
theorem dd_singleGiven_l {post : Int32 → Prop} (hD : dd_D a1 a2 a3 D) : ∀ m d s, d + m = D.length → post (nI (dd_sn D m d s)) → wX_singleGiven_4 post (nI D.length) f0_counting f0_blocks f0_isStudied f0_stemCount f0_keyCount f0_partCount f0_rows a1 a2 a3 a4 a5 a6 a7 a8 a9 a10 a11 a12 a13 a14 (m + 1) (nI s) (nI d) := by
  have h10 := hD.1
  intro m
  induction m with
  | zero => intro d s hd H; exact pk_le D.length d (fun _ => H) (fun z => absurd z (by omega))
  | succ m ih =>
    intro d s hd H
    rw [dd_sn] at H
    obtain ⟨e1, e2, e3, hll, hr⟩ := hD.2 d (by omega)
    refine pk_le D.length d (fun z => absurd z (by omega)) (fun _ => ⟨pk_in d 10 (by omega), dd_br (dd_d D d).2.2 (fun h => nm_r (by rw [dd_one d (by omega), dd_or]) (nm_r (nI_1 d) ?_)) (fun h => nm_r (nI_1 d) ?_) (by rw [nI_clamp (by omega), e3])⟩)
    · rw [if_neg (by rw [h]; decide)] at H; exact ih _ _ (by omega) H
    · rw [if_pos h] at H; exact ih _ _ (by omega) H
theorem dd_pi_lt {D : List (Nat × Nat × Bool)} {ct : Nat} {T : List Nat} (hD : dd_dl D) : ∀ m p out, out < 64 → dd_pi D ct T m p out < 64 := by
  intro m
  induction m with
  | zero => intro p out h; exact h
  | succ m ih =>
    intro p out h
    rw [dd_pi]
    exact ih _ _ (dd_o64 h (dd_a64 _ (dd_cs_lt hD (dd_a64 _ h))))
theorem dd_closedInParts_i {post : Int32 → St2 → Prop} {J : Int32 → Int32 → Int32 → Int32 → Int32 → Int32 → Int32 → Int32 → Int32 → Int32 → Int32 → (Nat → Int32) → (Nat → Int32) → (Nat → Int32) → (Nat → Int32) → (Nat → Int32) → (Nat → Int32) → (Nat → Int32) → (Nat → Int32) → (Nat → Int32) → (Nat → Int32) → (Nat → Int32) → (Nat → Int32) → (Nat → Int32) → (Nat → Int32) → Prop}
    {ct t bf : Nat} (hD : dd_D a1 a2 a3 D) (hct : ct < 2 ^ 31) (hT : dd_am a9 T) (hTl : dd_lt 64 T) (h4 : T.length ≤ 4) (hbf : bf < 64) : ∀ m p out f0_blocks a4, p + m = T.length → out < 64 →
    (∀ b a4', J (nI (dd_pi D ct T m p out)) (dd_b (!(dd_pi D ct T m p out == bf))) (nI (t + 1)) (nI D.length) (nI ct) b f0_isStudied f0_stemCount f0_keyCount (nI T.length) f0_rows a1 a2 a3 a4' a5 a6 a7 a8 a9 a10 a11 a12 a13 a14) →
    wX_closedInParts_24 post J (nI t) (nI bf) (m + 1) (nI out) (nI p) (nI D.length) (nI ct) f0_blocks f0_isStudied f0_stemCount f0_keyCount (nI T.length) f0_rows a1 a2 a3 a4 a5 a6 a7 a8 a9 a10 a11 a12 a13 a14 := by
  intro m
  induction m with
  | zero =>
    intro p out f0_blocks a4 hp ho H
    rw [dd_pi] at H
    refine pk_le T.length p (fun _ => pk_eq out bf (fun h => nm_r (nI_1 t) ?_) (fun h => nm_r (nI_1 t) ?_)) (fun z => absurd z (by omega))
    · rw [beq_iff_eq.mpr h] at H; exact H _ _
    · rw [beq_eq_false_iff_ne.mpr h] at H; exact H _ _
  | succ m ih =>
    intro p out f0_blocks a4 hp ho H
    rw [dd_pi] at H
    have e : a9 (nI p).toNatClampNeg = nI (dd_g T p) := dd_rd hT rfl (by omega) (by omega)
    refine pk_le T.length p (fun z => absurd z (by omega)) (fun _ => ⟨pk_in p 4 (by omega), ?_⟩)
    rw [e, dd_and]
    refine dd_closeSet_2 hD hct (dd_a64 _ ho) (fun b a4' => ⟨pk_in p 4 (by omega), nm_r (by rw [e, dd_and, dd_or]) (nm_r (nI_1 p) ?_)⟩)
    exact ih (p + 1) _ b a4' (by omega) (dd_o64 ho (dd_a64 _ (dd_cs_lt (dd_D_dl hD) (dd_a64 _ ho)))) H
theorem dd_closedInParts_o {post : Int32 → St2 → Prop} {ct : Nat} (hD : dd_D a1 a2 a3 D) (hct : ct < 2 ^ 31) (hT : dd_am a9 T) (hTl : dd_lt 64 T) (h4 : T.length ≤ 4) : ∀ m t out f0_blocks a4, t + m = 7 → out < 64 →
    (∀ b a4', post (nI (dd_po D ct T m out)) (nI D.length, nI ct, b, f0_isStudied, f0_stemCount, f0_keyCount, nI T.length, f0_rows, a1, a2, a3, a4', a5, a6, a7, a8, a9, a10, a11, a12, a13, a14)) →
    wX_closedInParts_7 post (m + 1) (nI out) 1 (nI t) (nI D.length) (nI ct) f0_blocks f0_isStudied f0_stemCount f0_keyCount (nI T.length) f0_rows a1 a2 a3 a4 a5 a6 a7 a8 a9 a10 a11 a12 a13 a14 := by
  intro m
  induction m with
  | zero => intro t out f0_blocks a4 ht ho H; exact pk_le 7 t (fun _ => H _ _) (fun z => absurd z (by omega))
  | succ m ih =>
    intro t out f0_blocks a4 ht ho H
    rw [dd_po] at H
    refine pk_le 7 t (fun z => absurd z (by omega)) (fun _ => br_f (by decide) ⟨T.length + 1, ?_⟩)
    refine dd_closedInParts_i hD hct hT hTl h4 ho T.length 0 out _ a4 (by omega) ho (fun b a4' => ?_)
    by_cases h : dd_pi D ct T T.length 0 out = out
    · simp only [if_pos h] at H
      rw [h, beq_self_eq_true]
      exact pk_le 7 (t + 1) (fun _ => H _ _) (fun z => br_t rfl (H _ _))
    · simp only [if_neg h] at H
      rw [beq_eq_false_iff_ne.mpr h]
      exact ih (t + 1) _ b a4' (by omega) (dd_pi_lt (dd_D_dl hD) _ _ _ ho) H
theorem dd_po_lt {D : List (Nat × Nat × Bool)} {ct : Nat} {T : List Nat} (hD : dd_dl D) : ∀ m out, out < 64 → dd_po D ct T m out < 64 := by
  intro m
  induction m with
  | zero => intro out h; exact h
  | succ m ih =>
    intro out h
    rw [dd_po]
    split
    · exact h
    · exact ih _ (dd_pi_lt hD _ _ _ h)
theorem dd_preserves_l {post : Int32 → St2 → Prop} {ct : Nat} (hD : dd_D a1 a2 a3 D) (hct : ct < 2 ^ 31) (hT : dd_am a9 T) (hTl : dd_lt 64 T) (h4 : T.length ≤ 4) : ∀ m d g f0_blocks a4, d + m = D.length →
    (∀ b a4', post (dd_b (dd_pv D ct T m d g)) (nI D.length, nI ct, b, f0_isStudied, f0_stemCount, f0_keyCount, nI T.length, f0_rows, a1, a2, a3, a4', a5, a6, a7, a8, a9, a10, a11, a12, a13, a14)) →
    wX_preserves_12 post (m + 1) (dd_b g) (nI d) (nI D.length) (nI ct) f0_blocks f0_isStudied f0_stemCount f0_keyCount (nI T.length) f0_rows a1 a2 a3 a4 a5 a6 a7 a8 a9 a10 a11 a12 a13 a14 := by
  have h10 := hD.1
  intro m
  induction m with
  | zero => intro d g f0_blocks a4 hd H; exact pk_le D.length d (fun _ => ⟨dd_nar g, H _ _⟩) (fun z => absurd z (by omega))
  | succ m ih =>
    intro d g f0_blocks a4 hd H
    rw [dd_pv] at H
    obtain ⟨e1, e2, e3, hll, hr⟩ := hD.2 d (by omega)
    have hcl : (nI d).toNatClampNeg = d := nI_clamp (by omega)
    have hin : vp_in (nI d) 10 := pk_in d 10 (by omega)
    refine pk_le D.length d (fun z => absurd z (by omega)) (fun _ => ⟨hin, dd_br (dd_d D d).2.2 (fun h => ⟨hin, ?_⟩) (fun h => nm_r (nI_1 d) ?_) (by rw [hcl, e3])⟩)
    · simp only [h] at H
      rw [hcl, e1]
      refine ⟨8, dd_closedInParts_o hD hct hT hTl h4 7 0 _ _ a4 (by omega) hll (fun b a4' => ?_)⟩
      refine dd_br g (fun hg => nm_r (nI_1 d) ?_) (fun hg => ⟨hin, ?_⟩)
      · have IH := ih (d + 1) _ b a4' (by omega) H
        rw [hg] at IH; exact IH
      · rw [e2]
        refine dd_within hr (dd_br _ (fun hw => nm_r (nI_1 d) ?_) (fun hw => nm_r (nI_1 d) ?_))
        · have IH := ih (d + 1) _ b a4' (by omega) H
          rw [hg, hw] at IH; exact IH
        · have IH := ih (d + 1) _ b a4' (by omega) H
          rw [hg, hw] at IH; exact IH
    · simp only [h] at H
      exact ih (d + 1) g _ a4 (by omega) H
theorem dd_preserves {post : Int32 → St2 → Prop} (hu : dd_K D q T R ce u) (H : ∀ u', dd_K D q T R ce u' → post (dd_b (dd_pv D (dd_sn D D.length 0 0) T D.length 0 true)) u') : wpX_preserves post u := by
  obtain ⟨f0_count, f0_counting, f0_blocks, f0_isStudied, f0_stemCount, f0_keyCount, f0_partCount, f0_rows, a1, a2, a3, a4, a5, a6, a7, a8, a9, a10, a11, a12, a13, a14⟩ := u
  obtain ⟨rfl, hD, hst, ⟨rfl, hT1, hT2, hT3⟩, hW⟩ := hu
  have hsn := dd_sn_lt (D := D) D.length 0 0 (by have := hD.1; omega) (by omega)
  unfold wpX_preserves
  refine ⟨D.length + 1, dd_singleGiven_l hD D.length 0 0 (by omega) ⟨D.length + 1, ?_⟩⟩
  exact dd_preserves_l hD (by omega) hT3 hT2 hT1 D.length 0 true _ _ (by omega) (fun b a4' => H _ ⟨rfl, hD, hst, ⟨rfl, hT1, hT2, hT3⟩, hW⟩)
end
end
section
/-! pictures of the table. ag r t: the columns in which rows r and t agree -/
def dd_lq (ag : Nat → Nat → Nat) (X r : Nat) : Nat → Nat → Nat
  | 0, f => f
  | m + 1, f => dd_lq ag X r m (if dd_w X (ag m r) = true then m else f)
/-- the least row that agrees with r on X -/
def dd_ls (ag : Nat → Nat → Nat) (X r : Nat) : Nat := dd_lq ag X r r r
def dd_nn (ag : Nat → Nat → Nat) (X : Nat) : Nat → Nat
  | 0 => 0
  | r + 1 => if dd_ls ag X r = r then dd_nn ag X r + 1 else dd_nn ag X r
def dd_hg (s : Nat) : Nat → Nat → Nat → Nat
  | 0, _, f => f
  | m + 1, c, f => dd_hg s m (c + 1) (if s.testBit c = true then c else f)
def dd_ip (ag : Nat → Nat → Nat) (x y z h : Nat) : Nat → Nat → Nat → Nat → Nat → Bool
  | 0, _, a, f, g => a == f * g
  | m + 1, r, a, f, g => if dd_ls ag x r = h then dd_ip ag x y z h m (r + 1) (if dd_ls ag 63 r = r then a + 1 else a) (if dd_ls ag (x ||| y) r = r then f + 1 else f) (if dd_ls ag (x ||| z) r = r then g + 1 else g)
    else dd_ip ag x y z h m (r + 1) a f g
def dd_kb (ag : Nat → Nat → Nat) (x y R : Nat) : Nat → Nat → Bool
  | 0, _ => true
  | m + 1, r => if dd_ls ag x r = r then (if dd_ip ag x y (dd_an (dd_an 63 x) y) r R 0 0 0 0 = true then dd_kb ag x y R m (r + 1) else false) else dd_kb ag x y R m (r + 1)
def dd_lf (nc : Nat → Nat) (x c : Nat) : Nat → Nat → Bool → Bool
  | 0, _, g => g
  | m + 1, k, g => dd_lf nc x c m (k + 1) (g && (dd_an x (2 ^ k) == x || !(nc (dd_an x (2 ^ k) ||| 2 ^ c) == nc (dd_an x (2 ^ k)))))
def dd_dj (nc : Nat → Nat) (x : Nat) : Nat → Nat → Nat → Nat
  | 0, _, n => n
  | m + 1, c, n => dd_dj nc x m (c + 1) (if x.testBit c = false then (if nc (x ||| 2 ^ c) = nc x then (if dd_lf nc x c 6 0 true = true then n + 1 else n) else n) else n)
def dd_dk (nc : Nat → Nat) : Nat → Nat → Nat → Nat
  | 0, _, n => n
  | m + 1, x, n => dd_dk nc m (x + 1) (dd_dj nc x 6 0 n)
def dd_no (N : List Nat) (s : Nat) : Nat → Nat → Bool → Bool
  | 0, _, any => any
  | m + 1, k, any => dd_no N s m (k + 1) (any || dd_g N k == s)
def dd_a1 (ag : Nat → Nat → Nat) (r : Nat) : Nat → Nat → List Nat → List Nat
  | 0, _, N => N
  | m + 1, t, N => dd_a1 ag r m (t + 1) (if dd_no N (ag r t) N.length 0 false = true then N else N ++ [ag r t])
def dd_a2 (ag : Nat → Nat → Nat) : Nat → Nat → List Nat → List Nat
  | 0, _, N => N
  | m + 1, r, N => dd_a2 ag m (r + 1) (dd_a1 ag r r 0 N)
def dd_eo (nc : Nat → Nat) (x : Nat) : Nat → Nat → Nat → Nat
  | 0, _, o => o
  | m + 1, c, o => dd_eo nc x m (c + 1) (if nc (x ||| 2 ^ c) = nc x then o ||| 2 ^ c else o)
def dd_ex (nc cl : Nat → Nat) : Nat → Nat → Bool
  | 0, _ => true
  | m + 1, x => if dd_eo nc x 6 0 0 = cl x then dd_ex nc cl m (x + 1) else false
end
section
/-! rows that agree -/
def dd_G (R : Nat) (ce : Nat → Nat) (ag : Nat → Nat → Nat) : Prop := ∀ r t, r < R → t < R → ag r t < 64 ∧ ∀ c, c < 6 → ((ag r t).testBit c = true ↔ ce (6 * r + c) = ce (6 * t + c))
def dd_E (ce : Nat → Nat) (X r t : Nat) : Prop := ∀ c, c < 6 → X.testBit c = true → ce (6 * r + c) = ce (6 * t + c)
theorem dd_wT : ∀ X, X < 64 → ∀ Y, Y < 64 → (dd_w X Y = true ↔ ∀ c, c < 6 → X.testBit c = true → Y.testBit c = true) := by decide +kernel
theorem dd_wE {R : Nat} {ce : Nat → Nat} {ag : Nat → Nat → Nat} {X r t : Nat} (hG : dd_G R ce ag) (hX : X < 64) (hr : r < R) (ht : t < R) : dd_w X (ag r t) = true ↔ dd_E ce X r t := by
  obtain ⟨h1, h2⟩ := hG r t hr ht
  rw [dd_wT X hX _ h1]
  exact ⟨fun h c hc hx => (h2 c hc).mp (h c hc hx), fun h c hc hx => (h2 c hc).mpr (h c hc hx)⟩
theorem dd_lq_spec {ag : Nat → Nat → Nat} {X r : Nat} : ∀ m f, m ≤ f → dd_lq ag X r m f ≤ f ∧ (dd_lq ag X r m f = f ∨ dd_w X (ag (dd_lq ag X r m f) r) = true ∧ dd_lq ag X r m f < m) ∧ ∀ t, t < dd_lq ag X r m f → t < m → ¬ dd_w X (ag t r) = true := by
  intro m
  induction m with
  | zero => intro f _; exact ⟨Nat.le_refl _, Or.inl rfl, fun t _ h => absurd h (by omega)⟩
  | succ m ih =>
    intro f hf
    rw [dd_lq]
    split
    · rename_i h
      obtain ⟨i1, i2, i3⟩ := ih m (Nat.le_refl _)
      refine ⟨by omega, Or.inr ?_, fun t h1 h2 => i3 t h1 (by omega)⟩
      rcases i2 with i2 | i2
      · rw [i2]; exact ⟨h, by omega⟩
      · exact ⟨i2.1, by omega⟩
    · rename_i h
      obtain ⟨i1, i2, i3⟩ := ih f (by omega)
      refine ⟨i1, ?_, fun t h1 h2 => ?_⟩
      · rcases i2 with i2 | i2
        · exact Or.inl i2
        · exact Or.inr ⟨i2.1, by omega⟩
      · by_cases e : t = m
        · rw [e]; exact h
        · exact i3 t h1 (by omega)
theorem dd_ls_le {ag : Nat → Nat → Nat} {X r : Nat} : dd_ls ag X r ≤ r := (dd_lq_spec r r (Nat.le_refl _)).1
theorem dd_ls_E {R : Nat} {ce : Nat → Nat} {ag : Nat → Nat → Nat} {X r : Nat} (hG : dd_G R ce ag) (hX : X < 64) (hr : r < R) : dd_E ce X (dd_ls ag X r) r := by
  obtain ⟨i1, i2, i3⟩ := dd_lq_spec (ag := ag) (X := X) (r := r) r r (Nat.le_refl _)
  unfold dd_ls
  rcases i2 with i2 | i2
  · rw [i2]; exact fun c _ _ => rfl
  · exact (dd_wE hG hX (by omega) hr).mp i2.1
theorem dd_ls_min {R : Nat} {ce : Nat → Nat} {ag : Nat → Nat → Nat} {X r t : Nat} (hG : dd_G R ce ag) (hX : X < 64) (hr : r < R) (ht : t < dd_ls ag X r) : ¬ dd_E ce X t r := by
  obtain ⟨i1, i2, i3⟩ := dd_lq_spec (ag := ag) (X := X) (r := r) r r (Nat.le_refl _)
  have := dd_ls_le (ag := ag) (X := X) (r := r)
  intro h
  exact i3 t ht (by omega) ((dd_wE hG hX (by omega) hr).mpr h)
theorem dd_ls_iff {R : Nat} {ce : Nat → Nat} {ag : Nat → Nat → Nat} {X r t : Nat} (hG : dd_G R ce ag) (hX : X < 64) (hr : r < R) (ht : t < R) : dd_ls ag X t = dd_ls ag X r ↔ dd_E ce X t r := by
  have e1 := dd_ls_E hG hX hr
  have e2 := dd_ls_E hG hX ht
  constructor
  · intro h c hc hx
    rw [← e1 c hc hx, ← h, e2 c hc hx]
  · intro h
    rcases Nat.lt_trichotomy (dd_ls ag X t) (dd_ls ag X r) with g | g | g
    · exact absurd (fun c hc hx => (e2 c hc hx).trans (h c hc hx)) (dd_ls_min hG hX hr g)
    · exact g
    · exact absurd (fun c hc hx => (e1 c hc hx).trans (h c hc hx).symm) (dd_ls_min hG hX ht g)
theorem dd_hgT : ∀ X, X < 64 → 0 < X → dd_hg X 6 0 0 < 6 ∧ dd_an X (2 ^ dd_hg X 6 0 0) < X ∧ X.testBit (dd_hg X 6 0 0) = true ∧ ∀ c, c < 6 → (X.testBit c = true ↔ ((dd_an X (2 ^ dd_hg X 6 0 0)).testBit c = true ∨ c = dd_hg X 6 0 0)) := by decide +kernel
/-- one set more -/
theorem dd_step {R : Nat} {ce : Nat → Nat} {ag : Nat → Nat → Nat} {X r t : Nat} (hG : dd_G R ce ag) (hX : X < 64) (h0 : 0 < X) (hr : r < R) (ht : t < R) :
    dd_w X (ag t r) = true ↔ (dd_ls ag (dd_an X (2 ^ dd_hg X 6 0 0)) t = dd_ls ag (dd_an X (2 ^ dd_hg X 6 0 0)) r ∧ ce (6 * t + dd_hg X 6 0 0) = ce (6 * r + dd_hg X 6 0 0)) := by
  obtain ⟨g1, g2, g3, g4⟩ := dd_hgT X hX h0
  rw [dd_wE hG hX ht hr, dd_ls_iff hG (by omega) hr ht]
  constructor
  · intro h
    exact ⟨fun c hc hx => h c hc ((g4 c hc).mpr (Or.inl hx)), h _ g1 g3⟩
  · intro h c hc hx
    rcases (g4 c hc).mp hx with z | z
    · exact h.1 c hc z
    · rw [z]; exact h.2
theorem dd_w0 (Y : Nat) : dd_w 0 Y = true := by simp [dd_w, dd_an]
theorem dd_lq_0 {ag : Nat → Nat → Nat} {r : Nat} : ∀ m f, dd_lq ag 0 r m f = if m = 0 then f else 0 := by
  intro m
  induction m with
  | zero => intro f; rfl
  | succ m ih =>
    intro f
    rw [dd_lq, ih, if_pos (dd_w0 _)]
    split
    · rename_i h; simp [h]
    · simp
theorem dd_ls_0 {ag : Nat → Nat → Nat} {r : Nat} : dd_ls ag 0 r = 0 := by
  unfold dd_ls
  rw [dd_lq_0]
  split
  · assumption
  · rfl
theorem dd_nn_0 {ag : Nat → Nat → Nat} : ∀ R, dd_nn ag 0 R = if R = 0 then 0 else 1 := by
  intro R
  induction R with
  | zero => rfl
  | succ R ih =>
    rw [dd_nn, dd_ls_0, ih]
    by_cases h : R = 0
    · simp [h]
    · have : ¬ 0 = R := fun z => h z.symm
      simp [h, this]
theorem dd_nn_le {ag : Nat → Nat → Nat} {X : Nat} : ∀ R, dd_nn ag X R ≤ R := by
  intro R
  induction R with
  | zero => exact Nat.le_refl _
  | succ R ih =>
    rw [dd_nn]
    split <;> omega
/-- the classes of the sets below s are known -/
def dd_C (R : Nat) (ag : Nat → Nat → Nat) (s : Nat) (a12 a13 : Nat → Int32) : Prop := ∀ X, X < s → (∀ r, r < R → a12 (6 * X + r) = nI (dd_ls ag X r)) ∧ a13 X = nI (dd_nn ag X R)
section
variable {f0_count f0_counting f0_blocks f0_isStudied f0_stemCount f0_keyCount f0_partCount f0_rows : Int32} {a1 a2 a3 a4 a5 a6 a7 a8 a9 a10 a11 a12 a13 a14 : Nat → Int32}
variable {D : List (Nat × Nat × Bool)} {q : Nat × List Nat × Nat × List Nat} {T : List Nat} {R : Nat} {ce : Nat → Nat} {u : St2} {ag : Nat → Nat → Nat}
def dd_Wc (a11 : Nat → Int32) (R : Nat) (ce : Nat → Nat) : Prop := R ≤ 6 ∧ ∀ i, i < 6 * R → a11 i = nI (ce i) ∧ ce i < 2 ^ 31
theorem dd_highestOf_l {post : Int32 → Prop} {s : Nat} (hs : s < 64) : ∀ m c f, c + m = 6 → post (nI (dd_hg s m c f)) → wX_highestOf_4 post (nI s) f0_count f0_counting f0_blocks f0_isStudied f0_stemCount f0_keyCount f0_partCount f0_rows a1 a2 a3 a4 a5 a6 a7 a8 a9 a10 a11 a12 a13 a14 (m + 1) (nI f) (nI c) := by
  intro m
  induction m with
  | zero => intro c f hc H; exact pk_le 6 c (fun _ => H) (fun z => absurd z (by omega))
  | succ m ih =>
    intro c f hc H
    rw [dd_hg] at H
    refine pk_le 6 c (fun z => absurd z (by omega)) (fun _ => dd_bb1 s c (fun h => nm_r (nI_1 c) ?_) (fun h => nm_r (nI_1 c) ?_) (dd_31 hs) (by omega))
    · rw [if_pos h] at H; exact ih _ _ (by omega) H
    · rw [if_neg (by rw [h]; decide)] at H; exact ih _ _ (by omega) H
theorem dd_partClasses_q {post : St2 → Prop} {J : Int32 → (Nat → Int32) → (Nat → Int32) → (Nat → Int32) → (Nat → Int32) → (Nat → Int32) → (Nat → Int32) → (Nat → Int32) → (Nat → Int32) → (Nat → Int32) → (Nat → Int32) → (Nat → Int32) → (Nat → Int32) → (Nat → Int32) → (Nat → Int32) → Prop}
    {X r : Nat} (hG : dd_G R ce ag) (hW : dd_Wc a11 R ce) (hC : dd_C R ag X a12 a13) (hX : X < 64) (h0 : 0 < X) (hr : r < R)
    (H : ∀ a12' a13', a12' = upd a12 (6 * X + r) (nI (dd_ls ag X r)) → a13' = upd a13 X (if dd_ls ag X r = r then a13 X + 1 else a13 X) → J (nI (r + 1)) a1 a2 a3 a4 a5 a6 a7 a8 a9 a10 a11 a12' a13' a14) : ∀ m f, m ≤ r → f ≤ r → dd_lq ag X r m f = dd_ls ag X r → ∀ y, y = nI m - 1 →
    wX_partClasses_43 post J (nI X) (nI (dd_hg X 6 0 0)) (nI (dd_an X (2 ^ dd_hg X 6 0 0))) (nI r) f0_count f0_counting f0_blocks f0_isStudied f0_stemCount f0_keyCount f0_partCount f0_rows a1 a2 a3 a4 a5 a6 a7 a8 a9 a10 a11 a12 a13 a14 (m + 1) (nI f) y := by
  obtain ⟨hR, hW⟩ := hW
  obtain ⟨g1, g2, g3, g4⟩ := dd_hgT X hX h0
  have st := fun t (ht : t < R) => dd_step hG hX h0 hr ht
  generalize dd_hg X 6 0 0 = k at *
  generalize dd_an X (2 ^ k) = le at *
  have hcl : (nI X).toNatClampNeg = X := nI_clamp (by omega)
  have hin : vp_in (nI X) 64 := pk_in X 64 hX
  intro m
  induction m with
  | zero =>
    intro f _ hf hfe y hy
    subst hy
    rw [dd_lq] at hfe
    subst hfe
    refine br_t (by decide) ⟨pk_in (6 * X + r) 384 (by omega) (dd_i6 X r), nm_r (e' := upd a12 (6 * X + r) (nI (dd_ls ag X r))) (by rw [dd_i6, nI_clamp (by omega)]) ?_⟩
    refine pk_eq (dd_ls ag X r) r (fun h => ⟨hin, hin, nm_r (e' := upd a13 X (a13 X + 1)) (by rw [hcl]) (nm_r (nI_1 r) ?_)⟩) (fun h => ⟨hin, hin, nm_r (e' := upd a13 X (a13 X)) (by rw [hcl]) (nm_r (nI_1 r) ?_)⟩)
    · exact H _ _ rfl (by rw [if_pos h])
    · exact H _ _ rfl (by rw [if_neg h])
  | succ m ih =>
    intro f hm hf hfe y hy
    rw [nI_pred] at hy
    subst hy
    rw [dd_lq] at hfe
    have hl1 := dd_ls_le (ag := ag) (X := le) (r := m)
    have hl2 := dd_ls_le (ag := ag) (X := le) (r := r)
    refine br_f (nI_pos (by omega)) ⟨pk_in (6 * le + m) 384 (by omega) (dd_i6 le m), pk_in (6 * le + r) 384 (by omega) (dd_i6 le r), ?_⟩
    have e1 : a12 (6 * nI le + nI m).toNatClampNeg = nI (dd_ls ag le m) := by rw [dd_i6, nI_clamp (by omega)]; exact (hC le g2).1 m (by omega)
    have e2 : a12 (6 * nI le + nI r).toNatClampNeg = nI (dd_ls ag le r) := by rw [dd_i6, nI_clamp (by omega)]; exact (hC le g2).1 r hr
    have w1 := hW (6 * m + k) (by omega)
    have w2 := hW (6 * r + k) (by omega)
    have e3 : a11 (6 * nI m + nI k).toNatClampNeg = nI (ce (6 * m + k)) := by rw [dd_i6, nI_clamp (by omega)]; exact w1.1
    have e4 : a11 (6 * nI r + nI k).toNatClampNeg = nI (ce (6 * r + k)) := by rw [dd_i6, nI_clamp (by omega)]; exact w2.1
    refine ek_if (d := dd_ls ag le m = dd_ls ag le r) (by rw [e1, e2]; exact nI_eq (by omega) (by omega)) (fun h => ⟨pk_in (6 * m + k) 36 (by omega) (dd_i6 m k), pk_in (6 * r + k) 36 (by omega) (dd_i6 r k), ?_⟩) (fun h => ?_)
    · refine ek_if (d := ce (6 * m + k) = ce (6 * r + k)) (by rw [e3, e4]; exact nI_eq w1.2 w2.2) (fun h' => br_f (by decide) (nm_r (dd_pm _) ?_)) (fun h' => br_t rfl (nm_r (dd_pm _) ?_))
      · rw [if_pos ((st m (by omega)).mpr ⟨h, h'⟩)] at hfe
        exact ih m (by omega) (by omega) hfe _ rfl
      · rw [if_neg (fun z => h' ((st m (by omega)).mp z).2)] at hfe
        exact ih f (by omega) hf hfe _ rfl
    · rw [if_neg (fun z => h ((st m (by omega)).mp z).1)] at hfe
      exact br_t rfl (nm_r (dd_pm _) (ih f (by omega) hf hfe _ rfl))
theorem dd_partClasses_r {post : St2 → Prop} {X : Nat} (hG : dd_G R ce ag) (hW : dd_Wc a11 R ce) (hX : X < 64) (h0 : 0 < X)
    (H : ∀ a12' a13', dd_C R ag (X + 1) a12' a13' → post (f0_count, f0_counting, f0_blocks, f0_isStudied, f0_stemCount, f0_keyCount, f0_partCount, nI R, a1, a2, a3, a4, a5, a6, a7, a8, a9, a10, a11, a12', a13', a14)) : ∀ m r a12 a13, r + m = R → dd_C R ag X a12 a13 → (∀ t, t < r → a12 (6 * X + t) = nI (dd_ls ag X t)) → a13 X = nI (dd_nn ag X r) →
    wX_partClasses_24 post (nI X) (nI (dd_hg X 6 0 0)) (nI (dd_an X (2 ^ dd_hg X 6 0 0))) f0_count f0_counting f0_blocks f0_isStudied f0_stemCount f0_keyCount f0_partCount (nI R) (m + 1) (nI r) a1 a2 a3 a4 a5 a6 a7 a8 a9 a10 a11 a12 a13 a14 := by
  have hR := hW.1
  intro m
  induction m with
  | zero =>
    intro r a12 a13 hr hC h1 h2
    have hr' : r = R := by omega
    subst hr'
    refine pk_le r r (fun _ => H a12 a13 (fun Y hY => ?_)) (fun z => absurd z (by omega))
    by_cases e : Y = X
    · rw [e]; exact ⟨h1, h2⟩
    · exact hC Y (by omega)
  | succ m ih =>
    intro r a12 a13 hr hC h1 h2
    have hl := dd_ls_le (ag := ag) (X := X) (r := r)
    refine pk_le R r (fun z => absurd z (by omega)) (fun _ => nm_r (e' := nI r - 1) rfl ⟨r + 1, ?_⟩)
    refine dd_partClasses_q hG hW hC hX h0 (by omega) (fun a12' a13' h12 h13 => ?_) r r (Nat.le_refl _) (Nat.le_refl _) rfl _ rfl
    refine ih (r + 1) a12' a13' (by omega) (fun Y hY => ?_) (fun t ht => ?_) ?_
    · refine ⟨fun t ht => ?_, ?_⟩
      · rw [h12, pk_un (by omega)]; exact (hC Y hY).1 t ht
      · rw [h13, pk_un (by omega)]; exact (hC Y hY).2
    · rw [h12]
      by_cases e : t = r
      · rw [e, pk_us]
      · rw [pk_un (by omega)]; exact h1 t (by omega)
    · rw [h13, pk_us, h2, dd_nn]
      split
      · exact nI_1 _
      · rfl
theorem dd_partClasses {post : St2 → Prop} {X : Nat} (hG : dd_G R ce ag) (hW : dd_Wc a11 R ce) (hX : X < 64) (h0 : 0 < X) (hC : dd_C R ag X a12 a13)
    (H : ∀ a12' a13', dd_C R ag (X + 1) a12' a13' → post (f0_count, f0_counting, f0_blocks, f0_isStudied, f0_stemCount, f0_keyCount, f0_partCount, nI R, a1, a2, a3, a4, a5, a6, a7, a8, a9, a10, a11, a12', a13', a14)) : wpX_partClasses post (f0_count, f0_counting, f0_blocks, f0_isStudied, f0_stemCount, f0_keyCount, f0_partCount, nI R, a1, a2, a3, a4, a5, a6, a7, a8, a9, a10, a11, a12, a13, a14) (nI X) := by
  obtain ⟨g1, g2, g3, g4⟩ := dd_hgT X hX h0
  unfold wpX_partClasses
  refine ⟨7, dd_highestOf_l hX 6 0 0 (by omega) (nm_r (e' := nI (dd_an X (2 ^ dd_hg X 6 0 0))) (by rw [dd_one _ (by omega), dd_andn]) ⟨pk_in X 64 hX, nm_r (e' := upd a13 X 0) (by rw [nI_clamp (by omega)]) ⟨R + 1, ?_⟩⟩)⟩
  refine dd_partClasses_r hG hW hX h0 H R 0 a12 _ (by omega) (fun Y hY => ⟨(hC Y hY).1, ?_⟩) (fun t ht => absurd ht (by omega)) (by rw [pk_us]; rfl)
  rw [pk_un (by omega)]
  exact (hC Y hY).2
theorem dd_findClasses_s {post : St2 → Prop} (hG : dd_G R ce ag) (hW : dd_Wc a11 R ce) (H : ∀ a12' a13', dd_C R ag 64 a12' a13' → post (f0_count, f0_counting, f0_blocks, f0_isStudied, f0_stemCount, f0_keyCount, f0_partCount, nI R, a1, a2, a3, a4, a5, a6, a7, a8, a9, a10, a11, a12', a13', a14)) : ∀ m X a12 a13, X + m = 64 → 0 < X → dd_C R ag X a12 a13 →
    wX_findClasses_43 post (m + 1) (nI X) f0_count f0_counting f0_blocks f0_isStudied f0_stemCount f0_keyCount f0_partCount (nI R) a1 a2 a3 a4 a5 a6 a7 a8 a9 a10 a11 a12 a13 a14 := by
  intro m
  induction m with
  | zero =>
    intro X a12 a13 hX h0 hC
    have hX' : X = 64 := by omega
    subst hX'
    exact pk_le 64 64 (fun _ => H a12 a13 hC) (fun z => absurd z (by omega))
  | succ m ih =>
    intro X a12 a13 hX h0 hC
    refine pk_le 64 X (fun z => absurd z (by omega)) (fun _ => dd_partClasses hG hW (by omega) h0 hC (fun a12' a13' hC' => nm_r (nI_1 X) ?_))
    exact ih (X + 1) a12' a13' (by omega) (by omega) hC'
theorem dd_findClasses_i {post : St2 → Prop} (hG : dd_G R ce ag) (hW : dd_Wc a11 R ce) (H : ∀ a12' a13', dd_C R ag 64 a12' a13' → post (f0_count, f0_counting, f0_blocks, f0_isStudied, f0_stemCount, f0_keyCount, f0_partCount, nI R, a1, a2, a3, a4, a5, a6, a7, a8, a9, a10, a11, a12', a13', a14)) : ∀ m r a12, r + m = R → (∀ t, t < r → a12 t = 0) →
    wX_findClasses_2 post f0_count f0_counting f0_blocks f0_isStudied f0_stemCount f0_keyCount f0_partCount (nI R) (m + 1) (nI r) a1 a2 a3 a4 a5 a6 a7 a8 a9 a10 a11 a12 a13 a14 := by
  have hR := hW.1
  intro m
  induction m with
  | zero =>
    intro r a12 hr h1
    have hr' : r = R := by omega
    subst hr'
    have base : ∀ v, v = nI (dd_nn ag 0 r) → dd_C r ag 1 a12 (upd a13 0 v) := by
      intro v hv X hX
      have : X = 0 := by omega
      subst this
      refine ⟨fun t ht => ?_, ?_⟩
      · rw [dd_ls_0, Nat.mul_zero, Nat.zero_add, h1 t ht]; rfl
      · rw [pk_us, hv]
    refine pk_le r r (fun _ => pk_le r 0 (fun h => nm_e ⟨64, dd_findClasses_s hG hW H 63 1 a12 _ (by omega) (by omega) (base _ ?_)⟩) (fun h => nm_e ⟨64, dd_findClasses_s hG hW H 63 1 a12 _ (by omega) (by omega) (base _ ?_)⟩)) (fun z => absurd z (by omega))
    · rw [dd_nn_0, if_pos (by omega)]; rfl
    · rw [dd_nn_0, if_neg (by omega)]; rfl
  | succ m ih =>
    intro r a12 hr h1
    refine pk_le R r (fun z => absurd z (by omega)) (fun _ => ⟨pk_in r 384 (by omega), nm_e (nm_r (nI_1 r) (ih (r + 1) _ (by omega) (fun t ht => ?_)))⟩)
    rw [nI_clamp (by omega)]
    by_cases e : t = r
    · rw [e, pk_us]
    · rw [pk_un e]; exact h1 t (by omega)
theorem dd_findClasses {post : St2 → Prop} (hG : dd_G R ce ag) (hW : dd_Wc a11 R ce) (H : ∀ a12' a13', dd_C R ag 64 a12' a13' → post (f0_count, f0_counting, f0_blocks, f0_isStudied, f0_stemCount, f0_keyCount, f0_partCount, nI R, a1, a2, a3, a4, a5, a6, a7, a8, a9, a10, a11, a12', a13', a14)) : wpX_findClasses post (f0_count, f0_counting, f0_blocks, f0_isStudied, f0_stemCount, f0_keyCount, f0_partCount, nI R, a1, a2, a3, a4, a5, a6, a7, a8, a9, a10, a11, a12, a13, a14) :=
  ⟨R + 1, dd_findClasses_i hG hW H R 0 a12 (by omega) (fun t ht => absurd ht (by omega))⟩
end
end
section
section
variable {f0_count f0_counting f0_blocks f0_isStudied f0_stemCount f0_keyCount f0_partCount f0_rows : Int32} {a1 a2 a3 a4 a5 a6 a7 a8 a9 a10 a11 a12 a13 a14 : Nat → Int32}
variable {D : List (Nat × Nat × Bool)} {q : Nat × List Nat × Nat × List Nat} {T : List Nat} {R : Nat} {ce : Nat → Nat} {u : St2} {ag : Nat → Nat → Nat}
theorem dd_keeps {post : Int32 → St2 → Prop} {x y : Nat} (hG : dd_G R ce ag) (hx : x < 64) (hy : y < 64) (hu : dd_K D q T R ce u) (H : ∀ u', dd_K D q T R ce u' → post (dd_b (dd_nn ag (x ||| y) R == dd_nn ag x R)) u') : wpX_keeps post u (nI x) (nI y) := by
  obtain ⟨f0_count, f0_counting, f0_blocks, f0_isStudied, f0_stemCount, f0_keyCount, f0_partCount, f0_rows, a1, a2, a3, a4, a5, a6, a7, a8, a9, a10, a11, a12, a13, a14⟩ := u
  obtain ⟨rfl, hD, hst, hT, ⟨rfl, hW⟩⟩ := hu
  have hR := hW.1
  unfold wpX_keeps
  refine dd_ok hx (br_t rfl (dd_ok hy (br_t rfl (dd_findClasses hG hW (fun a12' a13' hC => ?_)))))
  have hxy : x ||| y < 64 := dd_o64 hx hy
  have HH := H (nI D.length, f0_counting, f0_blocks, f0_isStudied, f0_stemCount, f0_keyCount, f0_partCount, nI R, a1, a2, a3, a4, a5, a6, a7, a8, a9, a10, a11, a12', a13', a14) ⟨rfl, hD, hst, hT, ⟨rfl, hW⟩⟩
  have n1 := dd_nn_le (ag := ag) (X := x ||| y) R
  have n2 := dd_nn_le (ag := ag) (X := x) R
  refine ⟨pk_in (x ||| y) 64 hxy (dd_or x y), pk_in x 64 hx, ek_if (d := dd_nn ag (x ||| y) R = dd_nn ag x R) (by rw [dd_or, nI_clamp (dd_31 hxy), nI_clamp (dd_31 hx), (hC _ hxy).2, (hC _ hx).2]; exact nI_eq (by omega) (by omega)) (fun h => ?_) (fun h => ?_)⟩
  · rw [beq_iff_eq.mpr h] at HH; exact HH
  · rw [beq_eq_false_iff_ne.mpr h] at HH; exact HH
theorem dd_i378 (r : Nat) : (378 : Int32) + nI r = nI (6 * 63 + r) := by
  show nI 378 + nI r = _
  rw [nI_add]
theorem dd_isProduct_l {post : Int32 → Prop} {x y z h : Nat} {a13 : Nat → Int32} (hR : R ≤ 6) (hC : dd_C R ag 64 a12 a13) (hx : x < 64) (hy : y < 64) (hz : z < 64) (hh : h < 64) : ∀ m r a f g, r + m = R → a ≤ r → f ≤ r → g ≤ r →
    post (dd_b (dd_ip ag x y z h m r a f g)) → wX_isProduct_24 post (nI x) (nI y) (nI h) (nI z) f0_count f0_counting f0_blocks f0_isStudied f0_stemCount f0_keyCount f0_partCount (nI R) a1 a2 a3 a4 a5 a6 a7 a8 a9 a10 a11 a12 a13 a14 (m + 1) (nI a) (nI f) (nI g) (nI r) := by
  have hxy : x ||| y < 64 := dd_o64 hx hy
  have hxz : x ||| z < 64 := dd_o64 hx hz
  intro m
  induction m with
  | zero =>
    intro r a f g hr ha hf hg H
    rw [dd_ip] at H
    have hfg : f * g ≤ 6 * 6 := Nat.mul_le_mul (by omega) (by omega)
    refine pk_le R r (fun _ => pk_eq a (f * g) (fun h => ?_) (fun h => ?_) rfl (pk_mul f g)) (fun z => absurd z (by omega))
    · rw [beq_iff_eq.mpr h] at H; exact H
    · rw [beq_eq_false_iff_ne.mpr h] at H; exact H
  | succ m ih =>
    intro r a f g hr ha hf hg H
    rw [dd_ip] at H
    have rd : ∀ X, X < 64 → a12 (6 * nI X + nI r).toNatClampNeg = nI (dd_ls ag X r) := by
      intro X hX
      rw [dd_i6, nI_clamp (by omega)]
      exact (hC X hX).1 r (by omega)
    have le : ∀ X, dd_ls ag X r ≤ r := fun X => dd_ls_le
    have l63 := le 63
    have lx := le x
    have lxy := le (x ||| y)
    have lxz := le (x ||| z)
    refine pk_le R r (fun z => absurd z (by omega)) (fun _ => ⟨pk_in (6 * x + r) 384 (by omega) (dd_i6 x r), ?_⟩)
    refine ek_if (d := dd_ls ag x r = h) (by rw [rd x hx]; exact nI_eq (by omega) (by omega)) (fun e => ⟨pk_in (6 * 63 + r) 384 (by omega) (dd_i378 r), ?_⟩) (fun e => nm_r (nI_1 r) ?_)
    · rw [if_pos e] at H
      have third : ∀ a f, a ≤ r + 1 → f ≤ r + 1 → post (dd_b (dd_ip ag x y z h m (r + 1) a f (if dd_ls ag (x ||| z) r = r then g + 1 else g))) →
          wX_isProduct_104 post (wX_isProduct_24 post (nI x) (nI y) (nI h) (nI z) f0_count f0_counting f0_blocks f0_isStudied f0_stemCount f0_keyCount f0_partCount (nI R) a1 a2 a3 a4 a5 a6 a7 a8 a9 a10 a11 a12 a13 a14 (m + 1)) (nI x) (nI y) (nI h) (nI z) (nI a) (nI g) (nI r) (nI f) f0_count f0_counting f0_blocks f0_isStudied f0_stemCount f0_keyCount f0_partCount (nI R) a1 a2 a3 a4 a5 a6 a7 a8 a9 a10 a11 a12 a13 a14 := by
        intro a f ha hf H
        refine ⟨pk_in (6 * (x ||| z) + r) 384 (by omega) (by rw [dd_or, dd_i6]), ?_⟩
        refine ek_if (d := dd_ls ag (x ||| z) r = r) (by rw [dd_or, rd _ hxz]; exact nI_eq (by omega) (by omega)) (fun e => nm_r (nI_1 g) (nm_r (nI_1 r) ?_)) (fun e => nm_r (nI_1 r) ?_)
        · rw [if_pos e] at H; exact ih (r + 1) a f (g + 1) (by omega) ha hf (by omega) H
        · rw [if_neg e] at H; exact ih (r + 1) a f g (by omega) ha hf (by omega) H
      have second : ∀ a, a ≤ r + 1 → post (dd_b (dd_ip ag x y z h m (r + 1) a (if dd_ls ag (x ||| y) r = r then f + 1 else f) (if dd_ls ag (x ||| z) r = r then g + 1 else g))) →
          wX_isProduct_74 post (wX_isProduct_24 post (nI x) (nI y) (nI h) (nI z) f0_count f0_counting f0_blocks f0_isStudied f0_stemCount f0_keyCount f0_partCount (nI R) a1 a2 a3 a4 a5 a6 a7 a8 a9 a10 a11 a12 a13 a14 (m + 1)) (nI x) (nI y) (nI h) (nI z) (nI f) (nI g) (nI r) (nI a) f0_count f0_counting f0_blocks f0_isStudied f0_stemCount f0_keyCount f0_partCount (nI R) a1 a2 a3 a4 a5 a6 a7 a8 a9 a10 a11 a12 a13 a14 := by
        intro a ha H
        refine ⟨pk_in (6 * (x ||| y) + r) 384 (by omega) (by rw [dd_or, dd_i6]), ?_⟩
        refine ek_if (d := dd_ls ag (x ||| y) r = r) (by rw [dd_or, rd _ hxy]; exact nI_eq (by omega) (by omega)) (fun e => ?_) (fun e => ?_)
        · rw [if_pos e] at H
          rw [nI_1]
          exact third a (f + 1) ha (by omega) H
        · rw [if_neg e] at H
          exact third a f ha (by omega) H
      refine ek_if (d := dd_ls ag 63 r = r) (by rw [dd_i378, ← dd_i6, rd 63 (by omega)]; exact nI_eq (by omega) (by omega)) (fun e => ?_) (fun e => ?_)
      · rw [if_pos e] at H
        rw [nI_1]
        exact second (a + 1) (by omega) H
      · rw [if_neg e] at H
        exact second a (by omega) H
    · rw [if_neg e] at H
      exact ih (r + 1) a f g (by omega) (by omega) (by omega) (by omega) H
theorem dd_keepsBundled_l {post : Int32 → St2 → Prop} {x y : Nat} (hR : R ≤ 6) (hC : dd_C R ag 64 a12 a13) (hx : x < 64) (hy : y < 64) : ∀ m r, r + m = R →
    post (dd_b (dd_kb ag x y R m r)) (f0_count, f0_counting, f0_blocks, f0_isStudied, f0_stemCount, f0_keyCount, f0_partCount, nI R, a1, a2, a3, a4, a5, a6, a7, a8, a9, a10, a11, a12, a13, a14) → wX_keepsBundled_27 post (nI x) (nI y) f0_count f0_counting f0_blocks f0_isStudied f0_stemCount f0_keyCount f0_partCount (nI R) a1 a2 a3 a4 a5 a6 a7 a8 a9 a10 a11 a12 a13 a14 (m + 1) 1 (nI r) := by
  intro m
  induction m with
  | zero => intro r hr H; exact pk_le R r (fun _ => ⟨dd_nar true, H⟩) (fun z => absurd z (by omega))
  | succ m ih =>
    intro r hr H
    rw [dd_kb] at H
    have le := dd_ls_le (ag := ag) (X := x) (r := r)
    have hz : dd_an (dd_an 63 x) y < 64 := dd_n64 _ (dd_n64 _ (by omega))
    refine pk_le R r (fun z => absurd z (by omega)) (fun _ => br_f (by decide) ⟨pk_in (6 * x + r) 384 (by omega) (dd_i6 x r), ?_⟩)
    refine ek_if (d := dd_ls ag x r = r) (by rw [dd_i6, nI_clamp (by omega), (hC x hx).1 r (by omega)]; exact nI_eq (by omega) (by omega)) (fun e => ?_) (fun e => nm_r (nI_1 r) ?_)
    · rw [if_pos e] at H
      refine nm_r (e' := nI (dd_an (dd_an 63 x) y)) ?_ ⟨R + 1, dd_isProduct_l hR hC hx hy hz (by omega) R 0 0 0 0 (by omega) (by omega) (by omega) (by omega) (dd_br _ (fun h => nm_r (nI_1 r) ?_) (fun h => nm_r (nI_1 r) ?_))⟩
      · show (nI 63 &&& _) &&& _ = _
        rw [dd_andn, dd_andn]
      · rw [if_neg (by rw [h]; decide)] at H
        exact pk_le R (r + 1) (fun _ => ⟨dd_nar false, H⟩) (fun z => br_t rfl ⟨dd_nar false, H⟩)
      · rw [if_pos h] at H
        exact ih (r + 1) (by omega) H
    · rw [if_neg e] at H
      exact ih (r + 1) (by omega) H
theorem dd_keepsBundled {post : Int32 → St2 → Prop} {x y : Nat} (hG : dd_G R ce ag) (hx : x < 64) (hy : y < 64) (hu : dd_K D q T R ce u) (H : ∀ u', dd_K D q T R ce u' → post (dd_b (dd_kb ag x y R R 0)) u') : wpX_keepsBundled post u (nI x) (nI y) := by
  obtain ⟨f0_count, f0_counting, f0_blocks, f0_isStudied, f0_stemCount, f0_keyCount, f0_partCount, f0_rows, a1, a2, a3, a4, a5, a6, a7, a8, a9, a10, a11, a12, a13, a14⟩ := u
  obtain ⟨rfl, hD, hst, hT, ⟨rfl, hW⟩⟩ := hu
  unfold wpX_keepsBundled
  refine dd_ok hx (br_t rfl (dd_ok hy (br_t rfl (dd_findClasses hG hW (fun a12' a13' hC => ⟨R + 1, ?_⟩)))))
  exact dd_keepsBundled_l hW.1 hC hx hy R 0 (by omega) (H _ ⟨rfl, hD, hst, hT, ⟨rfl, hW⟩⟩)
theorem dd_isLeastFor_l {post : Int32 → Prop} {nc : Nat → Nat} {x c : Nat} (h13 : ∀ X, X < 64 → a13 X = nI (nc X)) (hn : ∀ X, nc X ≤ 6) (hx : x < 64) (hc : c < 6) : ∀ m k g, k + m = 6 →
    post (dd_b (dd_lf nc x c m k g)) → wX_isLeastFor_5 post (nI x) (nI c) f0_count f0_counting f0_blocks f0_isStudied f0_stemCount f0_keyCount f0_partCount f0_rows a1 a2 a3 a4 a5 a6 a7 a8 a9 a10 a11 a12 a13 a14 (m + 1) (dd_b g) (nI k) := by
  intro m
  induction m with
  | zero => intro k g hk H; exact pk_le 6 k (fun _ => ⟨dd_nar g, H⟩) (fun z => absurd z (by omega))
  | succ m ih =>
    intro k g hk H
    rw [dd_lf] at H
    have IH := ih (k + 1) _ (by omega) H
    have hl : dd_an x (2 ^ k) < 64 := dd_n64 _ hx
    have hlc : dd_an x (2 ^ k) ||| 2 ^ c < 64 := dd_o64 hl (dd_p64 hc)
    refine pk_le 6 k (fun z => absurd z (by omega)) (fun _ => nm_r (e' := nI (dd_an x (2 ^ k))) (by rw [dd_one k (by omega), dd_andn]) ?_)
    refine dd_br g (fun hg => nm_r (nI_1 k) ?_) (fun hg => pk_eq (dd_an x (2 ^ k)) x (fun h => nm_r (nI_1 k) ?_) (fun h => ?_))
    · rw [hg] at IH; exact IH
    · rw [hg, beq_iff_eq.mpr h] at IH; exact IH
    · have n1 := hn (dd_an x (2 ^ k) ||| 2 ^ c)
      have n2 := hn (dd_an x (2 ^ k))
      rw [dd_one c (by omega), dd_or, nI_clamp (dd_31 hlc), nI_clamp (dd_31 hl), h13 _ hlc, h13 _ hl]
      refine ⟨pk_in _ 64 hlc, pk_in _ 64 hl, ek_if (nI_eq (by omega) (by omega)) (fun h' => nm_r (nI_1 k) ?_) (fun h' => nm_r (nI_1 k) ?_)⟩
      · rw [hg, beq_eq_false_iff_ne.mpr h, beq_iff_eq.mpr h'] at IH; exact IH
      · rw [hg, beq_eq_false_iff_ne.mpr h, beq_eq_false_iff_ne.mpr h'] at IH; exact IH
theorem dd_discovered_c {post : Int32 → St2 → Prop} {J : Int32 → Int32 → Prop} {nc : Nat → Nat} {x : Nat} (h13 : ∀ X, X < 64 → a13 X = nI (nc X)) (hn : ∀ X, nc X ≤ 6) (hx : x < 64) : ∀ m c n, c + m = 6 →
    J (nI (dd_dj nc x m c n)) (nI (x + 1)) → wX_discovered_16 post J (nI x) f0_count f0_counting f0_blocks f0_isStudied f0_stemCount f0_keyCount f0_partCount f0_rows a1 a2 a3 a4 a5 a6 a7 a8 a9 a10 a11 a12 a13 a14 (m + 1) (nI n) (nI c) := by
  intro m
  induction m with
  | zero => intro c n hc H; exact pk_le 6 c (fun _ => nm_r (nI_1 x) H) (fun z => absurd z (by omega))
  | succ m ih =>
    intro c n hc H
    rw [dd_dj] at H
    have hxc : x ||| 2 ^ c < 64 := dd_o64 hx (dd_p64 (by omega))
    refine pk_le 6 c (fun z => absurd z (by omega)) (fun _ => dd_bb0 x c (fun h => br_f (by decide) ?_) (fun h => br_t rfl (nm_r (nI_1 c) ?_)) (dd_31 hx) (by omega))
    · rw [if_pos h] at H
      have n1 := hn (x ||| 2 ^ c)
      have n2 := hn x
      rw [dd_one c (by omega), dd_or, nI_clamp (dd_31 hxc), nI_clamp (dd_31 hx), h13 _ hxc, h13 _ hx]
      refine ⟨pk_in _ 64 hxc, pk_in _ 64 hx, ek_if (nI_eq (by omega) (by omega)) (fun h' => ?_) (fun h' => nm_r (nI_1 c) ?_)⟩
      · rw [if_pos h'] at H
        refine ⟨7, dd_isLeastFor_l h13 hn hx (by omega) 6 0 true (by omega) (dd_br _ (fun hb => nm_r (nI_1 c) ?_) (fun hb => nm_r (nI_1 n) (nm_r (nI_1 c) ?_)))⟩
        · rw [if_neg (by rw [hb]; decide)] at H; exact ih _ _ (by omega) H
        · rw [if_pos hb] at H; exact ih _ _ (by omega) H
      · rw [if_neg h'] at H; exact ih _ _ (by omega) H
    · rw [if_neg (by rw [h]; decide)] at H; exact ih _ _ (by omega) H
theorem dd_discovered_x {post : Int32 → St2 → Prop} {nc : Nat → Nat} (h13 : ∀ X, X < 64 → a13 X = nI (nc X)) (hn : ∀ X, nc X ≤ 6) : ∀ m x n, x + m = 64 →
    post (nI (dd_dk nc m x n)) (f0_count, f0_counting, f0_blocks, f0_isStudied, f0_stemCount, f0_keyCount, f0_partCount, f0_rows, a1, a2, a3, a4, a5, a6, a7, a8, a9, a10, a11, a12, a13, a14) → wX_discovered_8 post f0_count f0_counting f0_blocks f0_isStudied f0_stemCount f0_keyCount f0_partCount f0_rows a1 a2 a3 a4 a5 a6 a7 a8 a9 a10 a11 a12 a13 a14 (m + 1) (nI n) (nI x) := by
  intro m
  induction m with
  | zero => intro x n hx H; exact pk_le 64 x (fun _ => H) (fun z => absurd z (by omega))
  | succ m ih =>
    intro x n hx H
    rw [dd_dk] at H
    exact pk_le 64 x (fun z => absurd z (by omega)) (fun _ => ⟨7, dd_discovered_c h13 hn (by omega) 6 0 n (by omega) (ih (x + 1) _ (by omega) H)⟩)
theorem dd_discovered {post : Int32 → St2 → Prop} (hG : dd_G R ce ag) (hu : dd_K D q T R ce u) (H : ∀ u', dd_K D q T R ce u' → post (nI (dd_dk (fun X => dd_nn ag X R) 64 0 0)) u') : wpX_discovered post u := by
  obtain ⟨f0_count, f0_counting, f0_blocks, f0_isStudied, f0_stemCount, f0_keyCount, f0_partCount, f0_rows, a1, a2, a3, a4, a5, a6, a7, a8, a9, a10, a11, a12, a13, a14⟩ := u
  obtain ⟨rfl, hD, hst, hT, ⟨rfl, hW⟩⟩ := hu
  have hR := hW.1
  unfold wpX_discovered
  refine dd_findClasses hG hW (fun a12' a13' hC => ⟨65, ?_⟩)
  exact dd_discovered_x (nc := fun X => dd_nn ag X R) (fun X hX => (hC X hX).2) (fun X => Nat.le_trans (dd_nn_le R) hR) 64 0 0 (by omega) (H _ ⟨rfl, hD, hst, hT, ⟨rfl, hW⟩⟩)
theorem dd_aoT : ∀ A, A < 64 → ∀ c, c < 6 → (A.testBit c = true → A % 2 ^ c ||| 2 ^ c = A % 2 ^ (c + 1)) ∧ (A.testBit c = false → A % 2 ^ c = A % 2 ^ (c + 1)) := by decide +kernel
theorem dd_agreementOf_l {post : Int32 → Prop} {r t : Nat} (hG : dd_G R ce ag) (hW : dd_Wc a11 R ce) (hr : r < R) (ht : t < R) (H : post (nI (ag r t))) : ∀ m c s, c + m = 6 → s = ag r t % 2 ^ c →
    wX_agreementOf_5 post (nI r) (nI t) f0_count f0_counting f0_blocks f0_isStudied f0_stemCount f0_keyCount f0_partCount f0_rows a1 a2 a3 a4 a5 a6 a7 a8 a9 a10 a11 a12 a13 a14 (m + 1) (nI s) (nI c) := by
  obtain ⟨hR, hW⟩ := hW
  obtain ⟨g1, g2⟩ := hG r t hr ht
  intro m
  induction m with
  | zero =>
    intro c s hc hs
    have hc' : c = 6 := by omega
    subst hc'
    rw [Nat.mod_eq_of_lt (show ag r t < 2 ^ 6 by omega)] at hs
    subst hs
    exact pk_le 6 6 (fun _ => H) (fun z => absurd z (by omega))
  | succ m ih =>
    intro c s hc hs
    subst hs
    have w1 := hW (6 * r + c) (by omega)
    have w2 := hW (6 * t + c) (by omega)
    have tt := dd_aoT (ag r t) g1 c (by omega)
    refine pk_le 6 c (fun z => absurd z (by omega)) (fun _ => ⟨pk_in (6 * r + c) 36 (by omega) (dd_i6 r c), pk_in (6 * t + c) 36 (by omega) (dd_i6 t c), ?_⟩)
    refine ek_if (d := (ag r t).testBit c = true) (by rw [dd_i6, dd_i6, nI_clamp (by omega), nI_clamp (by omega), w1.1, w2.1, nI_eq w1.2 w2.2]; exact (g2 c (by omega)).symm) (fun h => nm_r (by rw [dd_one c (by omega), dd_or]) (nm_r (nI_1 c) ?_)) (fun h => nm_r (nI_1 c) ?_)
    · exact ih (c + 1) _ (by omega) (tt.1 h)
    · exact ih (c + 1) _ (by omega) (tt.2 (dd_nt h))
theorem dd_isNoted_l {post : Int32 → Prop} {N : List Nat} {s : Nat} (h14 : dd_am a14 N) (hN : dd_lt 64 N) (hl : N.length ≤ 15) (hs : s < 64) : ∀ m k any, k + m = N.length →
    post (dd_b (dd_no N s m k any)) → wX_isNoted_5 post (nI s) (nI N.length) f0_count f0_counting f0_blocks f0_isStudied f0_stemCount f0_keyCount f0_partCount f0_rows a1 a2 a3 a4 a5 a6 a7 a8 a9 a10 a11 a12 a13 a14 (m + 1) (dd_b any) (nI k) := by
  intro m
  induction m with
  | zero => intro k any hk H; exact pk_le N.length k (fun _ => ⟨dd_nar any, H⟩) (fun z => absurd z (by omega))
  | succ m ih =>
    intro k any hk H
    rw [dd_no] at H
    have IH := ih (k + 1) _ (by omega) H
    refine pk_le N.length k (fun z => absurd z (by omega)) (fun _ => dd_br any (fun ha => ⟨pk_in k 15 (by omega), ?_⟩) (fun ha => nm_r (nI_1 k) ?_))
    · refine ek_if (d := dd_g N k = s) (by rw [dd_rd h14 rfl (by omega) (by omega)]; exact nI_eq (dd_31 (hN k)) (dd_31 hs)) (fun h => nm_r (nI_1 k) ?_) (fun h => nm_r (nI_1 k) ?_)
      · rw [ha, beq_iff_eq.mpr h] at IH; exact IH
      · rw [ha, beq_eq_false_iff_ne.mpr h] at IH; exact IH
    · rw [ha] at IH; exact IH
def dd_tr : Nat → Nat
  | 0 => 0
  | r + 1 => dd_tr r + r
theorem dd_tr15 : ∀ r, r < 6 → dd_tr r + r ≤ 15 := by decide +kernel
theorem dd_a1_ok {r : Nat} (hG : dd_G R ce ag) (hr : r < R) : ∀ m t N, t + m ≤ r → dd_lt 64 N → dd_lt 64 (dd_a1 ag r m t N) ∧ (dd_a1 ag r m t N).length ≤ N.length + m := by
  intro m
  induction m with
  | zero => intro t N _ h; exact ⟨h, Nat.le_refl _⟩
  | succ m ih =>
    intro t N ht h
    rw [dd_a1]
    split
    · have := ih (t + 1) N (by omega) h
      exact ⟨this.1, by omega⟩
    · have := ih (t + 1) (N ++ [ag r t]) (by omega) (dd_lt_push h (hG r t hr (by omega)).1)
      rw [List.length_append] at this
      exact ⟨this.1, by have := this.2; simp at this; omega⟩
theorem dd_agreements_q {post : Int32 → St2 → Prop} {J : Int32 → Int32 → (Nat → Int32) → (Nat → Int32) → (Nat → Int32) → (Nat → Int32) → (Nat → Int32) → (Nat → Int32) → (Nat → Int32) → (Nat → Int32) → (Nat → Int32) → (Nat → Int32) → (Nat → Int32) → (Nat → Int32) → (Nat → Int32) → (Nat → Int32) → Prop}
    {r : Nat} (hG : dd_G R ce ag) (hW : dd_Wc a11 R ce) (hr : r < R) : ∀ m t N a14, t + m = r → N.length ≤ dd_tr r + t → dd_lt 64 N → dd_am a14 N →
    (∀ a14', dd_am a14' (dd_a1 ag r m t N) → J (nI (dd_a1 ag r m t N).length) (nI (r + 1)) a1 a2 a3 a4 a5 a6 a7 a8 a9 a10 a11 a12 a13 a14') →
    wX_agreements_14 post J (nI r) f0_count f0_counting f0_blocks f0_isStudied f0_stemCount f0_keyCount f0_partCount f0_rows (m + 1) (nI N.length) (nI t) a1 a2 a3 a4 a5 a6 a7 a8 a9 a10 a11 a12 a13 a14 := by
  have hR := hW.1
  have h15 := dd_tr15 r (by omega)
  intro m
  induction m with
  | zero => intro t N a14 ht hl hN h14 H; exact pk_le r t (fun _ => nm_r (nI_1 r) (H a14 h14)) (fun z => absurd z (by omega))
  | succ m ih =>
    intro t N a14 ht hl hN h14 H
    rw [dd_a1] at H
    have hg := (hG r t hr (by omega)).1
    refine pk_le r t (fun z => absurd z (by omega)) (fun _ => ⟨7, dd_agreementOf_l hG hW hr (by omega) ?_ 6 0 0 (by omega) (by rw [Nat.pow_zero, Nat.mod_one])⟩)
    refine ⟨N.length + 1, dd_isNoted_l h14 hN (by omega) hg N.length 0 false (by omega) (dd_br _ (fun h => ⟨pk_in N.length 15 (by omega), nm_e (nm_r (nI_1 _) (nm_r (nI_1 t) ?_))⟩) (fun h => nm_r (nI_1 t) ?_))⟩
    · rw [if_neg (by rw [h]; decide)] at H
      have := ih (t + 1) (N ++ [ag r t]) _ (by omega) (by rw [List.length_append]; simp; omega) (dd_lt_push hN hg) (dd_am_push h14 rfl (by omega) rfl) H
      rw [List.length_append] at this
      exact this
    · rw [if_pos h] at H
      exact ih (t + 1) N a14 (by omega) (by omega) hN h14 H
theorem dd_agreements_r {post : Int32 → St2 → Prop} (hG : dd_G R ce ag) (hW : dd_Wc a11 R ce) : ∀ m r N a14, r + m = R → N.length ≤ dd_tr r → dd_lt 64 N → dd_am a14 N →
    (∀ a14', post (nI (dd_a2 ag m r N).length) (f0_count, f0_counting, f0_blocks, f0_isStudied, f0_stemCount, f0_keyCount, f0_partCount, nI R, a1, a2, a3, a4, a5, a6, a7, a8, a9, a10, a11, a12, a13, a14')) →
    wX_agreements_4 post f0_count f0_counting f0_blocks f0_isStudied f0_stemCount f0_keyCount f0_partCount (nI R) (m + 1) (nI N.length) (nI r) a1 a2 a3 a4 a5 a6 a7 a8 a9 a10 a11 a12 a13 a14 := by
  have hR := hW.1
  intro m
  induction m with
  | zero => intro r N a14 hr hl hN h14 H; exact pk_le R r (fun _ => H a14) (fun z => absurd z (by omega))
  | succ m ih =>
    intro r N a14 hr hl hN h14 H
    rw [dd_a2] at H
    have t := dd_a1_ok hG (show r < R by omega) r 0 N (by omega) hN
    refine pk_le R r (fun z => absurd z (by omega)) (fun _ => ⟨r + 1, dd_agreements_q hG hW (by omega) r 0 N a14 (by omega) (by omega) hN h14 (fun a14' h14' => ?_)⟩)
    exact ih (r + 1) _ a14' (by omega) (by rw [dd_tr]; omega) t.1 h14' H
theorem dd_agreements {post : Int32 → St2 → Prop} (hG : dd_G R ce ag) (hu : dd_K D q T R ce u) (H : ∀ u', dd_K D q T R ce u' → post (nI (dd_a2 ag R 0 []).length) u') : wpX_agreements post u := by
  obtain ⟨f0_count, f0_counting, f0_blocks, f0_isStudied, f0_stemCount, f0_keyCount, f0_partCount, f0_rows, a1, a2, a3, a4, a5, a6, a7, a8, a9, a10, a11, a12, a13, a14⟩ := u
  obtain ⟨rfl, hD, hst, hT, ⟨rfl, hW⟩⟩ := hu
  exact ⟨R + 1, dd_agreements_r hG hW R 0 [] a14 (by omega) (by simp) (dd_lt_nil (by omega)) dd_am_nil (fun a14' => H _ ⟨rfl, hD, hst, hT, ⟨rfl, hW⟩⟩)⟩
theorem dd_eo_lt {nc : Nat → Nat} {x : Nat} : ∀ m c o, c + m ≤ 6 → o < 64 → dd_eo nc x m c o < 64 := by
  intro m
  induction m with
  | zero => intro c o _ h; exact h
  | succ m ih =>
    intro c o hc h
    rw [dd_eo]
    split
    · exact ih _ _ (by omega) (dd_o64 h (dd_p64 (by omega)))
    · exact ih _ _ (by omega) h
theorem dd_exact_c {post : Int32 → St2 → Prop} {J : Int32 → Int32 → Prop} {nc cl : Nat → Nat} {x : Nat} (h13 : ∀ X, X < 64 → a13 X = nI (nc X)) (hn : ∀ X, nc X ≤ 6) (h5 : ∀ x, x < 64 → a5 x = nI (cl x)) (hcl : ∀ x, cl x < 64) (hx : x < 64) : ∀ m c o, c + m = 6 → o < 64 →
    J (dd_b (dd_eo nc x m c o == cl x)) (nI (x + 1)) → wX_exact_27 post J (nI x) f0_count f0_counting f0_blocks f0_isStudied f0_stemCount f0_keyCount f0_partCount f0_rows a1 a2 a3 a4 a5 a6 a7 a8 a9 a10 a11 a12 a13 a14 (m + 1) (nI o) (nI c) := by
  intro m
  induction m with
  | zero =>
    intro c o hc ho H
    rw [dd_eo] at H
    refine pk_le 6 c (fun _ => ⟨pk_in x 64 hx, ?_⟩) (fun z => absurd z (by omega))
    refine ek_if (d := o = cl x) (by rw [nI_clamp (dd_31 hx), h5 x hx]; exact nI_eq (dd_31 ho) (dd_31 (hcl x))) (fun h => nm_r (nI_1 x) ?_) (fun h => nm_r (nI_1 x) ?_)
    · rw [beq_iff_eq.mpr h] at H; exact H
    · rw [beq_eq_false_iff_ne.mpr h] at H; exact H
  | succ m ih =>
    intro c o hc ho H
    rw [dd_eo] at H
    have hxc : x ||| 2 ^ c < 64 := dd_o64 hx (dd_p64 (by omega))
    have n1 := hn (x ||| 2 ^ c)
    have n2 := hn x
    refine pk_le 6 c (fun z => absurd z (by omega)) (fun _ => ?_)
    rw [dd_one c (by omega), dd_or, nI_clamp (dd_31 hxc), nI_clamp (dd_31 hx), h13 _ hxc, h13 _ hx]
    refine ⟨pk_in _ 64 hxc, pk_in _ 64 hx, ek_if (nI_eq (by omega) (by omega)) (fun h => nm_r (dd_or _ _) (nm_r (nI_1 c) ?_)) (fun h => nm_r (nI_1 c) ?_)⟩
    · rw [if_pos h] at H; exact ih _ _ (by omega) (dd_o64 ho (dd_p64 (by omega))) H
    · rw [if_neg h] at H; exact ih _ _ (by omega) ho H
theorem dd_exact_x {post : Int32 → St2 → Prop} {nc cl : Nat → Nat} (h13 : ∀ X, X < 64 → a13 X = nI (nc X)) (hn : ∀ X, nc X ≤ 6) (h5 : ∀ x, x < 64 → a5 x = nI (cl x)) (hcl : ∀ x, cl x < 64) : ∀ m x, x + m = 64 →
    post (dd_b (dd_ex nc cl m x)) (f0_count, f0_counting, f0_blocks, f0_isStudied, f0_stemCount, f0_keyCount, f0_partCount, f0_rows, a1, a2, a3, a4, a5, a6, a7, a8, a9, a10, a11, a12, a13, a14) → wX_exact_12 post f0_count f0_counting f0_blocks f0_isStudied f0_stemCount f0_keyCount f0_partCount f0_rows a1 a2 a3 a4 a5 a6 a7 a8 a9 a10 a11 a12 a13 a14 (m + 1) 1 (nI x) := by
  intro m
  induction m with
  | zero => intro x hx H; exact pk_le 64 x (fun _ => ⟨dd_nar true, H⟩) (fun z => absurd z (by omega))
  | succ m ih =>
    intro x hx H
    rw [dd_ex] at H
    refine pk_le 64 x (fun z => absurd z (by omega)) (fun _ => br_f (by decide) ⟨7, dd_exact_c h13 hn h5 hcl (by omega) 6 0 0 (by omega) (by omega) ?_⟩)
    by_cases h : dd_eo nc x 6 0 0 = cl x
    · rw [if_pos h] at H
      rw [beq_iff_eq.mpr h]
      exact ih (x + 1) (by omega) H
    · rw [if_neg h] at H
      rw [beq_eq_false_iff_ne.mpr h]
      exact pk_le 64 (x + 1) (fun _ => ⟨dd_nar false, H⟩) (fun z => br_t rfl ⟨dd_nar false, H⟩)
theorem dd_exact {post : Int32 → St2 → Prop} (hq : dd_sy D q = true) (hG : dd_G R ce ag) (hu : dd_K D q T R ce u) (H : ∀ u', dd_K D q T R ce u' → post (dd_b (dd_ex (fun X => dd_nn ag X R) (dd_c q.1) 64 0)) u') : wpX_exact post u := by
  obtain ⟨f0_count, f0_counting, f0_blocks, f0_isStudied, f0_stemCount, f0_keyCount, f0_partCount, f0_rows, a1, a2, a3, a4, a5, a6, a7, a8, a9, a10, a11, a12, a13, a14⟩ := u
  unfold wpX_exact
  refine dd_study hq hu ?_
  rintro ⟨f0_count, f0_counting, f0_blocks, f0_isStudied, f0_stemCount, f0_keyCount, f0_partCount, f0_rows, a1, a2, a3, a4, a5, a6, a7, a8, a9, a10, a11, a12, a13, a14⟩ ⟨rfl, hD, rfl, ⟨rfl, rfl, h5, h7, h8⟩, hT, ⟨rfl, hW⟩⟩
  have hR := hW.1
  refine dd_findClasses hG hW (fun a12' a13' hC => ⟨65, ?_⟩)
  exact dd_exact_x (nc := fun X => dd_nn ag X R) (fun X hX => (hC X hX).2) (fun X => Nat.le_trans (dd_nn_le R) hR) h5 (dd_c_lt _) 64 0 (by omega) (H _ ⟨rfl, hD, Or.inr ⟨rfl, rfl, rfl, h5, h7, h8⟩, hT, ⟨rfl, hW⟩⟩)
theorem dd_row_l {post : Int32 → St2 → Prop} (hR : R < 6) (H : ∀ a11', (∀ i, i < 6 * (R + 1) → a11' i = nI (if i < 6 * R then ce i else 0)) → post (nI R) (f0_count, f0_counting, f0_blocks, f0_isStudied, f0_stemCount, f0_keyCount, f0_partCount, nI (R + 1), a1, a2, a3, a4, a5, a6, a7, a8, a9, a10, a11', a12, a13, a14)) : ∀ m c a11, c + m = 6 → (∀ i, i < 6 * R + c → a11 i = nI (if i < 6 * R then ce i else 0)) →
    wX_row_14 post f0_count f0_counting f0_blocks f0_isStudied f0_stemCount f0_keyCount f0_partCount (nI R) (m + 1) (nI c) a1 a2 a3 a4 a5 a6 a7 a8 a9 a10 a11 a12 a13 a14 := by
  intro m
  induction m with
  | zero =>
    intro c a11 hc h
    refine pk_le 6 c (fun _ => nm_r (nI_1 R) ?_) (fun z => absurd z (by omega))
    rw [nI_pred]
    exact H a11 (fun i hi => h i (by omega))
  | succ m ih =>
    intro c a11 hc h
    refine pk_le 6 c (fun z => absurd z (by omega)) (fun _ => ⟨pk_in (6 * R + c) 36 (by omega) (dd_i6 R c), nm_e (nm_r (nI_1 c) (ih (c + 1) _ (by omega) (fun i hi => ?_)))⟩)
    rw [dd_i6, nI_clamp (by omega)]
    by_cases e : i = 6 * R + c
    · rw [e, pk_us, if_neg (by omega)]; rfl
    · rw [pk_un e]; exact h i (by omega)
theorem dd_row {post : Int32 → St2 → Prop} (hR : R < 6) (hu : dd_K D q T R ce u) (H : ∀ u', dd_K D q T (R + 1) (fun i => if i < 6 * R then ce i else 0) u' → post (nI R) u') : wpX_row post u := by
  obtain ⟨f0_count, f0_counting, f0_blocks, f0_isStudied, f0_stemCount, f0_keyCount, f0_partCount, f0_rows, a1, a2, a3, a4, a5, a6, a7, a8, a9, a10, a11, a12, a13, a14⟩ := u
  obtain ⟨rfl, hD, hst, hT, ⟨rfl, hW⟩⟩ := hu
  unfold wpX_row
  refine pk_eq R 6 (fun z => absurd z (by omega)) (fun _ => ⟨7, dd_row_l (ce := ce) hR (fun a11' h => H _ ⟨rfl, hD, hst, hT, ⟨rfl, by omega, fun i hi => ⟨h i hi, ?_⟩⟩⟩) 6 0 a11 (by omega) (fun i hi => ?_)⟩)
  · dsimp only
    split
    · exact (hW.2 i (by assumption)).2
    · omega
  · rw [if_pos (by omega)]
    exact (hW.2 i (by omega)).1
theorem dd_row_full {post : Int32 → St2 → Prop} (hu : dd_K D q T 6 ce u) (H : ∀ u', dd_K D q T 6 ce u' → post (-2) u') : wpX_row post u := by
  obtain ⟨f0_count, f0_counting, f0_blocks, f0_isStudied, f0_stemCount, f0_keyCount, f0_partCount, f0_rows, a1, a2, a3, a4, a5, a6, a7, a8, a9, a10, a11, a12, a13, a14⟩ := u
  obtain ⟨rfl, hD, hst, hT, ⟨rfl, hW⟩⟩ := hu
  exact br_t rfl (H _ ⟨rfl, hD, hst, hT, ⟨rfl, hW⟩⟩)
theorem dd_write {post : Int32 → St2 → Prop} {r c x : Nat} (hr : r < R) (hc : c < 6) (hx : x < 2 ^ 31) (hu : dd_K D q T R ce u) (H : ∀ u', dd_K D q T R (fun i => if i = 6 * r + c then x else ce i) u' → post (nI (ce (6 * r + c))) u') : wpX_write post u (nI r) (nI c) (nI x) := by
  obtain ⟨f0_count, f0_counting, f0_blocks, f0_isStudied, f0_stemCount, f0_keyCount, f0_partCount, f0_rows, a1, a2, a3, a4, a5, a6, a7, a8, a9, a10, a11, a12, a13, a14⟩ := u
  obtain ⟨rfl, hD, hst, hT, ⟨rfl, hW⟩⟩ := hu
  have hR := hW.1
  have hin : vp_in (6 * nI r + nI c) 36 := pk_in (6 * r + c) 36 (by omega) (dd_i6 r c)
  have e : (6 * nI r + nI c).toNatClampNeg = 6 * r + c := by rw [dd_i6, nI_clamp (by omega)]
  unfold wpX_write
  refine br_f (nI_pos (by omega)) (br_f (nI_ge hr (by omega)) (br_f (nI_pos (by omega)) (br_t (nI_lt (b := 6) hc (by omega)) ⟨hin, nm_r (e' := nI (ce (6 * r + c))) (by rw [e]; exact (hW.2 _ (by omega)).1) ⟨hin, nm_r (e' := upd a11 (6 * r + c) (nI x)) (by rw [e]) (H _ ⟨rfl, hD, hst, hT, ⟨rfl, hR, fun i hi => ?_⟩⟩)⟩⟩)))
  dsimp only
  by_cases ei : i = 6 * r + c
  · rw [if_pos ei, ei, pk_us]; exact ⟨rfl, hx⟩
  · rw [if_neg ei, pk_un ei]; exact hW.2 i hi
theorem dd_write_r {post : Int32 → St2 → Prop} {r : Nat} {c x : Int32} (hr : R ≤ r) (hr' : r < 2 ^ 31) (hu : dd_K D q T R ce u) (H : ∀ u', dd_K D q T R ce u' → post (-1) u') : wpX_write post u (nI r) c x := by
  obtain ⟨f0_count, f0_counting, f0_blocks, f0_isStudied, f0_stemCount, f0_keyCount, f0_partCount, f0_rows, a1, a2, a3, a4, a5, a6, a7, a8, a9, a10, a11, a12, a13, a14⟩ := u
  obtain ⟨rfl, hD, hst, hT, ⟨rfl, hW⟩⟩ := hu
  have hR := hW.1
  exact br_f (nI_pos hr') (br_t (nI_le hr hr') (H _ ⟨rfl, hD, hst, hT, ⟨rfl, hW⟩⟩))
theorem dd_write_c {post : Int32 → St2 → Prop} {r : Nat} {x : Int32} (hr : r < R) (hu : dd_K D q T R ce u) (H : ∀ u', dd_K D q T R ce u' → post (-1) u') : wpX_write post u (nI r) 6 x := by
  obtain ⟨f0_count, f0_counting, f0_blocks, f0_isStudied, f0_stemCount, f0_keyCount, f0_partCount, f0_rows, a1, a2, a3, a4, a5, a6, a7, a8, a9, a10, a11, a12, a13, a14⟩ := u
  obtain ⟨rfl, hD, hst, hT, ⟨rfl, hW⟩⟩ := hu
  have hR := hW.1
  exact br_f (nI_pos (by omega)) (br_f (nI_ge hr (by omega)) (br_f (by decide) (br_f (by decide) (H _ ⟨rfl, hD, hst, hT, ⟨rfl, hW⟩⟩))))
theorem dd_blank {post : St2 → Prop} (ce' : Nat → Nat) (hu : dd_K D q T R ce u) (H : ∀ u', dd_K D q T 0 ce' u' → post u') : wpX_blank post u := by
  obtain ⟨f0_count, f0_counting, f0_blocks, f0_isStudied, f0_stemCount, f0_keyCount, f0_partCount, f0_rows, a1, a2, a3, a4, a5, a6, a7, a8, a9, a10, a11, a12, a13, a14⟩ := u
  obtain ⟨rfl, hD, hst, hT, ⟨rfl, hW⟩⟩ := hu
  exact H _ ⟨rfl, hD, hst, hT, ⟨rfl, by omega, fun i hi => absurd hi (by omega)⟩⟩
theorem dd_K_ce {ce' : Nat → Nat} (hu : dd_K D q T R ce u) (h : ∀ i, i < 6 * R → ce i = ce' i) : dd_K D q T R ce' u := by
  obtain ⟨f0_count, f0_counting, f0_blocks, f0_isStudied, f0_stemCount, f0_keyCount, f0_partCount, f0_rows, a1, a2, a3, a4, a5, a6, a7, a8, a9, a10, a11, a12, a13, a14⟩ := u
  obtain ⟨rfl, hD, hst, hT, ⟨rfl, hW⟩⟩ := hu
  exact ⟨rfl, hD, hst, hT, ⟨rfl, hW.1, fun i hi => by rw [← h i hi]; exact hW.2 i hi⟩⟩
end
end
section
def dd_D0 : List (Nat × Nat × Bool) := []
def dd_D6 : List (Nat × Nat × Bool) := [(1, 2, false), (2, 4, false), (4, 8, false), (8, 16, false), (16, 32, false), (32, 1, false)]
def dd_D5 : List (Nat × Nat × Bool) := [(1, 2, false), (2, 4, false), (4, 8, false), (8, 16, false), (16, 32, false)]
def dd_E1 : List (Nat × Nat × Bool) := [(1, 6, true)]
def dd_E2 : List (Nat × Nat × Bool) := [(1, 6, true), (8, 2, false)]
def dd_E3 : List (Nat × Nat × Bool) := [(1, 6, true), (8, 2, false), (1, 8, true)]
def dd_F : List (Nat × Nat × Bool) := [(1, 6, true), (0, 0, true), (0, 0, false), (0, 0, true), (0, 0, false), (0, 0, true), (0, 0, false), (0, 0, true), (0, 0, false), (0, 0, true)]
def dd_qD0 : Nat × List Nat × Nat × List Nat := (39392078757191557952714343944915560488424390381760365930566598193007564623154681709773698286566728461254900444831808, [], 0, [63])
theorem dd_hD0 : dd_sy dd_D0 dd_qD0 = true := by decide +kernel
def dd_qD6 : Nat × List Nat × Nat × List Nat := (39402006196394479212279040100143613805079739270465446667948293404245721771497210611414266254884915640806627990306752, [32, 16, 8, 4, 2, 1], 4295033110, [1, 2, 4, 8, 16, 32])
theorem dd_hD6 : dd_sy dd_D6 dd_qD6 = true := by decide +kernel
def dd_qD5 : Nat × List Nat × Nat × List Nat := (39392379519773334693354874734624844338058618041753990221503417794061258312371027360125416203610000505977017234091968, [16, 8, 4, 2, 1], 65814, [1])
theorem dd_hD5 : dd_sy dd_D5 dd_qD5 = true := by decide +kernel
def dd_qE1 : Nat × List Nat × Nat × List Nat := (39392078757191557952714343944915560488424390381760365930566598193007564623154681709773698286566728461254900444831808, [], 0, [63])
theorem dd_hE1 : dd_sy dd_E1 dd_qE1 = true := by decide +kernel
def dd_qE2 : Nat × List Nat × Nat × List Nat := (39392384067745516478132157818221755475978728387240051062451512770815915879823439229040392524506536919038873511403712, [8, 1], 258, [61])
theorem dd_hE2 : dd_sy dd_E2 dd_qE2 = true := by decide +kernel
def dd_qF : Nat × List Nat × Nat × List Nat := (39392078757191557952714343944915560488424390381760365930566598193007564623154681709773698286566728461254900444831808, [], 0, [63])
theorem dd_hF : dd_sy dd_F dd_qF = true := by decide +kernel
theorem dd_t1 {g : Bool} (h : g = true) : ¬ dd_b g = 0 := by rw [h]; decide
theorem dd_f0 {g : Bool} (h : g = false) : dd_b g = 0 := by rw [h]; rfl
theorem dd_ve {n m : Nat} (h : n = m) : nI n = nI m := by rw [h]
theorem dd_0cd : dd_cd (dd_c dd_qD0.1) 64 0 0 = 64 := by decide +kernel
theorem dd_0cn : dd_cn (dd_c dd_qD0.1) 63 0 0 = 6 := by decide +kernel
theorem dd_0by : (dd_gi (dd_c dd_qD0.1) 63 64 63 0 == 0) = true := by decide +kernel
theorem dd_0fr : dd_fr dd_D0 (dd_c dd_qD0.1) 64 0 = true := by decide +kernel
theorem dd_0c9 : dd_c dd_qD0.1 9 = 9 := by decide +kernel
theorem dd_6key : ∀ a, a < 6 → dd_g dd_qD6.2.2.2 a = 2 ^ a := by decide +kernel
theorem dd_6cd : dd_cd (dd_c dd_qD6.1) 64 0 0 = 2 := by decide +kernel
theorem dd_6cn : dd_cn (dd_c dd_qD6.1) 63 0 0 = 1 := by decide +kernel
theorem dd_6st : ∀ b, b < 6 → dd_sm dd_qD6.2.2.1 (some b) 64 0 0 = some (2 ^ b) := by decide +kernel
theorem dd_6th : dd_w (dd_gi (dd_c dd_qD6.1) 63 64 63 0) (dd_pr (dd_c dd_qD6.1) 63 64 63 0) = true := by decide +kernel
theorem dd_6by : (dd_gi (dd_c dd_qD6.1) 63 64 63 0 == 0) = true := by decide +kernel
theorem dd_6ne : ∀ a, a < 6 → ∀ b, b < 6 → dd_w (2 ^ b) (dd_c dd_qD6.1 (2 ^ a)) = true ∧ dd_ne dd_D6 (2 ^ a) (2 ^ b) 64 0 11 = (b + 6 - a) % 6 := by decide +kernel
theorem dd_6n0 : dd_w 1 (dd_c dd_qD6.1 0) = false := by decide +kernel
theorem dd_6n5 : dd_w 4 (dd_c dd_qD6.1 5) = true ∧ dd_ne dd_D6 5 4 64 0 11 = 0 := by decide +kernel
theorem dd_5cd : dd_cd (dd_c dd_qD5.1) 64 0 0 = 7 := by decide +kernel
theorem dd_5cn : dd_cn (dd_c dd_qD5.1) 63 0 0 = 6 := by decide +kernel
theorem dd_5th : dd_w (dd_gi (dd_c dd_qD5.1) 63 64 63 0) (dd_pr (dd_c dd_qD5.1) 63 64 63 0) = false := by decide +kernel
theorem dd_5by : (dd_gi (dd_c dd_qD5.1) 63 64 63 0 == 0) = false := by decide +kernel
theorem dd_5b3 : (dd_gi (dd_c dd_qD5.1) 3 64 3 0 == 0) = true := by decide +kernel
theorem dd_5t14 : dd_w (dd_gi (dd_c dd_qD5.1) 14 64 14 0) (dd_pr (dd_c dd_qD5.1) 14 64 14 0) = false := by decide +kernel
theorem dd_5cl : ∀ a, a < 6 → dd_c dd_qD5.1 (2 ^ a) = dd_an 63 (2 ^ a - 1) := by decide +kernel
theorem dd_5fr : dd_fr dd_D5 (dd_c dd_qD5.1) 64 0 = false := by decide +kernel
theorem dd_5ne : ∀ a, a < 6 → ∀ b, b < 6 → dd_w (2 ^ b) (dd_c dd_qD5.1 (2 ^ a)) = decide (a ≤ b) ∧ (a ≤ b → dd_ne dd_D5 (2 ^ a) (2 ^ b) 32 0 11 = b - a) := by decide +kernel
theorem dd_5ll : ∀ c, c < 5 → dd_ll dd_D5 ([3, 6, 12, 24].take c) = false := by decide +kernel
theorem dd_5pv : dd_pv dd_D5 (dd_sn dd_D5 5 0 0) [3, 6, 12, 24] 5 0 true = false := by decide +kernel
theorem dd_5p0 : dd_pv dd_D5 (dd_sn dd_D5 5 0 0) [] 5 0 true = false := by decide +kernel
theorem dd_5nl : ∀ n, n < 6 → 0 < n → dd_ll dd_D5 [1 ||| dd_an 62 (2 ^ n), 62] = decide (1 < n) := by decide +kernel
theorem dd_5np : ∀ n, n < 6 → 0 < n → dd_pv dd_D5 (dd_sn dd_D5 5 0 0) [1 ||| dd_an 62 (2 ^ n), 62] 5 0 true = decide (1 < n) := by decide +kernel
theorem dd_5bu : ∀ n, n < 6 → dd_bu (dd_fb dd_D5 31 (2 ^ n)) 0 (dd_fb dd_D5 31 (2 ^ n)).length 0 true = true := by decide +kernel
theorem dd_5b2 : dd_bu (dd_fb dd_D5 31 2) 63 (dd_fb dd_D5 31 2).length 0 true = true := by decide +kernel
theorem dd_5t1 : dd_w (dd_gi (dd_c dd_qD5.1) 1 64 1 0) (dd_pr (dd_c dd_qD5.1) 1 64 1 0) = true := by decide +kernel
theorem dd_5b48 : (dd_gi (dd_c dd_qD5.1) 48 64 48 0 == 0) = true := by decide +kernel
end
section
section
variable {f0_count f0_counting f0_blocks f0_isStudied f0_stemCount f0_keyCount f0_partCount f0_rows : Int32} {a1 a2 a3 a4 a5 a6 a7 a8 a9 a10 a11 a12 a13 a14 : Nat → Int32}
variable {q : Nat × List Nat × Nat × List Nat} {T : List Nat} {R : Nat} {ce : Nat → Nat} {u : St2} {post : Int32 → St2 → Prop}
theorem dd_r582 {n : Nat} (hn : n < 6) {z z' : Int32} (hz : z' = z) (hu : dd_K dd_D5 dd_qD5 T R ce (f0_count, f0_counting, f0_blocks, f0_isStudied, f0_stemCount, f0_keyCount, f0_partCount, f0_rows, a1, a2, a3, a4, a5, a6, a7, a8, a9, a10, a11, a12, a13, a14)) (H : ∀ u', dd_K dd_D5 dd_qD5 T R ce u' → post 1 u') : wL_rings_582 post (nI n) z z' f0_count f0_counting f0_blocks f0_isStudied f0_stemCount f0_keyCount f0_partCount f0_rows a1 a2 a3 a4 a5 a6 a7 a8 a9 a10 a11 a12 a13 a14 := by
  unfold wL_rings_582
  rw [dd_one n (by omega)]
  refine br_t hz ?_
  refine dd_bundles (x := 2 ^ n) (y := 0) (dd_p64 hn) (by omega) hu ?_
  rintro ⟨f0_count, f0_counting, f0_blocks, f0_isStudied, f0_stemCount, f0_keyCount, f0_partCount, f0_rows, a1, a2, a3, a4, a5, a6, a7, a8, a9, a10, a11, a12, a13, a14⟩ hu
  refine br_f (dd_t1 (dd_5bu n hn)) ?_
  refine dd_bundles (x := 2) (y := 63) (by omega) (by omega) hu ?_
  rintro ⟨f0_count, f0_counting, f0_blocks, f0_isStudied, f0_stemCount, f0_keyCount, f0_partCount, f0_rows, a1, a2, a3, a4, a5, a6, a7, a8, a9, a10, a11, a12, a13, a14⟩ hu
  refine br_f (dd_t1 dd_5b2) ?_
  refine dd_third (s := 1) dd_hD5 (by omega) hu ?_
  rintro ⟨f0_count, f0_counting, f0_blocks, f0_isStudied, f0_stemCount, f0_keyCount, f0_partCount, f0_rows, a1, a2, a3, a4, a5, a6, a7, a8, a9, a10, a11, a12, a13, a14⟩ hu
  refine br_f (dd_t1 dd_5t1) ?_
  refine dd_boyce (s := 48) dd_hD5 (by omega) hu ?_
  rintro ⟨f0_count, f0_counting, f0_blocks, f0_isStudied, f0_stemCount, f0_keyCount, f0_partCount, f0_rows, a1, a2, a3, a4, a5, a6, a7, a8, a9, a10, a11, a12, a13, a14⟩ hu
  refine br_f (dd_t1 dd_5b48) ?_
  exact H _ hu
theorem dd_r565 {n : Nat} (hn : n < 6) (hn0 : 0 < n) {z z' : Int32} (hz : z' = z) (hu : dd_K dd_D5 dd_qD5 [1 ||| dd_an 62 (2 ^ n), 62] R ce (f0_count, f0_counting, f0_blocks, f0_isStudied, f0_stemCount, f0_keyCount, f0_partCount, f0_rows, a1, a2, a3, a4, a5, a6, a7, a8, a9, a10, a11, a12, a13, a14)) (H : ∀ u', dd_K dd_D5 dd_qD5 [1 ||| dd_an 62 (2 ^ n), 62] R ce u' → post 1 u') : wL_rings_565 post (nI n) z z' f0_count f0_counting f0_blocks f0_isStudied f0_stemCount f0_keyCount f0_partCount f0_rows a1 a2 a3 a4 a5 a6 a7 a8 a9 a10 a11 a12 a13 a14 := by
  unfold wL_rings_565
  refine br_t hz ?_
  refine dd_preserves hu ?_
  rintro ⟨f0_count, f0_counting, f0_blocks, f0_isStudied, f0_stemCount, f0_keyCount, f0_partCount, f0_rows, a1, a2, a3, a4, a5, a6, a7, a8, a9, a10, a11, a12, a13, a14⟩ hu
  refine pk_le n 1 (fun h => dd_r582 hn ?_ hu H) (fun h => dd_r582 hn ?_ hu H)
  · show dd_b (dd_pv dd_D5 (dd_sn dd_D5 5 0 0) [1 ||| dd_an 62 (2 ^ n), 62] 5 0 true) = 0
    rw [dd_5np n hn hn0, decide_eq_false (by omega)]; rfl
  · show dd_b (dd_pv dd_D5 (dd_sn dd_D5 5 0 0) [1 ||| dd_an 62 (2 ^ n), 62] 5 0 true) = 1
    rw [dd_5np n hn hn0, decide_eq_true (by omega)]; rfl
theorem dd_rset : ∀ n, n < 6 → (1 ||| (62 &&& (((1 : Int32) <<< (nI n &&& 31)) ^^^ (-1)))) = nI (1 ||| dd_an 62 (2 ^ n)) := by decide +kernel
theorem dd_r498 {n : Nat} (hn : n < 6) (hn0 : 0 < n) (hu : dd_K dd_D5 dd_qD5 T R ce (f0_count, f0_counting, f0_blocks, f0_isStudied, f0_stemCount, f0_keyCount, f0_partCount, f0_rows, a1, a2, a3, a4, a5, a6, a7, a8, a9, a10, a11, a12, a13, a14)) (H : ∀ u', dd_K dd_D5 dd_qD5 [1 ||| dd_an 62 (2 ^ n), 62] R ce u' → post 1 u') : wL_rings_498 post (nI n) 1 f0_count f0_counting f0_blocks f0_isStudied f0_stemCount f0_keyCount f0_partCount f0_rows a1 a2 a3 a4 a5 a6 a7 a8 a9 a10 a11 a12 a13 a14 := by
  have hs : 1 ||| dd_an 62 (2 ^ n) < 64 := dd_o64 (by omega) (dd_n64 _ (by omega))
  refine dd_whole hu ?_
  rintro ⟨f0_count, f0_counting, f0_blocks, f0_isStudied, f0_stemCount, f0_keyCount, f0_partCount, f0_rows, a1, a2, a3, a4, a5, a6, a7, a8, a9, a10, a11, a12, a13, a14⟩ hu
  refine br_f (by decide) ?_
  refine dd_lossless hu ?_
  rintro ⟨f0_count, f0_counting, f0_blocks, f0_isStudied, f0_stemCount, f0_keyCount, f0_partCount, f0_rows, a1, a2, a3, a4, a5, a6, a7, a8, a9, a10, a11, a12, a13, a14⟩ hu
  refine br_t rfl ?_
  refine dd_preserves hu ?_
  rintro ⟨f0_count, f0_counting, f0_blocks, f0_isStudied, f0_stemCount, f0_keyCount, f0_partCount, f0_rows, a1, a2, a3, a4, a5, a6, a7, a8, a9, a10, a11, a12, a13, a14⟩ hu
  refine br_t (dd_f0 dd_5p0) ?_
  rw [dd_rset n hn]
  refine dd_part hs (by decide) hu ?_
  rintro ⟨f0_count, f0_counting, f0_blocks, f0_isStudied, f0_stemCount, f0_keyCount, f0_partCount, f0_rows, a1, a2, a3, a4, a5, a6, a7, a8, a9, a10, a11, a12, a13, a14⟩ hu
  refine br_t rfl ?_
  refine dd_part (s := 62) (by omega) (by simp) hu ?_
  rintro ⟨f0_count, f0_counting, f0_blocks, f0_isStudied, f0_stemCount, f0_keyCount, f0_partCount, f0_rows, a1, a2, a3, a4, a5, a6, a7, a8, a9, a10, a11, a12, a13, a14⟩ hu
  refine br_t rfl ?_
  refine dd_lossless hu ?_
  rintro ⟨f0_count, f0_counting, f0_blocks, f0_isStudied, f0_stemCount, f0_keyCount, f0_partCount, f0_rows, a1, a2, a3, a4, a5, a6, a7, a8, a9, a10, a11, a12, a13, a14⟩ hu
  refine pk_le n 1 (fun h => dd_r565 hn hn0 ?_ hu H) (fun h => dd_r565 hn hn0 ?_ hu H)
  · show dd_b (dd_ll dd_D5 [1 ||| dd_an 62 (2 ^ n), 62]) = 0
    rw [dd_5nl n hn hn0, decide_eq_false (by omega)]; rfl
  · show dd_b (dd_ll dd_D5 [1 ||| dd_an 62 (2 ^ n), 62]) = 1
    rw [dd_5nl n hn hn0, decide_eq_true (by omega)]; rfl
theorem dd_r425_4 {n : Nat} (hn : n < 6) (hn0 : 0 < n) (hu : dd_K dd_D5 dd_qD5 [3, 6, 12, 24] R ce (f0_count, f0_counting, f0_blocks, f0_isStudied, f0_stemCount, f0_keyCount, f0_partCount, f0_rows, a1, a2, a3, a4, a5, a6, a7, a8, a9, a10, a11, a12, a13, a14)) (H : ∀ u', dd_K dd_D5 dd_qD5 [1 ||| dd_an 62 (2 ^ n), 62] R ce u' → post 1 u') : wL_rings_425 post (nI n) 1 1 (nI 4) f0_count f0_counting f0_blocks f0_isStudied f0_stemCount f0_keyCount f0_partCount f0_rows a1 a2 a3 a4 a5 a6 a7 a8 a9 a10 a11 a12 a13 a14 := by
  refine pk_le 4 4 (fun _ => br_f (by decide) ?_) (fun z => absurd z (by omega))
  refine dd_part_full (s := 1) (by omega) rfl hu ?_
  rintro ⟨f0_count, f0_counting, f0_blocks, f0_isStudied, f0_stemCount, f0_keyCount, f0_partCount, f0_rows, a1, a2, a3, a4, a5, a6, a7, a8, a9, a10, a11, a12, a13, a14⟩ hu
  refine br_t rfl ?_
  refine dd_preserves hu ?_
  rintro ⟨f0_count, f0_counting, f0_blocks, f0_isStudied, f0_stemCount, f0_keyCount, f0_partCount, f0_rows, a1, a2, a3, a4, a5, a6, a7, a8, a9, a10, a11, a12, a13, a14⟩ hu
  refine br_t (dd_f0 dd_5pv) ?_
  exact dd_r498 hn hn0 hu H
theorem dd_r425_3 {n : Nat} (hn : n < 6) (hn0 : 0 < n) (hu : dd_K dd_D5 dd_qD5 [3, 6, 12] R ce (f0_count, f0_counting, f0_blocks, f0_isStudied, f0_stemCount, f0_keyCount, f0_partCount, f0_rows, a1, a2, a3, a4, a5, a6, a7, a8, a9, a10, a11, a12, a13, a14)) (H : ∀ u', dd_K dd_D5 dd_qD5 [1 ||| dd_an 62 (2 ^ n), 62] R ce u' → post 1 u') : wL_rings_425 post (nI n) 2 1 (nI 3) f0_count f0_counting f0_blocks f0_isStudied f0_stemCount f0_keyCount f0_partCount f0_rows a1 a2 a3 a4 a5 a6 a7 a8 a9 a10 a11 a12 a13 a14 := by
  refine pk_le 4 3 (fun z => absurd z (by omega)) (fun _ => br_f (by decide) ?_)
  rw [show (3 : Int32) <<< (nI 3 &&& 31) = nI 24 by decide]
  refine dd_part (s := 24) (by omega) (by decide) hu ?_
  rintro ⟨f0_count, f0_counting, f0_blocks, f0_isStudied, f0_stemCount, f0_keyCount, f0_partCount, f0_rows, a1, a2, a3, a4, a5, a6, a7, a8, a9, a10, a11, a12, a13, a14⟩ hu
  refine br_t (by decide) ?_
  refine dd_lossless hu ?_
  rintro ⟨f0_count, f0_counting, f0_blocks, f0_isStudied, f0_stemCount, f0_keyCount, f0_partCount, f0_rows, a1, a2, a3, a4, a5, a6, a7, a8, a9, a10, a11, a12, a13, a14⟩ hu
  refine br_t (dd_f0 (dd_5ll 4 (by omega))) ?_
  exact nm_r (nI_1 3) (dd_r425_4 hn hn0 hu H)
theorem dd_r425_2 {n : Nat} (hn : n < 6) (hn0 : 0 < n) (hu : dd_K dd_D5 dd_qD5 [3, 6] R ce (f0_count, f0_counting, f0_blocks, f0_isStudied, f0_stemCount, f0_keyCount, f0_partCount, f0_rows, a1, a2, a3, a4, a5, a6, a7, a8, a9, a10, a11, a12, a13, a14)) (H : ∀ u', dd_K dd_D5 dd_qD5 [1 ||| dd_an 62 (2 ^ n), 62] R ce u' → post 1 u') : wL_rings_425 post (nI n) 3 1 (nI 2) f0_count f0_counting f0_blocks f0_isStudied f0_stemCount f0_keyCount f0_partCount f0_rows a1 a2 a3 a4 a5 a6 a7 a8 a9 a10 a11 a12 a13 a14 := by
  refine pk_le 4 2 (fun z => absurd z (by omega)) (fun _ => br_f (by decide) ?_)
  rw [show (3 : Int32) <<< (nI 2 &&& 31) = nI 12 by decide]
  refine dd_part (s := 12) (by omega) (by decide) hu ?_
  rintro ⟨f0_count, f0_counting, f0_blocks, f0_isStudied, f0_stemCount, f0_keyCount, f0_partCount, f0_rows, a1, a2, a3, a4, a5, a6, a7, a8, a9, a10, a11, a12, a13, a14⟩ hu
  refine br_t (by decide) ?_
  refine dd_lossless hu ?_
  rintro ⟨f0_count, f0_counting, f0_blocks, f0_isStudied, f0_stemCount, f0_keyCount, f0_partCount, f0_rows, a1, a2, a3, a4, a5, a6, a7, a8, a9, a10, a11, a12, a13, a14⟩ hu
  refine br_t (dd_f0 (dd_5ll 3 (by omega))) ?_
  exact nm_r (nI_1 2) (dd_r425_3 hn hn0 hu H)
theorem dd_r425_1 {n : Nat} (hn : n < 6) (hn0 : 0 < n) (hu : dd_K dd_D5 dd_qD5 [3] R ce (f0_count, f0_counting, f0_blocks, f0_isStudied, f0_stemCount, f0_keyCount, f0_partCount, f0_rows, a1, a2, a3, a4, a5, a6, a7, a8, a9, a10, a11, a12, a13, a14)) (H : ∀ u', dd_K dd_D5 dd_qD5 [1 ||| dd_an 62 (2 ^ n), 62] R ce u' → post 1 u') : wL_rings_425 post (nI n) 4 1 (nI 1) f0_count f0_counting f0_blocks f0_isStudied f0_stemCount f0_keyCount f0_partCount f0_rows a1 a2 a3 a4 a5 a6 a7 a8 a9 a10 a11 a12 a13 a14 := by
  refine pk_le 4 1 (fun z => absurd z (by omega)) (fun _ => br_f (by decide) ?_)
  rw [show (3 : Int32) <<< (nI 1 &&& 31) = nI 6 by decide]
  refine dd_part (s := 6) (by omega) (by decide) hu ?_
  rintro ⟨f0_count, f0_counting, f0_blocks, f0_isStudied, f0_stemCount, f0_keyCount, f0_partCount, f0_rows, a1, a2, a3, a4, a5, a6, a7, a8, a9, a10, a11, a12, a13, a14⟩ hu
  refine br_t (by decide) ?_
  refine dd_lossless hu ?_
  rintro ⟨f0_count, f0_counting, f0_blocks, f0_isStudied, f0_stemCount, f0_keyCount, f0_partCount, f0_rows, a1, a2, a3, a4, a5, a6, a7, a8, a9, a10, a11, a12, a13, a14⟩ hu
  refine br_t (dd_f0 (dd_5ll 2 (by omega))) ?_
  exact nm_r (nI_1 1) (dd_r425_2 hn hn0 hu H)
theorem dd_r425_0 {n : Nat} (hn : n < 6) (hn0 : 0 < n) (hu : dd_K dd_D5 dd_qD5 [] R ce (f0_count, f0_counting, f0_blocks, f0_isStudied, f0_stemCount, f0_keyCount, f0_partCount, f0_rows, a1, a2, a3, a4, a5, a6, a7, a8, a9, a10, a11, a12, a13, a14)) (H : ∀ u', dd_K dd_D5 dd_qD5 [1 ||| dd_an 62 (2 ^ n), 62] R ce u' → post 1 u') : wL_rings_425 post (nI n) 5 1 (nI 0) f0_count f0_counting f0_blocks f0_isStudied f0_stemCount f0_keyCount f0_partCount f0_rows a1 a2 a3 a4 a5 a6 a7 a8 a9 a10 a11 a12 a13 a14 := by
  refine pk_le 4 0 (fun z => absurd z (by omega)) (fun _ => br_f (by decide) ?_)
  rw [show (3 : Int32) <<< (nI 0 &&& 31) = nI 3 by decide]
  refine dd_part (s := 3) (by omega) (by decide) hu ?_
  rintro ⟨f0_count, f0_counting, f0_blocks, f0_isStudied, f0_stemCount, f0_keyCount, f0_partCount, f0_rows, a1, a2, a3, a4, a5, a6, a7, a8, a9, a10, a11, a12, a13, a14⟩ hu
  refine br_t (by decide) ?_
  refine dd_lossless hu ?_
  rintro ⟨f0_count, f0_counting, f0_blocks, f0_isStudied, f0_stemCount, f0_keyCount, f0_partCount, f0_rows, a1, a2, a3, a4, a5, a6, a7, a8, a9, a10, a11, a12, a13, a14⟩ hu
  refine br_t (dd_f0 (dd_5ll 1 (by omega))) ?_
  exact nm_r (nI_1 0) (dd_r425_1 hn hn0 hu H)
theorem dd_r412 {n : Nat} (hn : n < 6) (hn0 : 0 < n) {z z' : Int32} (hz : z' = z) (hu : dd_K dd_D5 dd_qD5 [] R ce (f0_count, f0_counting, f0_blocks, f0_isStudied, f0_stemCount, f0_keyCount, f0_partCount, f0_rows, a1, a2, a3, a4, a5, a6, a7, a8, a9, a10, a11, a12, a13, a14)) (H : ∀ u', dd_K dd_D5 dd_qD5 [1 ||| dd_an 62 (2 ^ n), 62] R ce u' → post 1 u') : wL_rings_412 post (nI n) z z' f0_count f0_counting f0_blocks f0_isStudied f0_stemCount f0_keyCount f0_partCount f0_rows a1 a2 a3 a4 a5 a6 a7 a8 a9 a10 a11 a12 a13 a14 :=
  br_t hz ⟨5, dd_r425_0 hn hn0 hu H⟩
theorem dd_rcl : ∀ a, a < 6 → 63 &&& ((((1 : Int32) <<< (nI a &&& 31)) - 1) ^^^ (-1)) = nI (dd_an 63 (2 ^ a - 1)) := by decide +kernel
theorem dd_r277 {a b n : Nat} (ha : a < 6) (hb : b < 6) (hn : n < 6) (hn0 : 0 < n) (hu : dd_K dd_D5 dd_qD5 [] R ce (f0_count, f0_counting, f0_blocks, f0_isStudied, f0_stemCount, f0_keyCount, f0_partCount, f0_rows, a1, a2, a3, a4, a5, a6, a7, a8, a9, a10, a11, a12, a13, a14)) (H : ∀ u', dd_K dd_D5 dd_qD5 [1 ||| dd_an 62 (2 ^ n), 62] R ce u' → post 1 u') : wL_rings_277 post (nI a) (nI b) (nI n) 1 f0_count f0_counting f0_blocks f0_isStudied f0_stemCount f0_keyCount f0_partCount f0_rows a1 a2 a3 a4 a5 a6 a7 a8 a9 a10 a11 a12 a13 a14 := by
  refine br_f (by decide) ?_
  refine dd_keys dd_hD5 hu ?_
  rintro ⟨f0_count, f0_counting, f0_blocks, f0_isStudied, f0_stemCount, f0_keyCount, f0_partCount, f0_rows, a1, a2, a3, a4, a5, a6, a7, a8, a9, a10, a11, a12, a13, a14⟩ hu
  refine br_t rfl ?_
  refine dd_key (i := 0) dd_hD5 (by decide) hu ?_
  rintro ⟨f0_count, f0_counting, f0_blocks, f0_isStudied, f0_stemCount, f0_keyCount, f0_partCount, f0_rows, a1, a2, a3, a4, a5, a6, a7, a8, a9, a10, a11, a12, a13, a14⟩ hu
  refine br_t rfl ?_
  refine dd_closed dd_hD5 hu ?_
  rintro ⟨f0_count, f0_counting, f0_blocks, f0_isStudied, f0_stemCount, f0_keyCount, f0_partCount, f0_rows, a1, a2, a3, a4, a5, a6, a7, a8, a9, a10, a11, a12, a13, a14⟩ hu
  refine br_t (dd_ve dd_5cd) ?_
  refine dd_corners dd_hD5 hu ?_
  rintro ⟨f0_count, f0_counting, f0_blocks, f0_isStudied, f0_stemCount, f0_keyCount, f0_partCount, f0_rows, a1, a2, a3, a4, a5, a6, a7, a8, a9, a10, a11, a12, a13, a14⟩ hu
  refine br_t (dd_ve dd_5cn) ?_
  refine dd_stems dd_hD5 hu ?_
  rintro ⟨f0_count, f0_counting, f0_blocks, f0_isStudied, f0_stemCount, f0_keyCount, f0_partCount, f0_rows, a1, a2, a3, a4, a5, a6, a7, a8, a9, a10, a11, a12, a13, a14⟩ hu
  refine br_t rfl ?_
  refine dd_third (s := 63) dd_hD5 (by omega) hu ?_
  rintro ⟨f0_count, f0_counting, f0_blocks, f0_isStudied, f0_stemCount, f0_keyCount, f0_partCount, f0_rows, a1, a2, a3, a4, a5, a6, a7, a8, a9, a10, a11, a12, a13, a14⟩ hu
  refine br_t (dd_f0 dd_5th) ?_
  refine dd_boyce (s := 63) dd_hD5 (by omega) hu ?_
  rintro ⟨f0_count, f0_counting, f0_blocks, f0_isStudied, f0_stemCount, f0_keyCount, f0_partCount, f0_rows, a1, a2, a3, a4, a5, a6, a7, a8, a9, a10, a11, a12, a13, a14⟩ hu
  refine br_t (dd_f0 dd_5by) ?_
  refine dd_boyce (s := 3) dd_hD5 (by omega) hu ?_
  rintro ⟨f0_count, f0_counting, f0_blocks, f0_isStudied, f0_stemCount, f0_keyCount, f0_partCount, f0_rows, a1, a2, a3, a4, a5, a6, a7, a8, a9, a10, a11, a12, a13, a14⟩ hu
  refine br_f (dd_t1 dd_5b3) ?_
  refine dd_third (s := 14) dd_hD5 (by omega) hu ?_
  rintro ⟨f0_count, f0_counting, f0_blocks, f0_isStudied, f0_stemCount, f0_keyCount, f0_partCount, f0_rows, a1, a2, a3, a4, a5, a6, a7, a8, a9, a10, a11, a12, a13, a14⟩ hu
  refine br_t (dd_f0 dd_5t14) ?_
  rw [dd_one a (by omega)]
  refine dd_closure dd_hD5 (dd_p64 ha) hu ?_
  rintro ⟨f0_count, f0_counting, f0_blocks, f0_isStudied, f0_stemCount, f0_keyCount, f0_partCount, f0_rows, a1, a2, a3, a4, a5, a6, a7, a8, a9, a10, a11, a12, a13, a14⟩ hu
  refine br_t (by rw [← dd_one a (by omega), dd_rcl a ha, dd_5cl a ha]) ?_
  refine dd_fourth dd_hD5 hu ?_
  rintro ⟨f0_count, f0_counting, f0_blocks, f0_isStudied, f0_stemCount, f0_keyCount, f0_partCount, f0_rows, a1, a2, a3, a4, a5, a6, a7, a8, a9, a10, a11, a12, a13, a14⟩ hu
  refine br_t (dd_f0 dd_5fr) ?_
  rw [dd_one b (by omega)]
  refine dd_needs dd_hD5 (dd_p64 ha) (dd_p64 hb) hu ?_
  rintro ⟨f0_count, f0_counting, f0_blocks, f0_isStudied, f0_stemCount, f0_keyCount, f0_partCount, f0_rows, a1, a2, a3, a4, a5, a6, a7, a8, a9, a10, a11, a12, a13, a14⟩ hu
  have t := dd_5ne a ha b hb
  refine pk_lt b a (fun h => dd_r412 hn hn0 ?_ hu H) (fun h => dd_r412 hn hn0 ?_ hu H)
  · rw [t.1, decide_eq_false (by omega)]; rfl
  · rw [t.1, decide_eq_true h, if_pos rfl]
    show nI (dd_ne dd_D5 (2 ^ a) (2 ^ b) 32 0 11) = _
    rw [t.2 h, pk_sub h]
theorem dd_rfar : ∀ a, a < 6 → ∀ b, b < 6 → ((nI b - nI a) + 6) - ((nI b - nI a) + 6) / 6 * 6 = nI ((b + 6 - a) % 6) := by decide +kernel
theorem dd_r80_6 {a b n : Nat} (ha : a < 6) (hb : b < 6) (hn : n < 6) (hn0 : 0 < n) (hu : dd_K dd_D6 dd_qD6 [] R ce (f0_count, f0_counting, f0_blocks, f0_isStudied, f0_stemCount, f0_keyCount, f0_partCount, f0_rows, a1, a2, a3, a4, a5, a6, a7, a8, a9, a10, a11, a12, a13, a14)) (H : ∀ u', dd_K dd_D5 dd_qD5 [1 ||| dd_an 62 (2 ^ n), 62] R ce u' → post 1 u') : wL_rings_80 post (nI a) (nI b) (nI n) 1 1 (nI 6) f0_count f0_counting f0_blocks f0_isStudied f0_stemCount f0_keyCount f0_partCount f0_rows a1 a2 a3 a4 a5 a6 a7 a8 a9 a10 a11 a12 a13 a14 := by
  refine pk_le 6 6 (fun _ => ⟨by decide, nm_r (dd_rfar a ha b hb) (br_f (by decide) ?_)⟩) (fun z => absurd z (by omega))
  refine dd_keys dd_hD6 hu ?_
  rintro ⟨f0_count, f0_counting, f0_blocks, f0_isStudied, f0_stemCount, f0_keyCount, f0_partCount, f0_rows, a1, a2, a3, a4, a5, a6, a7, a8, a9, a10, a11, a12, a13, a14⟩ hu
  refine br_t rfl ?_
  refine dd_key (i := a) dd_hD6 ha hu ?_
  rintro ⟨f0_count, f0_counting, f0_blocks, f0_isStudied, f0_stemCount, f0_keyCount, f0_partCount, f0_rows, a1, a2, a3, a4, a5, a6, a7, a8, a9, a10, a11, a12, a13, a14⟩ hu
  refine br_t (by rw [dd_6key a ha, dd_one a (by omega)]) ?_
  refine dd_key_o (i := 6) dd_hD6 (by decide) (by omega) hu ?_
  rintro ⟨f0_count, f0_counting, f0_blocks, f0_isStudied, f0_stemCount, f0_keyCount, f0_partCount, f0_rows, a1, a2, a3, a4, a5, a6, a7, a8, a9, a10, a11, a12, a13, a14⟩ hu
  refine br_t rfl ?_
  refine dd_closed dd_hD6 hu ?_
  rintro ⟨f0_count, f0_counting, f0_blocks, f0_isStudied, f0_stemCount, f0_keyCount, f0_partCount, f0_rows, a1, a2, a3, a4, a5, a6, a7, a8, a9, a10, a11, a12, a13, a14⟩ hu
  refine br_t (dd_ve dd_6cd) ?_
  refine dd_corners dd_hD6 hu ?_
  rintro ⟨f0_count, f0_counting, f0_blocks, f0_isStudied, f0_stemCount, f0_keyCount, f0_partCount, f0_rows, a1, a2, a3, a4, a5, a6, a7, a8, a9, a10, a11, a12, a13, a14⟩ hu
  refine br_t (dd_ve dd_6cn) ?_
  refine dd_stems dd_hD6 hu ?_
  rintro ⟨f0_count, f0_counting, f0_blocks, f0_isStudied, f0_stemCount, f0_keyCount, f0_partCount, f0_rows, a1, a2, a3, a4, a5, a6, a7, a8, a9, a10, a11, a12, a13, a14⟩ hu
  refine br_t rfl ?_
  refine dd_stem (i := some b) dd_hD6 (fun y hy => by injection hy; omega) hu ?_
  rintro ⟨f0_count, f0_counting, f0_blocks, f0_isStudied, f0_stemCount, f0_keyCount, f0_partCount, f0_rows, a1, a2, a3, a4, a5, a6, a7, a8, a9, a10, a11, a12, a13, a14⟩ hu
  refine br_t (by rw [dd_6st b hb, dd_one b (by omega)]; rfl) ?_
  refine dd_third (s := 63) dd_hD6 (by omega) hu ?_
  rintro ⟨f0_count, f0_counting, f0_blocks, f0_isStudied, f0_stemCount, f0_keyCount, f0_partCount, f0_rows, a1, a2, a3, a4, a5, a6, a7, a8, a9, a10, a11, a12, a13, a14⟩ hu
  refine br_f (dd_t1 dd_6th) ?_
  refine dd_boyce (s := 63) dd_hD6 (by omega) hu ?_
  rintro ⟨f0_count, f0_counting, f0_blocks, f0_isStudied, f0_stemCount, f0_keyCount, f0_partCount, f0_rows, a1, a2, a3, a4, a5, a6, a7, a8, a9, a10, a11, a12, a13, a14⟩ hu
  refine br_f (dd_t1 dd_6by) ?_
  rw [dd_one a (by omega), dd_one b (by omega)]
  have t := dd_6ne a ha b hb
  refine dd_needs dd_hD6 (dd_p64 ha) (dd_p64 hb) hu ?_
  rintro ⟨f0_count, f0_counting, f0_blocks, f0_isStudied, f0_stemCount, f0_keyCount, f0_partCount, f0_rows, a1, a2, a3, a4, a5, a6, a7, a8, a9, a10, a11, a12, a13, a14⟩ hu
  refine br_t (by rw [t.1, if_pos rfl]; exact dd_ve t.2) ?_
  refine dd_needs (x := 0) (y := 1) dd_hD6 (by omega) (by omega) hu ?_
  rintro ⟨f0_count, f0_counting, f0_blocks, f0_isStudied, f0_stemCount, f0_keyCount, f0_partCount, f0_rows, a1, a2, a3, a4, a5, a6, a7, a8, a9, a10, a11, a12, a13, a14⟩ hu
  refine br_t (by rw [dd_6n0]; rfl) ?_
  refine dd_needs (x := 5) (y := 4) dd_hD6 (by omega) (by omega) hu ?_
  rintro ⟨f0_count, f0_counting, f0_blocks, f0_isStudied, f0_stemCount, f0_keyCount, f0_partCount, f0_rows, a1, a2, a3, a4, a5, a6, a7, a8, a9, a10, a11, a12, a13, a14⟩ hu
  refine br_t (by rw [dd_6n5.1, if_pos rfl]; exact dd_ve dd_6n5.2) ?_
  refine dd_take (D' := dd_D5) (e := (32, 1, false)) (q' := dd_qD5) rfl hu ?_
  rintro ⟨f0_count, f0_counting, f0_blocks, f0_isStudied, f0_stemCount, f0_keyCount, f0_partCount, f0_rows, a1, a2, a3, a4, a5, a6, a7, a8, a9, a10, a11, a12, a13, a14⟩ hu
  refine br_t rfl ?_
  exact dd_r277 ha hb hn hn0 hu H
theorem dd_r80_5 {a b n : Nat} (ha : a < 6) (hb : b < 6) (hn : n < 6) (hn0 : 0 < n) (hu : dd_K [(1, 2, false), (2, 4, false), (4, 8, false), (8, 16, false), (16, 32, false)] q [] R ce (f0_count, f0_counting, f0_blocks, f0_isStudied, f0_stemCount, f0_keyCount, f0_partCount, f0_rows, a1, a2, a3, a4, a5, a6, a7, a8, a9, a10, a11, a12, a13, a14)) (H : ∀ u', dd_K dd_D5 dd_qD5 [1 ||| dd_an 62 (2 ^ n), 62] R ce u' → post 1 u') : wL_rings_80 post (nI a) (nI b) (nI n) 2 1 (nI 5) f0_count f0_counting f0_blocks f0_isStudied f0_stemCount f0_keyCount f0_partCount f0_rows a1 a2 a3 a4 a5 a6 a7 a8 a9 a10 a11 a12 a13 a14 := by
  refine pk_le 6 5 (fun z => absurd z (by omega)) (fun _ => br_f (by decide) ⟨by decide, ?_⟩)
  rw [show (1 : Int32) <<< (nI 5 &&& 31) = nI 32 by decide, show (1 : Int32) <<< (((nI 5 + 1) - (nI 5 + 1) / 6 * 6) &&& 31) = nI 1 by decide]
  refine dd_give (x := 32) (y := 1) (b := 0) (q' := dd_qD6) (by omega) (by omega) (by omega) (by decide) hu ?_
  rintro ⟨f0_count, f0_counting, f0_blocks, f0_isStudied, f0_stemCount, f0_keyCount, f0_partCount, f0_rows, a1, a2, a3, a4, a5, a6, a7, a8, a9, a10, a11, a12, a13, a14⟩ hu
  refine br_t rfl ?_
  exact nm_r (nI_1 5) (dd_r80_6 ha hb hn hn0 hu H)
theorem dd_r80_4 {a b n : Nat} (ha : a < 6) (hb : b < 6) (hn : n < 6) (hn0 : 0 < n) (hu : dd_K [(1, 2, false), (2, 4, false), (4, 8, false), (8, 16, false)] q [] R ce (f0_count, f0_counting, f0_blocks, f0_isStudied, f0_stemCount, f0_keyCount, f0_partCount, f0_rows, a1, a2, a3, a4, a5, a6, a7, a8, a9, a10, a11, a12, a13, a14)) (H : ∀ u', dd_K dd_D5 dd_qD5 [1 ||| dd_an 62 (2 ^ n), 62] R ce u' → post 1 u') : wL_rings_80 post (nI a) (nI b) (nI n) 3 1 (nI 4) f0_count f0_counting f0_blocks f0_isStudied f0_stemCount f0_keyCount f0_partCount f0_rows a1 a2 a3 a4 a5 a6 a7 a8 a9 a10 a11 a12 a13 a14 := by
  refine pk_le 6 4 (fun z => absurd z (by omega)) (fun _ => br_f (by decide) ⟨by decide, ?_⟩)
  rw [show (1 : Int32) <<< (nI 4 &&& 31) = nI 16 by decide, show (1 : Int32) <<< (((nI 4 + 1) - (nI 4 + 1) / 6 * 6) &&& 31) = nI 32 by decide]
  refine dd_give (x := 16) (y := 32) (b := 0) (q' := dd_qD6) (by omega) (by omega) (by omega) (by decide) hu ?_
  rintro ⟨f0_count, f0_counting, f0_blocks, f0_isStudied, f0_stemCount, f0_keyCount, f0_partCount, f0_rows, a1, a2, a3, a4, a5, a6, a7, a8, a9, a10, a11, a12, a13, a14⟩ hu
  refine br_t rfl ?_
  exact nm_r (nI_1 4) (dd_r80_5 ha hb hn hn0 hu H)
theorem dd_r80_3 {a b n : Nat} (ha : a < 6) (hb : b < 6) (hn : n < 6) (hn0 : 0 < n) (hu : dd_K [(1, 2, false), (2, 4, false), (4, 8, false)] q [] R ce (f0_count, f0_counting, f0_blocks, f0_isStudied, f0_stemCount, f0_keyCount, f0_partCount, f0_rows, a1, a2, a3, a4, a5, a6, a7, a8, a9, a10, a11, a12, a13, a14)) (H : ∀ u', dd_K dd_D5 dd_qD5 [1 ||| dd_an 62 (2 ^ n), 62] R ce u' → post 1 u') : wL_rings_80 post (nI a) (nI b) (nI n) 4 1 (nI 3) f0_count f0_counting f0_blocks f0_isStudied f0_stemCount f0_keyCount f0_partCount f0_rows a1 a2 a3 a4 a5 a6 a7 a8 a9 a10 a11 a12 a13 a14 := by
  refine pk_le 6 3 (fun z => absurd z (by omega)) (fun _ => br_f (by decide) ⟨by decide, ?_⟩)
  rw [show (1 : Int32) <<< (nI 3 &&& 31) = nI 8 by decide, show (1 : Int32) <<< (((nI 3 + 1) - (nI 3 + 1) / 6 * 6) &&& 31) = nI 16 by decide]
  refine dd_give (x := 8) (y := 16) (b := 0) (q' := dd_qD6) (by omega) (by omega) (by omega) (by decide) hu ?_
  rintro ⟨f0_count, f0_counting, f0_blocks, f0_isStudied, f0_stemCount, f0_keyCount, f0_partCount, f0_rows, a1, a2, a3, a4, a5, a6, a7, a8, a9, a10, a11, a12, a13, a14⟩ hu
  refine br_t rfl ?_
  exact nm_r (nI_1 3) (dd_r80_4 ha hb hn hn0 hu H)
theorem dd_r80_2 {a b n : Nat} (ha : a < 6) (hb : b < 6) (hn : n < 6) (hn0 : 0 < n) (hu : dd_K [(1, 2, false), (2, 4, false)] q [] R ce (f0_count, f0_counting, f0_blocks, f0_isStudied, f0_stemCount, f0_keyCount, f0_partCount, f0_rows, a1, a2, a3, a4, a5, a6, a7, a8, a9, a10, a11, a12, a13, a14)) (H : ∀ u', dd_K dd_D5 dd_qD5 [1 ||| dd_an 62 (2 ^ n), 62] R ce u' → post 1 u') : wL_rings_80 post (nI a) (nI b) (nI n) 5 1 (nI 2) f0_count f0_counting f0_blocks f0_isStudied f0_stemCount f0_keyCount f0_partCount f0_rows a1 a2 a3 a4 a5 a6 a7 a8 a9 a10 a11 a12 a13 a14 := by
  refine pk_le 6 2 (fun z => absurd z (by omega)) (fun _ => br_f (by decide) ⟨by decide, ?_⟩)
  rw [show (1 : Int32) <<< (nI 2 &&& 31) = nI 4 by decide, show (1 : Int32) <<< (((nI 2 + 1) - (nI 2 + 1) / 6 * 6) &&& 31) = nI 8 by decide]
  refine dd_give (x := 4) (y := 8) (b := 0) (q' := dd_qD6) (by omega) (by omega) (by omega) (by decide) hu ?_
  rintro ⟨f0_count, f0_counting, f0_blocks, f0_isStudied, f0_stemCount, f0_keyCount, f0_partCount, f0_rows, a1, a2, a3, a4, a5, a6, a7, a8, a9, a10, a11, a12, a13, a14⟩ hu
  refine br_t rfl ?_
  exact nm_r (nI_1 2) (dd_r80_3 ha hb hn hn0 hu H)
theorem dd_r80_1 {a b n : Nat} (ha : a < 6) (hb : b < 6) (hn : n < 6) (hn0 : 0 < n) (hu : dd_K [(1, 2, false)] q [] R ce (f0_count, f0_counting, f0_blocks, f0_isStudied, f0_stemCount, f0_keyCount, f0_partCount, f0_rows, a1, a2, a3, a4, a5, a6, a7, a8, a9, a10, a11, a12, a13, a14)) (H : ∀ u', dd_K dd_D5 dd_qD5 [1 ||| dd_an 62 (2 ^ n), 62] R ce u' → post 1 u') : wL_rings_80 post (nI a) (nI b) (nI n) 6 1 (nI 1) f0_count f0_counting f0_blocks f0_isStudied f0_stemCount f0_keyCount f0_partCount f0_rows a1 a2 a3 a4 a5 a6 a7 a8 a9 a10 a11 a12 a13 a14 := by
  refine pk_le 6 1 (fun z => absurd z (by omega)) (fun _ => br_f (by decide) ⟨by decide, ?_⟩)
  rw [show (1 : Int32) <<< (nI 1 &&& 31) = nI 2 by decide, show (1 : Int32) <<< (((nI 1 + 1) - (nI 1 + 1) / 6 * 6) &&& 31) = nI 4 by decide]
  refine dd_give (x := 2) (y := 4) (b := 0) (q' := dd_qD6) (by omega) (by omega) (by omega) (by decide) hu ?_
  rintro ⟨f0_count, f0_counting, f0_blocks, f0_isStudied, f0_stemCount, f0_keyCount, f0_partCount, f0_rows, a1, a2, a3, a4, a5, a6, a7, a8, a9, a10, a11, a12, a13, a14⟩ hu
  refine br_t rfl ?_
  exact nm_r (nI_1 1) (dd_r80_2 ha hb hn hn0 hu H)
theorem dd_r80_0 {a b n : Nat} (ha : a < 6) (hb : b < 6) (hn : n < 6) (hn0 : 0 < n) (hu : dd_K [] q [] R ce (f0_count, f0_counting, f0_blocks, f0_isStudied, f0_stemCount, f0_keyCount, f0_partCount, f0_rows, a1, a2, a3, a4, a5, a6, a7, a8, a9, a10, a11, a12, a13, a14)) (H : ∀ u', dd_K dd_D5 dd_qD5 [1 ||| dd_an 62 (2 ^ n), 62] R ce u' → post 1 u') : wL_rings_80 post (nI a) (nI b) (nI n) 7 1 (nI 0) f0_count f0_counting f0_blocks f0_isStudied f0_stemCount f0_keyCount f0_partCount f0_rows a1 a2 a3 a4 a5 a6 a7 a8 a9 a10 a11 a12 a13 a14 := by
  refine pk_le 6 0 (fun z => absurd z (by omega)) (fun _ => br_f (by decide) ⟨by decide, ?_⟩)
  rw [show (1 : Int32) <<< (nI 0 &&& 31) = nI 1 by decide, show (1 : Int32) <<< (((nI 0 + 1) - (nI 0 + 1) / 6 * 6) &&& 31) = nI 2 by decide]
  refine dd_give (x := 1) (y := 2) (b := 0) (q' := dd_qD6) (by omega) (by omega) (by omega) (by decide) hu ?_
  rintro ⟨f0_count, f0_counting, f0_blocks, f0_isStudied, f0_stemCount, f0_keyCount, f0_partCount, f0_rows, a1, a2, a3, a4, a5, a6, a7, a8, a9, a10, a11, a12, a13, a14⟩ hu
  refine br_t rfl ?_
  exact nm_r (nI_1 0) (dd_r80_1 ha hb hn hn0 hu H)
theorem dd_rings {a b n : Nat} (ha : a < 6) (hb : b < 6) (hn : n < 6) (hn0 : 0 < n) (hu : dd_K dd_D0 dd_qD0 [] R ce u) (H : ∀ u', dd_K dd_D5 dd_qD5 [1 ||| dd_an 62 (2 ^ n), 62] R ce u' → post 1 u') : wpL_rings post u (nI a) (nI b) (nI n) := by
  obtain ⟨f0_count, f0_counting, f0_blocks, f0_isStudied, f0_stemCount, f0_keyCount, f0_partCount, f0_rows, a1, a2, a3, a4, a5, a6, a7, a8, a9, a10, a11, a12, a13, a14⟩ := u
  unfold wpL_rings
  refine dd_keys dd_hD0 hu ?_
  rintro ⟨f0_count, f0_counting, f0_blocks, f0_isStudied, f0_stemCount, f0_keyCount, f0_partCount, f0_rows, a1, a2, a3, a4, a5, a6, a7, a8, a9, a10, a11, a12, a13, a14⟩ hu
  refine br_t rfl ?_
  refine dd_key (i := 0) dd_hD0 (by decide) hu ?_
  rintro ⟨f0_count, f0_counting, f0_blocks, f0_isStudied, f0_stemCount, f0_keyCount, f0_partCount, f0_rows, a1, a2, a3, a4, a5, a6, a7, a8, a9, a10, a11, a12, a13, a14⟩ hu
  refine br_t rfl ?_
  refine dd_closed dd_hD0 hu ?_
  rintro ⟨f0_count, f0_counting, f0_blocks, f0_isStudied, f0_stemCount, f0_keyCount, f0_partCount, f0_rows, a1, a2, a3, a4, a5, a6, a7, a8, a9, a10, a11, a12, a13, a14⟩ hu
  refine br_t (dd_ve dd_0cd) ?_
  refine dd_corners dd_hD0 hu ?_
  rintro ⟨f0_count, f0_counting, f0_blocks, f0_isStudied, f0_stemCount, f0_keyCount, f0_partCount, f0_rows, a1, a2, a3, a4, a5, a6, a7, a8, a9, a10, a11, a12, a13, a14⟩ hu
  refine br_t (dd_ve dd_0cn) ?_
  refine dd_stems dd_hD0 hu ?_
  rintro ⟨f0_count, f0_counting, f0_blocks, f0_isStudied, f0_stemCount, f0_keyCount, f0_partCount, f0_rows, a1, a2, a3, a4, a5, a6, a7, a8, a9, a10, a11, a12, a13, a14⟩ hu
  refine br_t rfl ?_
  refine dd_boyce (s := 63) dd_hD0 (by omega) hu ?_
  rintro ⟨f0_count, f0_counting, f0_blocks, f0_isStudied, f0_stemCount, f0_keyCount, f0_partCount, f0_rows, a1, a2, a3, a4, a5, a6, a7, a8, a9, a10, a11, a12, a13, a14⟩ hu
  refine br_f (dd_t1 dd_0by) ?_
  refine dd_fourth dd_hD0 hu ?_
  rintro ⟨f0_count, f0_counting, f0_blocks, f0_isStudied, f0_stemCount, f0_keyCount, f0_partCount, f0_rows, a1, a2, a3, a4, a5, a6, a7, a8, a9, a10, a11, a12, a13, a14⟩ hu
  refine br_f (dd_t1 dd_0fr) ?_
  refine dd_closure (x := 9) dd_hD0 (by omega) hu ?_
  rintro ⟨f0_count, f0_counting, f0_blocks, f0_isStudied, f0_stemCount, f0_keyCount, f0_partCount, f0_rows, a1, a2, a3, a4, a5, a6, a7, a8, a9, a10, a11, a12, a13, a14⟩ hu
  refine br_t (dd_ve dd_0c9) ?_
  exact ⟨7, dd_r80_0 ha hb hn hn0 hu H⟩
end
end
section
def dd_bx (D : List (Nat × Nat × Bool)) (x y : Nat) : Bool := dd_bu (dd_fb D (2 ^ D.length - 1) x) y (dd_fb D (2 ^ D.length - 1) x).length 0 true
theorem dd_bx_E1_1_56 : dd_bx dd_E1 1 56 = true := by decide +kernel
theorem dd_bx_E1_1_6 : dd_bx dd_E1 1 6 = true := by decide +kernel
theorem dd_bx_E1_1_7 : dd_bx dd_E1 1 7 = true := by decide +kernel
theorem dd_bx_E1_1_2 : dd_bx dd_E1 1 2 = false := by decide +kernel
theorem dd_bx_E1_3_4 : dd_bx dd_E1 3 4 = true := by decide +kernel
theorem dd_bx_E1_5_56 : dd_bx dd_E1 5 56 = true := by decide +kernel
theorem dd_bx_E2_1_4 : dd_bx dd_E2 1 4 = true := by decide +kernel
theorem dd_bx_E3_1_8 : dd_bx dd_E3 1 8 = true := by decide +kernel
theorem dd_bx_E3_1_12 : dd_bx dd_E3 1 12 = true := by decide +kernel
theorem dd_bx_E3_1_16 : dd_bx dd_E3 1 16 = false := by decide +kernel
theorem dd_1w6 : dd_w 6 (dd_c dd_qE1.1 1) = false := by decide +kernel
theorem dd_1c1 : dd_c dd_qE1.1 1 = 1 := by decide +kernel
theorem dd_1cd : dd_cd (dd_c dd_qE1.1) 64 0 0 = 64 := by decide +kernel
theorem dd_1fr : dd_fr dd_E1 (dd_c dd_qE1.1) 64 0 = false := by decide +kernel
theorem dd_1by : (dd_gi (dd_c dd_qE1.1) 63 64 63 0 == 0) = true := by decide +kernel
theorem dd_2c1 : dd_c dd_qE2.1 1 = 3 := by decide +kernel
theorem dd_2w2 : dd_w 2 (dd_c dd_qE2.1 1) = true := by decide +kernel
theorem dd_2c8 : dd_c dd_qE2.1 8 = 10 := by decide +kernel
theorem dd_2ne : dd_ne dd_E2 1 2 4 0 11 = 2 := by decide +kernel
theorem dd_3ll : dd_ll dd_E3 [7, 57] = false := by decide +kernel
theorem dd_3pv : dd_pv dd_E3 (dd_sn dd_E3 3 0 0) [7, 57] 3 0 true = false := by decide +kernel
theorem dd_1pv : dd_pv dd_E1 (dd_sn dd_E1 1 0 0) [7, 57] 1 0 true = true := by decide +kernel
section
variable {f0_count f0_counting f0_blocks f0_isStudied f0_stemCount f0_keyCount f0_partCount f0_rows : Int32} {a1 a2 a3 a4 a5 a6 a7 a8 a9 a10 a11 a12 a13 a14 : Nat → Int32}
variable {q : Nat × List Nat × Nat × List Nat} {T : List Nat} {R : Nat} {ce : Nat → Nat} {u : St2} {post : Int32 → St2 → Prop}
theorem dd_u287 (hu : dd_K dd_E3 q [] R ce (f0_count, f0_counting, f0_blocks, f0_isStudied, f0_stemCount, f0_keyCount, f0_partCount, f0_rows, a1, a2, a3, a4, a5, a6, a7, a8, a9, a10, a11, a12, a13, a14)) (H : ∀ u', dd_K dd_E1 dd_qE1 [7, 57] R ce u' → post 1 u') : wL_bundled_287 post 1 f0_count f0_counting f0_blocks f0_isStudied f0_stemCount f0_keyCount f0_partCount f0_rows a1 a2 a3 a4 a5 a6 a7 a8 a9 a10 a11 a12 a13 a14 := by
  refine br_f (by decide) ?_
  refine dd_part (s := 7) (by omega) (by decide) hu ?_
  rintro ⟨f0_count, f0_counting, f0_blocks, f0_isStudied, f0_stemCount, f0_keyCount, f0_partCount, f0_rows, a1, a2, a3, a4, a5, a6, a7, a8, a9, a10, a11, a12, a13, a14⟩ hu
  refine br_t rfl ?_
  refine dd_part (s := 57) (by omega) (by decide) hu ?_
  rintro ⟨f0_count, f0_counting, f0_blocks, f0_isStudied, f0_stemCount, f0_keyCount, f0_partCount, f0_rows, a1, a2, a3, a4, a5, a6, a7, a8, a9, a10, a11, a12, a13, a14⟩ hu
  refine br_t rfl ?_
  refine dd_lossless hu ?_
  rintro ⟨f0_count, f0_counting, f0_blocks, f0_isStudied, f0_stemCount, f0_keyCount, f0_partCount, f0_rows, a1, a2, a3, a4, a5, a6, a7, a8, a9, a10, a11, a12, a13, a14⟩ hu
  refine br_t (dd_f0 dd_3ll) ?_
  refine dd_preserves hu ?_
  rintro ⟨f0_count, f0_counting, f0_blocks, f0_isStudied, f0_stemCount, f0_keyCount, f0_partCount, f0_rows, a1, a2, a3, a4, a5, a6, a7, a8, a9, a10, a11, a12, a13, a14⟩ hu
  refine br_t (dd_f0 dd_3pv) ?_
  refine dd_take (D' := dd_E2) (e := (1, 8, true)) (q' := dd_qE2) rfl hu ?_
  rintro ⟨f0_count, f0_counting, f0_blocks, f0_isStudied, f0_stemCount, f0_keyCount, f0_partCount, f0_rows, a1, a2, a3, a4, a5, a6, a7, a8, a9, a10, a11, a12, a13, a14⟩ hu
  refine br_t rfl ?_
  refine dd_take (D' := dd_E1) (e := (8, 2, false)) (q' := dd_qE1) rfl hu ?_
  rintro ⟨f0_count, f0_counting, f0_blocks, f0_isStudied, f0_stemCount, f0_keyCount, f0_partCount, f0_rows, a1, a2, a3, a4, a5, a6, a7, a8, a9, a10, a11, a12, a13, a14⟩ hu
  refine br_t rfl ?_
  refine dd_closure (x := 1) dd_hE1 (by omega) hu ?_
  rintro ⟨f0_count, f0_counting, f0_blocks, f0_isStudied, f0_stemCount, f0_keyCount, f0_partCount, f0_rows, a1, a2, a3, a4, a5, a6, a7, a8, a9, a10, a11, a12, a13, a14⟩ hu
  refine br_t (dd_ve dd_1c1) ?_
  refine dd_preserves hu ?_
  rintro ⟨f0_count, f0_counting, f0_blocks, f0_isStudied, f0_stemCount, f0_keyCount, f0_partCount, f0_rows, a1, a2, a3, a4, a5, a6, a7, a8, a9, a10, a11, a12, a13, a14⟩ hu
  refine br_f (dd_t1 dd_1pv) ?_
  exact H _ hu
theorem dd_u167 (hu : dd_K dd_E1 dd_qE1 [] R ce (f0_count, f0_counting, f0_blocks, f0_isStudied, f0_stemCount, f0_keyCount, f0_partCount, f0_rows, a1, a2, a3, a4, a5, a6, a7, a8, a9, a10, a11, a12, a13, a14)) (H : ∀ u', dd_K dd_E1 dd_qE1 [7, 57] R ce u' → post 1 u') : wL_bundled_167 post 1 f0_count f0_counting f0_blocks f0_isStudied f0_stemCount f0_keyCount f0_partCount f0_rows a1 a2 a3 a4 a5 a6 a7 a8 a9 a10 a11 a12 a13 a14 := by
  refine br_f (by decide) ?_
  refine dd_give (x := 8) (y := 2) (b := 0) (q' := dd_qE2) (by omega) (by omega) (by omega) (by decide) hu ?_
  rintro ⟨f0_count, f0_counting, f0_blocks, f0_isStudied, f0_stemCount, f0_keyCount, f0_partCount, f0_rows, a1, a2, a3, a4, a5, a6, a7, a8, a9, a10, a11, a12, a13, a14⟩ hu
  have hu : dd_K dd_E2 dd_qE2 [] R ce (f0_count, f0_counting, f0_blocks, f0_isStudied, f0_stemCount, f0_keyCount, f0_partCount, f0_rows, a1, a2, a3, a4, a5, a6, a7, a8, a9, a10, a11, a12, a13, a14) := hu
  refine br_t rfl ?_
  refine dd_closure (x := 1) dd_hE2 (by omega) hu ?_
  rintro ⟨f0_count, f0_counting, f0_blocks, f0_isStudied, f0_stemCount, f0_keyCount, f0_partCount, f0_rows, a1, a2, a3, a4, a5, a6, a7, a8, a9, a10, a11, a12, a13, a14⟩ hu
  refine br_t (dd_ve dd_2c1) ?_
  refine dd_follows (x := 1) (y := 2) dd_hE2 (by omega) (by omega) hu ?_
  rintro ⟨f0_count, f0_counting, f0_blocks, f0_isStudied, f0_stemCount, f0_keyCount, f0_partCount, f0_rows, a1, a2, a3, a4, a5, a6, a7, a8, a9, a10, a11, a12, a13, a14⟩ hu
  refine br_f (dd_t1 dd_2w2) ?_
  refine dd_bundles (x := 1) (y := 4) (by omega) (by omega) hu ?_
  rintro ⟨f0_count, f0_counting, f0_blocks, f0_isStudied, f0_stemCount, f0_keyCount, f0_partCount, f0_rows, a1, a2, a3, a4, a5, a6, a7, a8, a9, a10, a11, a12, a13, a14⟩ hu
  refine br_f (dd_t1 dd_bx_E2_1_4) ?_
  refine dd_closure (x := 8) dd_hE2 (by omega) hu ?_
  rintro ⟨f0_count, f0_counting, f0_blocks, f0_isStudied, f0_stemCount, f0_keyCount, f0_partCount, f0_rows, a1, a2, a3, a4, a5, a6, a7, a8, a9, a10, a11, a12, a13, a14⟩ hu
  refine br_t (dd_ve dd_2c8) ?_
  refine dd_needs (x := 1) (y := 2) dd_hE2 (by omega) (by omega) hu ?_
  rintro ⟨f0_count, f0_counting, f0_blocks, f0_isStudied, f0_stemCount, f0_keyCount, f0_partCount, f0_rows, a1, a2, a3, a4, a5, a6, a7, a8, a9, a10, a11, a12, a13, a14⟩ hu
  refine br_t (by rw [dd_2w2, if_pos rfl]; exact dd_ve dd_2ne) ?_
  refine dd_stems dd_hE2 hu ?_
  rintro ⟨f0_count, f0_counting, f0_blocks, f0_isStudied, f0_stemCount, f0_keyCount, f0_partCount, f0_rows, a1, a2, a3, a4, a5, a6, a7, a8, a9, a10, a11, a12, a13, a14⟩ hu
  refine br_f (by decide) ?_
  refine dd_give (x := 1) (y := 8) (b := 1) (q' := dd_qE2) (by omega) (by omega) (by omega) (by decide) hu ?_
  rintro ⟨f0_count, f0_counting, f0_blocks, f0_isStudied, f0_stemCount, f0_keyCount, f0_partCount, f0_rows, a1, a2, a3, a4, a5, a6, a7, a8, a9, a10, a11, a12, a13, a14⟩ hu
  have hu : dd_K dd_E3 dd_qE2 [] R ce (f0_count, f0_counting, f0_blocks, f0_isStudied, f0_stemCount, f0_keyCount, f0_partCount, f0_rows, a1, a2, a3, a4, a5, a6, a7, a8, a9, a10, a11, a12, a13, a14) := hu
  refine br_t rfl ?_
  refine dd_bundles (x := 1) (y := 8) (by omega) (by omega) hu ?_
  rintro ⟨f0_count, f0_counting, f0_blocks, f0_isStudied, f0_stemCount, f0_keyCount, f0_partCount, f0_rows, a1, a2, a3, a4, a5, a6, a7, a8, a9, a10, a11, a12, a13, a14⟩ hu
  refine br_f (dd_t1 dd_bx_E3_1_8) ?_
  refine dd_bundles (x := 1) (y := 12) (by omega) (by omega) hu ?_
  rintro ⟨f0_count, f0_counting, f0_blocks, f0_isStudied, f0_stemCount, f0_keyCount, f0_partCount, f0_rows, a1, a2, a3, a4, a5, a6, a7, a8, a9, a10, a11, a12, a13, a14⟩ hu
  refine br_f (dd_t1 dd_bx_E3_1_12) ?_
  refine dd_bundles (x := 1) (y := 16) (by omega) (by omega) hu ?_
  rintro ⟨f0_count, f0_counting, f0_blocks, f0_isStudied, f0_stemCount, f0_keyCount, f0_partCount, f0_rows, a1, a2, a3, a4, a5, a6, a7, a8, a9, a10, a11, a12, a13, a14⟩ hu
  refine br_t (dd_f0 dd_bx_E3_1_16) ?_
  exact dd_u287 hu H
theorem dd_u2_5 (hu : dd_K [] q T R ce (f0_count, f0_counting, f0_blocks, f0_isStudied, f0_stemCount, f0_keyCount, f0_partCount, f0_rows, a1, a2, a3, a4, a5, a6, a7, a8, a9, a10, a11, a12, a13, a14)) (H : ∀ u', dd_K dd_E1 dd_qE1 [7, 57] R ce u' → post 1 u') : wL_bundled_2 post 1 (nI 5) f0_count f0_counting f0_blocks f0_isStudied f0_stemCount f0_keyCount f0_partCount f0_rows a1 a2 a3 a4 a5 a6 a7 a8 a9 a10 a11 a12 a13 a14 := by
  refine pk_le 5 5 (fun _ => ?_) (fun z => absurd z (by omega))
  refine dd_whole hu ?_
  rintro ⟨f0_count, f0_counting, f0_blocks, f0_isStudied, f0_stemCount, f0_keyCount, f0_partCount, f0_rows, a1, a2, a3, a4, a5, a6, a7, a8, a9, a10, a11, a12, a13, a14⟩ hu
  refine dd_take_0 hu ?_
  rintro ⟨f0_count, f0_counting, f0_blocks, f0_isStudied, f0_stemCount, f0_keyCount, f0_partCount, f0_rows, a1, a2, a3, a4, a5, a6, a7, a8, a9, a10, a11, a12, a13, a14⟩ hu
  refine br_t rfl ?_
  refine dd_give (x := 1) (y := 6) (b := 1) (q' := dd_qE1) (by omega) (by omega) (by omega) (by decide) hu ?_
  rintro ⟨f0_count, f0_counting, f0_blocks, f0_isStudied, f0_stemCount, f0_keyCount, f0_partCount, f0_rows, a1, a2, a3, a4, a5, a6, a7, a8, a9, a10, a11, a12, a13, a14⟩ hu
  have hu : dd_K dd_E1 dd_qE1 [] R ce (f0_count, f0_counting, f0_blocks, f0_isStudied, f0_stemCount, f0_keyCount, f0_partCount, f0_rows, a1, a2, a3, a4, a5, a6, a7, a8, a9, a10, a11, a12, a13, a14) := hu
  refine br_t rfl ?_
  refine dd_bundles (x := 1) (y := 56) (by omega) (by omega) hu ?_
  rintro ⟨f0_count, f0_counting, f0_blocks, f0_isStudied, f0_stemCount, f0_keyCount, f0_partCount, f0_rows, a1, a2, a3, a4, a5, a6, a7, a8, a9, a10, a11, a12, a13, a14⟩ hu
  refine br_f (dd_t1 dd_bx_E1_1_56) ?_
  refine dd_bundles (x := 1) (y := 6) (by omega) (by omega) hu ?_
  rintro ⟨f0_count, f0_counting, f0_blocks, f0_isStudied, f0_stemCount, f0_keyCount, f0_partCount, f0_rows, a1, a2, a3, a4, a5, a6, a7, a8, a9, a10, a11, a12, a13, a14⟩ hu
  refine br_f (dd_t1 dd_bx_E1_1_6) ?_
  refine dd_bundles (x := 1) (y := 7) (by omega) (by omega) hu ?_
  rintro ⟨f0_count, f0_counting, f0_blocks, f0_isStudied, f0_stemCount, f0_keyCount, f0_partCount, f0_rows, a1, a2, a3, a4, a5, a6, a7, a8, a9, a10, a11, a12, a13, a14⟩ hu
  refine br_f (dd_t1 dd_bx_E1_1_7) ?_
  refine dd_bundles (x := 1) (y := 2) (by omega) (by omega) hu ?_
  rintro ⟨f0_count, f0_counting, f0_blocks, f0_isStudied, f0_stemCount, f0_keyCount, f0_partCount, f0_rows, a1, a2, a3, a4, a5, a6, a7, a8, a9, a10, a11, a12, a13, a14⟩ hu
  refine br_t (dd_f0 dd_bx_E1_1_2) ?_
  refine dd_bundles (x := 3) (y := 4) (by omega) (by omega) hu ?_
  rintro ⟨f0_count, f0_counting, f0_blocks, f0_isStudied, f0_stemCount, f0_keyCount, f0_partCount, f0_rows, a1, a2, a3, a4, a5, a6, a7, a8, a9, a10, a11, a12, a13, a14⟩ hu
  refine br_f (dd_t1 dd_bx_E1_3_4) ?_
  refine dd_bundles (x := 5) (y := 56) (by omega) (by omega) hu ?_
  rintro ⟨f0_count, f0_counting, f0_blocks, f0_isStudied, f0_stemCount, f0_keyCount, f0_partCount, f0_rows, a1, a2, a3, a4, a5, a6, a7, a8, a9, a10, a11, a12, a13, a14⟩ hu
  refine br_f (dd_t1 dd_bx_E1_5_56) ?_
  refine dd_follows (x := 1) (y := 6) dd_hE1 (by omega) (by omega) hu ?_
  rintro ⟨f0_count, f0_counting, f0_blocks, f0_isStudied, f0_stemCount, f0_keyCount, f0_partCount, f0_rows, a1, a2, a3, a4, a5, a6, a7, a8, a9, a10, a11, a12, a13, a14⟩ hu
  refine br_t (dd_f0 dd_1w6) ?_
  refine dd_closure (x := 1) dd_hE1 (by omega) hu ?_
  rintro ⟨f0_count, f0_counting, f0_blocks, f0_isStudied, f0_stemCount, f0_keyCount, f0_partCount, f0_rows, a1, a2, a3, a4, a5, a6, a7, a8, a9, a10, a11, a12, a13, a14⟩ hu
  refine br_t (dd_ve dd_1c1) ?_
  refine dd_closed dd_hE1 hu ?_
  rintro ⟨f0_count, f0_counting, f0_blocks, f0_isStudied, f0_stemCount, f0_keyCount, f0_partCount, f0_rows, a1, a2, a3, a4, a5, a6, a7, a8, a9, a10, a11, a12, a13, a14⟩ hu
  refine br_t (dd_ve dd_1cd) ?_
  refine dd_fourth dd_hE1 hu ?_
  rintro ⟨f0_count, f0_counting, f0_blocks, f0_isStudied, f0_stemCount, f0_keyCount, f0_partCount, f0_rows, a1, a2, a3, a4, a5, a6, a7, a8, a9, a10, a11, a12, a13, a14⟩ hu
  refine br_t (dd_f0 dd_1fr) ?_
  refine dd_boyce (s := 63) dd_hE1 (by omega) hu ?_
  rintro ⟨f0_count, f0_counting, f0_blocks, f0_isStudied, f0_stemCount, f0_keyCount, f0_partCount, f0_rows, a1, a2, a3, a4, a5, a6, a7, a8, a9, a10, a11, a12, a13, a14⟩ hu
  refine br_f (dd_t1 dd_1by) ?_
  refine dd_keys dd_hE1 hu ?_
  rintro ⟨f0_count, f0_counting, f0_blocks, f0_isStudied, f0_stemCount, f0_keyCount, f0_partCount, f0_rows, a1, a2, a3, a4, a5, a6, a7, a8, a9, a10, a11, a12, a13, a14⟩ hu
  refine br_t rfl ?_
  refine dd_key (i := 0) dd_hE1 (by decide) hu ?_
  rintro ⟨f0_count, f0_counting, f0_blocks, f0_isStudied, f0_stemCount, f0_keyCount, f0_partCount, f0_rows, a1, a2, a3, a4, a5, a6, a7, a8, a9, a10, a11, a12, a13, a14⟩ hu
  refine br_t rfl ?_
  exact dd_u167 hu H
theorem dd_u2_4 (hu : dd_K [(1, 2, false)] q T R ce (f0_count, f0_counting, f0_blocks, f0_isStudied, f0_stemCount, f0_keyCount, f0_partCount, f0_rows, a1, a2, a3, a4, a5, a6, a7, a8, a9, a10, a11, a12, a13, a14)) (H : ∀ u', dd_K dd_E1 dd_qE1 [7, 57] R ce u' → post 1 u') : wL_bundled_2 post 2 (nI 4) f0_count f0_counting f0_blocks f0_isStudied f0_stemCount f0_keyCount f0_partCount f0_rows a1 a2 a3 a4 a5 a6 a7 a8 a9 a10 a11 a12 a13 a14 := by
  refine pk_le 5 4 (fun z => absurd z (by omega)) (fun _ => ?_)
  refine dd_take (D' := []) (e := (1, 2, false)) (q' := dd_qE1) rfl hu ?_
  rintro ⟨f0_count, f0_counting, f0_blocks, f0_isStudied, f0_stemCount, f0_keyCount, f0_partCount, f0_rows, a1, a2, a3, a4, a5, a6, a7, a8, a9, a10, a11, a12, a13, a14⟩ hu
  exact nm_r (nI_1 4) (dd_u2_5 hu H)
theorem dd_u2_3 (hu : dd_K [(1, 2, false), (2, 4, false)] q T R ce (f0_count, f0_counting, f0_blocks, f0_isStudied, f0_stemCount, f0_keyCount, f0_partCount, f0_rows, a1, a2, a3, a4, a5, a6, a7, a8, a9, a10, a11, a12, a13, a14)) (H : ∀ u', dd_K dd_E1 dd_qE1 [7, 57] R ce u' → post 1 u') : wL_bundled_2 post 3 (nI 3) f0_count f0_counting f0_blocks f0_isStudied f0_stemCount f0_keyCount f0_partCount f0_rows a1 a2 a3 a4 a5 a6 a7 a8 a9 a10 a11 a12 a13 a14 := by
  refine pk_le 5 3 (fun z => absurd z (by omega)) (fun _ => ?_)
  refine dd_take (D' := [(1, 2, false)]) (e := (2, 4, false)) (q' := dd_qE1) rfl hu ?_
  rintro ⟨f0_count, f0_counting, f0_blocks, f0_isStudied, f0_stemCount, f0_keyCount, f0_partCount, f0_rows, a1, a2, a3, a4, a5, a6, a7, a8, a9, a10, a11, a12, a13, a14⟩ hu
  exact nm_r (nI_1 3) (dd_u2_4 hu H)
theorem dd_u2_2 (hu : dd_K [(1, 2, false), (2, 4, false), (4, 8, false)] q T R ce (f0_count, f0_counting, f0_blocks, f0_isStudied, f0_stemCount, f0_keyCount, f0_partCount, f0_rows, a1, a2, a3, a4, a5, a6, a7, a8, a9, a10, a11, a12, a13, a14)) (H : ∀ u', dd_K dd_E1 dd_qE1 [7, 57] R ce u' → post 1 u') : wL_bundled_2 post 4 (nI 2) f0_count f0_counting f0_blocks f0_isStudied f0_stemCount f0_keyCount f0_partCount f0_rows a1 a2 a3 a4 a5 a6 a7 a8 a9 a10 a11 a12 a13 a14 := by
  refine pk_le 5 2 (fun z => absurd z (by omega)) (fun _ => ?_)
  refine dd_take (D' := [(1, 2, false), (2, 4, false)]) (e := (4, 8, false)) (q' := dd_qE1) rfl hu ?_
  rintro ⟨f0_count, f0_counting, f0_blocks, f0_isStudied, f0_stemCount, f0_keyCount, f0_partCount, f0_rows, a1, a2, a3, a4, a5, a6, a7, a8, a9, a10, a11, a12, a13, a14⟩ hu
  exact nm_r (nI_1 2) (dd_u2_3 hu H)
theorem dd_u2_1 (hu : dd_K [(1, 2, false), (2, 4, false), (4, 8, false), (8, 16, false)] q T R ce (f0_count, f0_counting, f0_blocks, f0_isStudied, f0_stemCount, f0_keyCount, f0_partCount, f0_rows, a1, a2, a3, a4, a5, a6, a7, a8, a9, a10, a11, a12, a13, a14)) (H : ∀ u', dd_K dd_E1 dd_qE1 [7, 57] R ce u' → post 1 u') : wL_bundled_2 post 5 (nI 1) f0_count f0_counting f0_blocks f0_isStudied f0_stemCount f0_keyCount f0_partCount f0_rows a1 a2 a3 a4 a5 a6 a7 a8 a9 a10 a11 a12 a13 a14 := by
  refine pk_le 5 1 (fun z => absurd z (by omega)) (fun _ => ?_)
  refine dd_take (D' := [(1, 2, false), (2, 4, false), (4, 8, false)]) (e := (8, 16, false)) (q' := dd_qE1) rfl hu ?_
  rintro ⟨f0_count, f0_counting, f0_blocks, f0_isStudied, f0_stemCount, f0_keyCount, f0_partCount, f0_rows, a1, a2, a3, a4, a5, a6, a7, a8, a9, a10, a11, a12, a13, a14⟩ hu
  exact nm_r (nI_1 1) (dd_u2_2 hu H)
theorem dd_u2_0 (hu : dd_K [(1, 2, false), (2, 4, false), (4, 8, false), (8, 16, false), (16, 32, false)] q T R ce (f0_count, f0_counting, f0_blocks, f0_isStudied, f0_stemCount, f0_keyCount, f0_partCount, f0_rows, a1, a2, a3, a4, a5, a6, a7, a8, a9, a10, a11, a12, a13, a14)) (H : ∀ u', dd_K dd_E1 dd_qE1 [7, 57] R ce u' → post 1 u') : wL_bundled_2 post 6 (nI 0) f0_count f0_counting f0_blocks f0_isStudied f0_stemCount f0_keyCount f0_partCount f0_rows a1 a2 a3 a4 a5 a6 a7 a8 a9 a10 a11 a12 a13 a14 := by
  refine pk_le 5 0 (fun z => absurd z (by omega)) (fun _ => ?_)
  refine dd_take (D' := [(1, 2, false), (2, 4, false), (4, 8, false), (8, 16, false)]) (e := (16, 32, false)) (q' := dd_qE1) rfl hu ?_
  rintro ⟨f0_count, f0_counting, f0_blocks, f0_isStudied, f0_stemCount, f0_keyCount, f0_partCount, f0_rows, a1, a2, a3, a4, a5, a6, a7, a8, a9, a10, a11, a12, a13, a14⟩ hu
  exact nm_r (nI_1 0) (dd_u2_1 hu H)
theorem dd_bundled (hu : dd_K dd_D5 q T R ce u) (H : ∀ u', dd_K dd_E1 dd_qE1 [7, 57] R ce u' → post 1 u') : wpL_bundled post u := by
  obtain ⟨f0_count, f0_counting, f0_blocks, f0_isStudied, f0_stemCount, f0_keyCount, f0_partCount, f0_rows, a1, a2, a3, a4, a5, a6, a7, a8, a9, a10, a11, a12, a13, a14⟩ := u
  exact ⟨6, dd_u2_0 hu H⟩
end
end
section
def dd_ag0 (_ _ : Nat) : Nat := 63
theorem dd_63 : ∀ c, c < 6 → (63 : Nat).testBit c = true := by decide +kernel
theorem dd_G0 (R : Nat) : dd_G R (fun _ => 0) dd_ag0 := fun r t _ _ => ⟨show 63 < 64 by decide, fun c hc => ⟨fun _ => rfl, fun _ => dd_63 c hc⟩⟩
/-- row 1 with v in the columns of s below c, else 0 -/
def dd_cw (s v c i : Nat) : Nat := if 6 ≤ i ∧ i < 6 + c ∧ s.testBit (i - 6) = true then v else 0
def dd_ag2 (s r t : Nat) : Nat := if r = 1 then (if t = 1 then 63 else dd_an 63 s) else (if t = 1 then dd_an 63 s else 63)
theorem dd_anT : ∀ s, s < 64 → ∀ c, c < 6 → ((dd_an 63 s).testBit c = true ↔ s.testBit c = false) := by decide +kernel
theorem dd_cw1 (s v c : Nat) (h : c < 6) : dd_cw s v 6 (6 * 1 + c) = if s.testBit c = true then v else 0 := by
  unfold dd_cw
  have e : 6 * 1 + c - 6 = c := by omega
  rw [e]
  by_cases g : s.testBit c = true
  · rw [if_pos ⟨by omega, by omega, g⟩, if_pos g]
  · rw [if_neg (fun z => g z.2.2), if_neg g]
theorem dd_cw0 (s v c r : Nat) (h : c < 6) (hr : ¬ r = 1) : dd_cw s v 6 (6 * r + c) = 0 := by
  unfold dd_cw
  rw [if_neg (fun z => by omega)]
theorem dd_G2 (R s v : Nat) (hs : s < 64) (hv : 0 < v) : dd_G R (dd_cw s v 6) (dd_ag2 s) := by
  intro r t _ _
  unfold dd_ag2
  by_cases h1 : r = 1
  · by_cases h2 : t = 1
    · rw [if_pos h1, if_pos h2, h1, h2]
      exact ⟨by decide, fun c hc => ⟨fun _ => rfl, fun _ => dd_63 c hc⟩⟩
    · rw [if_pos h1, if_neg h2, h1]
      refine ⟨dd_n64 _ (by omega), fun c hc => ?_⟩
      rw [dd_cw1 s v c hc, dd_cw0 s v c t hc h2, dd_anT s hs c hc]
      cases s.testBit c
      · simp
      · simp; omega
  · by_cases h2 : t = 1
    · rw [if_neg h1, if_pos h2, h2]
      refine ⟨dd_n64 _ (by omega), fun c hc => ?_⟩
      rw [dd_cw1 s v c hc, dd_cw0 s v c r hc h1, dd_anT s hs c hc]
      cases s.testBit c
      · simp
      · simp; omega
    · rw [if_neg h1, if_neg h2]
      refine ⟨by decide, fun c hc => ⟨fun _ => ?_, fun _ => dd_63 c hc⟩⟩
      rw [dd_cw0 s v c r hc h1, dd_cw0 s v c t hc h2]
def dd_agl (L : List Nat) (r t : Nat) : Nat :=
  (if dd_g L (6 * r) = dd_g L (6 * t) then 1 else 0) + (if dd_g L (6 * r + 1) = dd_g L (6 * t + 1) then 2 else 0) + (if dd_g L (6 * r + 2) = dd_g L (6 * t + 2) then 4 else 0)
    + (if dd_g L (6 * r + 3) = dd_g L (6 * t + 3) then 8 else 0) + (if dd_g L (6 * r + 4) = dd_g L (6 * t + 4) then 16 else 0) + (if dd_g L (6 * r + 5) = dd_g L (6 * t + 5) then 32 else 0)
theorem dd_Gl (L : List Nat) (R : Nat) (h : ∀ r, r < R → ∀ t, t < R → dd_agl L r t < 64 ∧ ∀ c, c < 6 → ((dd_agl L r t).testBit c = true ↔ dd_g L (6 * r + c) = dd_g L (6 * t + c))) : dd_G R (dd_g L) (dd_agl L) := fun r t hr ht => h r hr t ht
def dd_lb (s : Nat) : Nat := s &&& (64 - s)
theorem dd_lbI : ∀ s, s < 64 → nI s &&& (-(nI s)) = nI (dd_lb s) := by decide +kernel
theorem dd_lb_lt : ∀ s, s < 64 → dd_lb s < 64 := by decide +kernel
theorem dd_x1 : dd_dk (fun X => dd_nn dd_ag0 X 0) 64 0 0 = 6 := by decide +kernel
theorem dd_x2 : dd_dk (fun X => dd_nn dd_ag0 X 1) 64 0 0 = 6 := by decide +kernel
theorem dd_x3 : dd_dk (fun X => dd_nn dd_ag0 X 2) 64 0 0 = 6 := by decide +kernel
theorem dd_x4 : ∀ s, s < 64 → (dd_nn (dd_ag2 s) (0 ||| dd_an 63 s) 2 == dd_nn (dd_ag2 s) 0 2) = true := by decide +kernel
theorem dd_x5 : ∀ s, s < 64 → (dd_nn (dd_ag2 s) (dd_an 63 s ||| s) 2 == dd_nn (dd_ag2 s) (dd_an 63 s) 2) = decide (s = 0) := by decide +kernel
theorem dd_x6 : ∀ s, s < 64 → dd_kb (dd_ag2 s) (dd_an 63 s) s 2 2 0 = true := by decide +kernel
theorem dd_x7 : ∀ s, s < 64 → s ≠ 0 → dd_kb (dd_ag2 s) 0 (dd_lb s) 2 2 0 = decide (s &&& (s - 1) = 0) := by decide +kernel
theorem dd_x8 : ∀ s, s < 64 → (dd_a2 (dd_ag2 s) 2 0 []).length = 1 := by decide +kernel
theorem dd_x9 : ∀ s, s < 64 → dd_ex (fun X => dd_nn (dd_ag2 s) X 2) (dd_c dd_qE1.1) 64 0 = false := by decide +kernel
theorem dd_xa : ∀ s, s < 64 → (dd_a2 (dd_ag2 s) 6 0 []).length = if s = 0 then 1 else 2 := by decide +kernel
theorem dd_xb : ∀ s, s < 64 → (dd_nn (dd_ag2 s) (0 ||| 63) 6 == dd_nn (dd_ag2 s) 0 6) = decide (s = 0) := by decide +kernel
def dd_LA : List Nat := [0, 0, 0, 0, 0, 0, 0, 1, 0, 0, 0, 0, 0, 0, 0, 0, 1, 0, 0, 1, 0, 0, 1, 0]
theorem dd_GLA : dd_G 4 (dd_g dd_LA) (dd_agl dd_LA) := dd_Gl _ 4 (by decide +kernel)
def dd_LB : List Nat := [0, 0, 0, 0, 0, 0, 0, 1, 0, 0, 0, 0, 0, 0, 0, 0, 1, 0, 0, 0, 0, 0, 1, 0]
theorem dd_GLB : dd_G 4 (dd_g dd_LB) (dd_agl dd_LB) := dd_Gl _ 4 (by decide +kernel)
def dd_LC : List Nat := [0, 0, 0, 0, 0, 0, 0, 1, 0, 0, 0, 0, 0, 0, 0, 0, 1, 0, 0, 0, 0, 0, 7, 0]
theorem dd_GLC : dd_G 4 (dd_g dd_LC) (dd_agl dd_LC) := dd_Gl _ 4 (by decide +kernel)
theorem dd_y1 : dd_kb (dd_agl dd_LA) 0 2 4 4 0 = true := by decide +kernel
theorem dd_y2 : dd_kb (dd_agl dd_LA) 0 16 4 4 0 = true := by decide +kernel
theorem dd_y3 : (dd_nn (dd_agl dd_LA) (0 ||| 2) 4 == dd_nn (dd_agl dd_LA) 0 4) = false := by decide +kernel
theorem dd_y4 : dd_kb (dd_agl dd_LA) 2 16 4 4 0 = true := by decide +kernel
theorem dd_y5 : (dd_a2 (dd_agl dd_LA) 4 0 []).length = 3 := by decide +kernel
theorem dd_y6 : dd_kb (dd_agl dd_LB) 0 2 4 4 0 = false := by decide +kernel
theorem dd_y7 : (dd_nn (dd_agl dd_LB) (2 ||| 16) 4 == dd_nn (dd_agl dd_LB) 2 4) = false := by decide +kernel
theorem dd_y8 : dd_dk (fun X => dd_nn (dd_agl dd_LC) X 4) 64 0 0 = 4 := by decide +kernel
section
variable {f0_count f0_counting f0_blocks f0_isStudied f0_stemCount f0_keyCount f0_partCount f0_rows : Int32} {a1 a2 a3 a4 a5 a6 a7 a8 a9 a10 a11 a12 a13 a14 : Nat → Int32}
variable {q : Nat × List Nat × Nat × List Nat} {T : List Nat} {R : Nat} {ce : Nat → Nat} {u : St2} {post : Int32 → St2 → Prop}
theorem dd_v400_4 (hu : dd_K dd_E1 dd_qE1 T 4 (dd_g dd_LA) (f0_count, f0_counting, f0_blocks, f0_isStudied, f0_stemCount, f0_keyCount, f0_partCount, f0_rows, a1, a2, a3, a4, a5, a6, a7, a8, a9, a10, a11, a12, a13, a14)) (H : ∀ u', dd_K dd_E1 dd_qE1 T 4 (dd_g dd_LC) u' → post 1 u') : wL_tables_400 post 1 1 (nI 4) f0_count f0_counting f0_blocks f0_isStudied f0_stemCount f0_keyCount f0_partCount f0_rows a1 a2 a3 a4 a5 a6 a7 a8 a9 a10 a11 a12 a13 a14 := by
  refine pk_le 4 4 (fun _ => br_f (by decide) ?_) (fun z => absurd z (by omega))
  refine dd_keepsBundled (x := 0) (y := 2) dd_GLA (by omega) (by omega) hu ?_
  rintro ⟨f0_count, f0_counting, f0_blocks, f0_isStudied, f0_stemCount, f0_keyCount, f0_partCount, f0_rows, a1, a2, a3, a4, a5, a6, a7, a8, a9, a10, a11, a12, a13, a14⟩ hu
  refine br_f (dd_t1 dd_y1) ?_
  refine dd_keepsBundled (x := 0) (y := 16) dd_GLA (by omega) (by omega) hu ?_
  rintro ⟨f0_count, f0_counting, f0_blocks, f0_isStudied, f0_stemCount, f0_keyCount, f0_partCount, f0_rows, a1, a2, a3, a4, a5, a6, a7, a8, a9, a10, a11, a12, a13, a14⟩ hu
  refine br_f (dd_t1 dd_y2) ?_
  refine dd_keeps (x := 0) (y := 2) dd_GLA (by omega) (by omega) hu ?_
  rintro ⟨f0_count, f0_counting, f0_blocks, f0_isStudied, f0_stemCount, f0_keyCount, f0_partCount, f0_rows, a1, a2, a3, a4, a5, a6, a7, a8, a9, a10, a11, a12, a13, a14⟩ hu
  refine br_t (dd_f0 dd_y3) ?_
  refine dd_keepsBundled (x := 2) (y := 16) dd_GLA (by omega) (by omega) hu ?_
  rintro ⟨f0_count, f0_counting, f0_blocks, f0_isStudied, f0_stemCount, f0_keyCount, f0_partCount, f0_rows, a1, a2, a3, a4, a5, a6, a7, a8, a9, a10, a11, a12, a13, a14⟩ hu
  refine br_f (dd_t1 dd_y4) ?_
  refine dd_agreements dd_GLA hu ?_
  rintro ⟨f0_count, f0_counting, f0_blocks, f0_isStudied, f0_stemCount, f0_keyCount, f0_partCount, f0_rows, a1, a2, a3, a4, a5, a6, a7, a8, a9, a10, a11, a12, a13, a14⟩ hu
  refine br_t (dd_ve dd_y5) ?_
  refine dd_write (r := 3) (c := 1) (x := 0) (by omega) (by omega) (by omega) hu ?_
  rintro ⟨f0_count, f0_counting, f0_blocks, f0_isStudied, f0_stemCount, f0_keyCount, f0_partCount, f0_rows, a1, a2, a3, a4, a5, a6, a7, a8, a9, a10, a11, a12, a13, a14⟩ hu
  refine br_t rfl ?_
  have hu : dd_K dd_E1 dd_qE1 T 4 (dd_g dd_LB) (f0_count, f0_counting, f0_blocks, f0_isStudied, f0_stemCount, f0_keyCount, f0_partCount, f0_rows, a1, a2, a3, a4, a5, a6, a7, a8, a9, a10, a11, a12, a13, a14) := dd_K_ce hu (by decide +kernel)
  refine dd_keepsBundled (x := 0) (y := 2) dd_GLB (by omega) (by omega) hu ?_
  rintro ⟨f0_count, f0_counting, f0_blocks, f0_isStudied, f0_stemCount, f0_keyCount, f0_partCount, f0_rows, a1, a2, a3, a4, a5, a6, a7, a8, a9, a10, a11, a12, a13, a14⟩ hu
  refine br_t (dd_f0 dd_y6) ?_
  refine dd_keeps (x := 2) (y := 16) dd_GLB (by omega) (by omega) hu ?_
  rintro ⟨f0_count, f0_counting, f0_blocks, f0_isStudied, f0_stemCount, f0_keyCount, f0_partCount, f0_rows, a1, a2, a3, a4, a5, a6, a7, a8, a9, a10, a11, a12, a13, a14⟩ hu
  refine br_t (dd_f0 dd_y7) ?_
  refine dd_write (r := 3) (c := 4) (x := 7) (by omega) (by omega) (by omega) hu ?_
  rintro ⟨f0_count, f0_counting, f0_blocks, f0_isStudied, f0_stemCount, f0_keyCount, f0_partCount, f0_rows, a1, a2, a3, a4, a5, a6, a7, a8, a9, a10, a11, a12, a13, a14⟩ hu
  refine br_t rfl ?_
  have hu : dd_K dd_E1 dd_qE1 T 4 (dd_g dd_LC) (f0_count, f0_counting, f0_blocks, f0_isStudied, f0_stemCount, f0_keyCount, f0_partCount, f0_rows, a1, a2, a3, a4, a5, a6, a7, a8, a9, a10, a11, a12, a13, a14) := dd_K_ce hu (by decide +kernel)
  refine dd_discovered dd_GLC hu ?_
  rintro ⟨f0_count, f0_counting, f0_blocks, f0_isStudied, f0_stemCount, f0_keyCount, f0_partCount, f0_rows, a1, a2, a3, a4, a5, a6, a7, a8, a9, a10, a11, a12, a13, a14⟩ hu
  refine br_t (dd_ve dd_y8) ?_
  exact H _ hu
theorem dd_v400_3 (hu : dd_K dd_E1 dd_qE1 T 4 (dd_g [0, 0, 0, 0, 0, 0, 0, 1, 0, 0, 0, 0, 0, 0, 0, 0, 1, 0, 0, 0, 0, 0, 0, 0]) (f0_count, f0_counting, f0_blocks, f0_isStudied, f0_stemCount, f0_keyCount, f0_partCount, f0_rows, a1, a2, a3, a4, a5, a6, a7, a8, a9, a10, a11, a12, a13, a14)) (H : ∀ u', dd_K dd_E1 dd_qE1 T 4 (dd_g dd_LC) u' → post 1 u') : wL_tables_400 post 2 1 (nI 3) f0_count f0_counting f0_blocks f0_isStudied f0_stemCount f0_keyCount f0_partCount f0_rows a1 a2 a3 a4 a5 a6 a7 a8 a9 a10 a11 a12 a13 a14 := by
  refine pk_le 4 3 (fun z => absurd z (by omega)) (fun _ => br_f (by decide) ?_)
  rw [show nI 3 &&& 1 = nI 1 by decide]
  refine dd_write (r := 3) (c := 1) (x := 1) (by omega) (by omega) (by omega) hu ?_
  rintro ⟨f0_count, f0_counting, f0_blocks, f0_isStudied, f0_stemCount, f0_keyCount, f0_partCount, f0_rows, a1, a2, a3, a4, a5, a6, a7, a8, a9, a10, a11, a12, a13, a14⟩ hu
  refine br_t rfl ?_
  have hu : dd_K dd_E1 dd_qE1 T 4 (dd_g [0, 0, 0, 0, 0, 0, 0, 1, 0, 0, 0, 0, 0, 0, 0, 0, 1, 0, 0, 1, 0, 0, 0, 0]) (f0_count, f0_counting, f0_blocks, f0_isStudied, f0_stemCount, f0_keyCount, f0_partCount, f0_rows, a1, a2, a3, a4, a5, a6, a7, a8, a9, a10, a11, a12, a13, a14) := dd_K_ce hu (by decide +kernel)
  rw [show nI 3 >>> ((1 : Int32) &&& 31) = nI 1 by decide]
  refine dd_write (r := 3) (c := 4) (x := 1) (by omega) (by omega) (by omega) hu ?_
  rintro ⟨f0_count, f0_counting, f0_blocks, f0_isStudied, f0_stemCount, f0_keyCount, f0_partCount, f0_rows, a1, a2, a3, a4, a5, a6, a7, a8, a9, a10, a11, a12, a13, a14⟩ hu
  refine br_t rfl ?_
  have hu : dd_K dd_E1 dd_qE1 T 4 (dd_g dd_LA) (f0_count, f0_counting, f0_blocks, f0_isStudied, f0_stemCount, f0_keyCount, f0_partCount, f0_rows, a1, a2, a3, a4, a5, a6, a7, a8, a9, a10, a11, a12, a13, a14) := dd_K_ce hu (by decide +kernel)
  exact nm_r (nI_1 3) (dd_v400_4 hu H)
theorem dd_v400_2 (hu : dd_K dd_E1 dd_qE1 T 4 (dd_g [0, 0, 0, 0, 0, 0, 0, 1, 0, 0, 0, 0, 0, 0, 0, 0, 0, 0, 0, 0, 0, 0, 0, 0]) (f0_count, f0_counting, f0_blocks, f0_isStudied, f0_stemCount, f0_keyCount, f0_partCount, f0_rows, a1, a2, a3, a4, a5, a6, a7, a8, a9, a10, a11, a12, a13, a14)) (H : ∀ u', dd_K dd_E1 dd_qE1 T 4 (dd_g dd_LC) u' → post 1 u') : wL_tables_400 post 3 1 (nI 2) f0_count f0_counting f0_blocks f0_isStudied f0_stemCount f0_keyCount f0_partCount f0_rows a1 a2 a3 a4 a5 a6 a7 a8 a9 a10 a11 a12 a13 a14 := by
  refine pk_le 4 2 (fun z => absurd z (by omega)) (fun _ => br_f (by decide) ?_)
  rw [show nI 2 &&& 1 = nI 0 by decide]
  refine dd_write (r := 2) (c := 1) (x := 0) (by omega) (by omega) (by omega) hu ?_
  rintro ⟨f0_count, f0_counting, f0_blocks, f0_isStudied, f0_stemCount, f0_keyCount, f0_partCount, f0_rows, a1, a2, a3, a4, a5, a6, a7, a8, a9, a10, a11, a12, a13, a14⟩ hu
  refine br_t rfl ?_
  have hu : dd_K dd_E1 dd_qE1 T 4 (dd_g [0, 0, 0, 0, 0, 0, 0, 1, 0, 0, 0, 0, 0, 0, 0, 0, 0, 0, 0, 0, 0, 0, 0, 0]) (f0_count, f0_counting, f0_blocks, f0_isStudied, f0_stemCount, f0_keyCount, f0_partCount, f0_rows, a1, a2, a3, a4, a5, a6, a7, a8, a9, a10, a11, a12, a13, a14) := dd_K_ce hu (by decide +kernel)
  rw [show nI 2 >>> ((1 : Int32) &&& 31) = nI 1 by decide]
  refine dd_write (r := 2) (c := 4) (x := 1) (by omega) (by omega) (by omega) hu ?_
  rintro ⟨f0_count, f0_counting, f0_blocks, f0_isStudied, f0_stemCount, f0_keyCount, f0_partCount, f0_rows, a1, a2, a3, a4, a5, a6, a7, a8, a9, a10, a11, a12, a13, a14⟩ hu
  refine br_t rfl ?_
  have hu : dd_K dd_E1 dd_qE1 T 4 (dd_g [0, 0, 0, 0, 0, 0, 0, 1, 0, 0, 0, 0, 0, 0, 0, 0, 1, 0, 0, 0, 0, 0, 0, 0]) (f0_count, f0_counting, f0_blocks, f0_isStudied, f0_stemCount, f0_keyCount, f0_partCount, f0_rows, a1, a2, a3, a4, a5, a6, a7, a8, a9, a10, a11, a12, a13, a14) := dd_K_ce hu (by decide +kernel)
  exact nm_r (nI_1 2) (dd_v400_3 hu H)
theorem dd_v400_1 (hu : dd_K dd_E1 dd_qE1 T 4 (dd_g [0, 0, 0, 0, 0, 0, 0, 0, 0, 0, 0, 0, 0, 0, 0, 0, 0, 0, 0, 0, 0, 0, 0, 0]) (f0_count, f0_counting, f0_blocks, f0_isStudied, f0_stemCount, f0_keyCount, f0_partCount, f0_rows, a1, a2, a3, a4, a5, a6, a7, a8, a9, a10, a11, a12, a13, a14)) (H : ∀ u', dd_K dd_E1 dd_qE1 T 4 (dd_g dd_LC) u' → post 1 u') : wL_tables_400 post 4 1 (nI 1) f0_count f0_counting f0_blocks f0_isStudied f0_stemCount f0_keyCount f0_partCount f0_rows a1 a2 a3 a4 a5 a6 a7 a8 a9 a10 a11 a12 a13 a14 := by
  refine pk_le 4 1 (fun z => absurd z (by omega)) (fun _ => br_f (by decide) ?_)
  rw [show nI 1 &&& 1 = nI 1 by decide]
  refine dd_write (r := 1) (c := 1) (x := 1) (by omega) (by omega) (by omega) hu ?_
  rintro ⟨f0_count, f0_counting, f0_blocks, f0_isStudied, f0_stemCount, f0_keyCount, f0_partCount, f0_rows, a1, a2, a3, a4, a5, a6, a7, a8, a9, a10, a11, a12, a13, a14⟩ hu
  refine br_t rfl ?_
  have hu : dd_K dd_E1 dd_qE1 T 4 (dd_g [0, 0, 0, 0, 0, 0, 0, 1, 0, 0, 0, 0, 0, 0, 0, 0, 0, 0, 0, 0, 0, 0, 0, 0]) (f0_count, f0_counting, f0_blocks, f0_isStudied, f0_stemCount, f0_keyCount, f0_partCount, f0_rows, a1, a2, a3, a4, a5, a6, a7, a8, a9, a10, a11, a12, a13, a14) := dd_K_ce hu (by decide +kernel)
  rw [show nI 1 >>> ((1 : Int32) &&& 31) = nI 0 by decide]
  refine dd_write (r := 1) (c := 4) (x := 0) (by omega) (by omega) (by omega) hu ?_
  rintro ⟨f0_count, f0_counting, f0_blocks, f0_isStudied, f0_stemCount, f0_keyCount, f0_partCount, f0_rows, a1, a2, a3, a4, a5, a6, a7, a8, a9, a10, a11, a12, a13, a14⟩ hu
  refine br_t rfl ?_
  have hu : dd_K dd_E1 dd_qE1 T 4 (dd_g [0, 0, 0, 0, 0, 0, 0, 1, 0, 0, 0, 0, 0, 0, 0, 0, 0, 0, 0, 0, 0, 0, 0, 0]) (f0_count, f0_counting, f0_blocks, f0_isStudied, f0_stemCount, f0_keyCount, f0_partCount, f0_rows, a1, a2, a3, a4, a5, a6, a7, a8, a9, a10, a11, a12, a13, a14) := dd_K_ce hu (by decide +kernel)
  exact nm_r (nI_1 1) (dd_v400_2 hu H)
theorem dd_v400_0 (hu : dd_K dd_E1 dd_qE1 T 4 (dd_g [0, 0, 0, 0, 0, 0, 0, 0, 0, 0, 0, 0, 0, 0, 0, 0, 0, 0, 0, 0, 0, 0, 0, 0]) (f0_count, f0_counting, f0_blocks, f0_isStudied, f0_stemCount, f0_keyCount, f0_partCount, f0_rows, a1, a2, a3, a4, a5, a6, a7, a8, a9, a10, a11, a12, a13, a14)) (H : ∀ u', dd_K dd_E1 dd_qE1 T 4 (dd_g dd_LC) u' → post 1 u') : wL_tables_400 post 5 1 (nI 0) f0_count f0_counting f0_blocks f0_isStudied f0_stemCount f0_keyCount f0_partCount f0_rows a1 a2 a3 a4 a5 a6 a7 a8 a9 a10 a11 a12 a13 a14 := by
  refine pk_le 4 0 (fun z => absurd z (by omega)) (fun _ => br_f (by decide) ?_)
  rw [show nI 0 &&& 1 = nI 0 by decide]
  refine dd_write (r := 0) (c := 1) (x := 0) (by omega) (by omega) (by omega) hu ?_
  rintro ⟨f0_count, f0_counting, f0_blocks, f0_isStudied, f0_stemCount, f0_keyCount, f0_partCount, f0_rows, a1, a2, a3, a4, a5, a6, a7, a8, a9, a10, a11, a12, a13, a14⟩ hu
  refine br_t rfl ?_
  have hu : dd_K dd_E1 dd_qE1 T 4 (dd_g [0, 0, 0, 0, 0, 0, 0, 0, 0, 0, 0, 0, 0, 0, 0, 0, 0, 0, 0, 0, 0, 0, 0, 0]) (f0_count, f0_counting, f0_blocks, f0_isStudied, f0_stemCount, f0_keyCount, f0_partCount, f0_rows, a1, a2, a3, a4, a5, a6, a7, a8, a9, a10, a11, a12, a13, a14) := dd_K_ce hu (by decide +kernel)
  rw [show nI 0 >>> ((1 : Int32) &&& 31) = nI 0 by decide]
  refine dd_write (r := 0) (c := 4) (x := 0) (by omega) (by omega) (by omega) hu ?_
  rintro ⟨f0_count, f0_counting, f0_blocks, f0_isStudied, f0_stemCount, f0_keyCount, f0_partCount, f0_rows, a1, a2, a3, a4, a5, a6, a7, a8, a9, a10, a11, a12, a13, a14⟩ hu
  refine br_t rfl ?_
  have hu : dd_K dd_E1 dd_qE1 T 4 (dd_g [0, 0, 0, 0, 0, 0, 0, 0, 0, 0, 0, 0, 0, 0, 0, 0, 0, 0, 0, 0, 0, 0, 0, 0]) (f0_count, f0_counting, f0_blocks, f0_isStudied, f0_stemCount, f0_keyCount, f0_partCount, f0_rows, a1, a2, a3, a4, a5, a6, a7, a8, a9, a10, a11, a12, a13, a14) := dd_K_ce hu (by decide +kernel)
  exact nm_r (nI_1 0) (dd_v400_1 hu H)
theorem dd_v351 (hu : dd_K dd_E1 dd_qE1 T R ce (f0_count, f0_counting, f0_blocks, f0_isStudied, f0_stemCount, f0_keyCount, f0_partCount, f0_rows, a1, a2, a3, a4, a5, a6, a7, a8, a9, a10, a11, a12, a13, a14)) (H : ∀ u', dd_K dd_E1 dd_qE1 T 4 (dd_g dd_LC) u' → post 1 u') : wL_tables_351 post 1 f0_count f0_counting f0_blocks f0_isStudied f0_stemCount f0_keyCount f0_partCount f0_rows a1 a2 a3 a4 a5 a6 a7 a8 a9 a10 a11 a12 a13 a14 := by
  refine dd_blank (fun _ => 0) hu ?_
  rintro ⟨f0_count, f0_counting, f0_blocks, f0_isStudied, f0_stemCount, f0_keyCount, f0_partCount, f0_rows, a1, a2, a3, a4, a5, a6, a7, a8, a9, a10, a11, a12, a13, a14⟩ hu
  refine br_f (by decide) ?_
  refine dd_row (by omega) hu ?_
  rintro ⟨f0_count, f0_counting, f0_blocks, f0_isStudied, f0_stemCount, f0_keyCount, f0_partCount, f0_rows, a1, a2, a3, a4, a5, a6, a7, a8, a9, a10, a11, a12, a13, a14⟩ hu
  refine br_t rfl ?_
  refine dd_row (by omega) hu ?_
  rintro ⟨f0_count, f0_counting, f0_blocks, f0_isStudied, f0_stemCount, f0_keyCount, f0_partCount, f0_rows, a1, a2, a3, a4, a5, a6, a7, a8, a9, a10, a11, a12, a13, a14⟩ hu
  refine br_t rfl ?_
  refine dd_row (by omega) hu ?_
  rintro ⟨f0_count, f0_counting, f0_blocks, f0_isStudied, f0_stemCount, f0_keyCount, f0_partCount, f0_rows, a1, a2, a3, a4, a5, a6, a7, a8, a9, a10, a11, a12, a13, a14⟩ hu
  refine br_t rfl ?_
  refine dd_row (by omega) hu ?_
  rintro ⟨f0_count, f0_counting, f0_blocks, f0_isStudied, f0_stemCount, f0_keyCount, f0_partCount, f0_rows, a1, a2, a3, a4, a5, a6, a7, a8, a9, a10, a11, a12, a13, a14⟩ hu
  refine br_t rfl ?_
  have hu : dd_K dd_E1 dd_qE1 T 4 (dd_g [0, 0, 0, 0, 0, 0, 0, 0, 0, 0, 0, 0, 0, 0, 0, 0, 0, 0, 0, 0, 0, 0, 0, 0]) (f0_count, f0_counting, f0_blocks, f0_isStudied, f0_stemCount, f0_keyCount, f0_partCount, f0_rows, a1, a2, a3, a4, a5, a6, a7, a8, a9, a10, a11, a12, a13, a14) := dd_K_ce hu (by decide +kernel)
  exact ⟨5, dd_v400_0 hu H⟩
theorem dd_v343 {z z' : Int32} (hz : z' = z) (hu : dd_K dd_E1 dd_qE1 T R ce (f0_count, f0_counting, f0_blocks, f0_isStudied, f0_stemCount, f0_keyCount, f0_partCount, f0_rows, a1, a2, a3, a4, a5, a6, a7, a8, a9, a10, a11, a12, a13, a14)) (H : ∀ u', dd_K dd_E1 dd_qE1 T 4 (dd_g dd_LC) u' → post 1 u') : wL_tables_343 post z z' f0_count f0_counting f0_blocks f0_isStudied f0_stemCount f0_keyCount f0_partCount f0_rows a1 a2 a3 a4 a5 a6 a7 a8 a9 a10 a11 a12 a13 a14 := br_t hz (dd_v351 hu H)
variable {s v : Nat}
theorem dd_v324 (hs : s < 64) (hv : 0 < v) {z z' : Int32} (hz : z' = z) (hu : dd_K dd_E1 dd_qE1 T 6 (dd_cw s v 6) (f0_count, f0_counting, f0_blocks, f0_isStudied, f0_stemCount, f0_keyCount, f0_partCount, f0_rows, a1, a2, a3, a4, a5, a6, a7, a8, a9, a10, a11, a12, a13, a14)) (H : ∀ u', dd_K dd_E1 dd_qE1 T 4 (dd_g dd_LC) u' → post 1 u') : wL_tables_324 post (nI s) z z' f0_count f0_counting f0_blocks f0_isStudied f0_stemCount f0_keyCount f0_partCount f0_rows a1 a2 a3 a4 a5 a6 a7 a8 a9 a10 a11 a12 a13 a14 := by
  refine br_t hz ?_
  refine dd_keeps (x := 0) (y := 63) (dd_G2 6 s v hs hv) (by omega) (by omega) hu ?_
  rintro ⟨f0_count, f0_counting, f0_blocks, f0_isStudied, f0_stemCount, f0_keyCount, f0_partCount, f0_rows, a1, a2, a3, a4, a5, a6, a7, a8, a9, a10, a11, a12, a13, a14⟩ hu
  refine pk_eq s 0 (fun h => dd_v343 ?_ hu H) (fun h => dd_v343 ?_ hu H)
  · rw [dd_xb s hs, decide_eq_true h]; rfl
  · rw [dd_xb s hs, decide_eq_false h]; rfl
theorem dd_v266_6 (hs : s < 64) (hv : 0 < v) (hu : dd_K dd_E1 dd_qE1 T 6 (dd_cw s v 6) (f0_count, f0_counting, f0_blocks, f0_isStudied, f0_stemCount, f0_keyCount, f0_partCount, f0_rows, a1, a2, a3, a4, a5, a6, a7, a8, a9, a10, a11, a12, a13, a14)) (H : ∀ u', dd_K dd_E1 dd_qE1 T 4 (dd_g dd_LC) u' → post 1 u') : wL_tables_266 post (nI s) 1 1 (nI 6) f0_count f0_counting f0_blocks f0_isStudied f0_stemCount f0_keyCount f0_partCount f0_rows a1 a2 a3 a4 a5 a6 a7 a8 a9 a10 a11 a12 a13 a14 := by
  refine pk_le 6 6 (fun _ => br_f (by decide) ?_) (fun z => absurd z (by omega))
  refine dd_row_full hu ?_
  rintro ⟨f0_count, f0_counting, f0_blocks, f0_isStudied, f0_stemCount, f0_keyCount, f0_partCount, f0_rows, a1, a2, a3, a4, a5, a6, a7, a8, a9, a10, a11, a12, a13, a14⟩ hu
  refine br_t rfl ?_
  refine dd_agreements (dd_G2 6 s v hs hv) hu ?_
  rintro ⟨f0_count, f0_counting, f0_blocks, f0_isStudied, f0_stemCount, f0_keyCount, f0_partCount, f0_rows, a1, a2, a3, a4, a5, a6, a7, a8, a9, a10, a11, a12, a13, a14⟩ hu
  refine pk_eq s 0 (fun h => dd_v324 hs hv ?_ hu H) (fun h => dd_v324 hs hv ?_ hu H)
  · rw [dd_xa s hs, if_pos h]; rfl
  · rw [dd_xa s hs, if_neg h]; rfl
theorem dd_cwr (s v R i : Nat) (hR : 2 ≤ R) : (if i < 6 * R then dd_cw s v 6 i else 0) = dd_cw s v 6 i := by
  split
  · rfl
  · unfold dd_cw
    rw [if_neg (fun z => by omega)]
theorem dd_v266_5 (hs : s < 64) (hv : 0 < v) (hu : dd_K dd_E1 dd_qE1 T 5 (dd_cw s v 6) (f0_count, f0_counting, f0_blocks, f0_isStudied, f0_stemCount, f0_keyCount, f0_partCount, f0_rows, a1, a2, a3, a4, a5, a6, a7, a8, a9, a10, a11, a12, a13, a14)) (H : ∀ u', dd_K dd_E1 dd_qE1 T 4 (dd_g dd_LC) u' → post 1 u') : wL_tables_266 post (nI s) 2 1 (nI 5) f0_count f0_counting f0_blocks f0_isStudied f0_stemCount f0_keyCount f0_partCount f0_rows a1 a2 a3 a4 a5 a6 a7 a8 a9 a10 a11 a12 a13 a14 := by
  refine pk_le 6 5 (fun z => absurd z (by omega)) (fun _ => br_f (by decide) ?_)
  refine dd_row (by omega) hu ?_
  rintro ⟨f0_count, f0_counting, f0_blocks, f0_isStudied, f0_stemCount, f0_keyCount, f0_partCount, f0_rows, a1, a2, a3, a4, a5, a6, a7, a8, a9, a10, a11, a12, a13, a14⟩ hu
  refine br_t rfl ?_
  exact nm_r (nI_1 5) (dd_v266_6 hs hv (dd_K_ce hu (fun i _ => dd_cwr s v 5 i (by omega))) H)
theorem dd_v266_4 (hs : s < 64) (hv : 0 < v) (hu : dd_K dd_E1 dd_qE1 T 4 (dd_cw s v 6) (f0_count, f0_counting, f0_blocks, f0_isStudied, f0_stemCount, f0_keyCount, f0_partCount, f0_rows, a1, a2, a3, a4, a5, a6, a7, a8, a9, a10, a11, a12, a13, a14)) (H : ∀ u', dd_K dd_E1 dd_qE1 T 4 (dd_g dd_LC) u' → post 1 u') : wL_tables_266 post (nI s) 3 1 (nI 4) f0_count f0_counting f0_blocks f0_isStudied f0_stemCount f0_keyCount f0_partCount f0_rows a1 a2 a3 a4 a5 a6 a7 a8 a9 a10 a11 a12 a13 a14 := by
  refine pk_le 6 4 (fun z => absurd z (by omega)) (fun _ => br_f (by decide) ?_)
  refine dd_row (by omega) hu ?_
  rintro ⟨f0_count, f0_counting, f0_blocks, f0_isStudied, f0_stemCount, f0_keyCount, f0_partCount, f0_rows, a1, a2, a3, a4, a5, a6, a7, a8, a9, a10, a11, a12, a13, a14⟩ hu
  refine br_t rfl ?_
  exact nm_r (nI_1 4) (dd_v266_5 hs hv (dd_K_ce hu (fun i _ => dd_cwr s v 4 i (by omega))) H)
theorem dd_v266_3 (hs : s < 64) (hv : 0 < v) (hu : dd_K dd_E1 dd_qE1 T 3 (dd_cw s v 6) (f0_count, f0_counting, f0_blocks, f0_isStudied, f0_stemCount, f0_keyCount, f0_partCount, f0_rows, a1, a2, a3, a4, a5, a6, a7, a8, a9, a10, a11, a12, a13, a14)) (H : ∀ u', dd_K dd_E1 dd_qE1 T 4 (dd_g dd_LC) u' → post 1 u') : wL_tables_266 post (nI s) 4 1 (nI 3) f0_count f0_counting f0_blocks f0_isStudied f0_stemCount f0_keyCount f0_partCount f0_rows a1 a2 a3 a4 a5 a6 a7 a8 a9 a10 a11 a12 a13 a14 := by
  refine pk_le 6 3 (fun z => absurd z (by omega)) (fun _ => br_f (by decide) ?_)
  refine dd_row (by omega) hu ?_
  rintro ⟨f0_count, f0_counting, f0_blocks, f0_isStudied, f0_stemCount, f0_keyCount, f0_partCount, f0_rows, a1, a2, a3, a4, a5, a6, a7, a8, a9, a10, a11, a12, a13, a14⟩ hu
  refine br_t rfl ?_
  exact nm_r (nI_1 3) (dd_v266_4 hs hv (dd_K_ce hu (fun i _ => dd_cwr s v 3 i (by omega))) H)
theorem dd_v266_2 (hs : s < 64) (hv : 0 < v) (hu : dd_K dd_E1 dd_qE1 T 2 (dd_cw s v 6) (f0_count, f0_counting, f0_blocks, f0_isStudied, f0_stemCount, f0_keyCount, f0_partCount, f0_rows, a1, a2, a3, a4, a5, a6, a7, a8, a9, a10, a11, a12, a13, a14)) (H : ∀ u', dd_K dd_E1 dd_qE1 T 4 (dd_g dd_LC) u' → post 1 u') : wL_tables_266 post (nI s) 5 1 (nI 2) f0_count f0_counting f0_blocks f0_isStudied f0_stemCount f0_keyCount f0_partCount f0_rows a1 a2 a3 a4 a5 a6 a7 a8 a9 a10 a11 a12 a13 a14 := by
  refine pk_le 6 2 (fun z => absurd z (by omega)) (fun _ => br_f (by decide) ?_)
  refine dd_row (by omega) hu ?_
  rintro ⟨f0_count, f0_counting, f0_blocks, f0_isStudied, f0_stemCount, f0_keyCount, f0_partCount, f0_rows, a1, a2, a3, a4, a5, a6, a7, a8, a9, a10, a11, a12, a13, a14⟩ hu
  refine br_t rfl ?_
  exact nm_r (nI_1 2) (dd_v266_3 hs hv (dd_K_ce hu (fun i _ => dd_cwr s v 2 i (by omega))) H)
theorem dd_v219 (hs : s < 64) (hv : 0 < v) (hu : dd_K dd_E1 dd_qE1 T 2 (dd_cw s v 6) (f0_count, f0_counting, f0_blocks, f0_isStudied, f0_stemCount, f0_keyCount, f0_partCount, f0_rows, a1, a2, a3, a4, a5, a6, a7, a8, a9, a10, a11, a12, a13, a14)) (H : ∀ u', dd_K dd_E1 dd_qE1 T 4 (dd_g dd_LC) u' → post 1 u') : wL_tables_219 post (nI s) f0_count f0_counting f0_blocks f0_isStudied f0_stemCount f0_keyCount f0_partCount f0_rows a1 a2 a3 a4 a5 a6 a7 a8 a9 a10 a11 a12 a13 a14 := by
  refine dd_agreements (dd_G2 2 s v hs hv) hu ?_
  rintro ⟨f0_count, f0_counting, f0_blocks, f0_isStudied, f0_stemCount, f0_keyCount, f0_partCount, f0_rows, a1, a2, a3, a4, a5, a6, a7, a8, a9, a10, a11, a12, a13, a14⟩ hu
  refine br_t (dd_ve (dd_x8 s hs)) ?_
  refine dd_write_r (r := 2) (by omega) (by omega) hu ?_
  rintro ⟨f0_count, f0_counting, f0_blocks, f0_isStudied, f0_stemCount, f0_keyCount, f0_partCount, f0_rows, a1, a2, a3, a4, a5, a6, a7, a8, a9, a10, a11, a12, a13, a14⟩ hu
  refine br_t rfl ?_
  refine dd_write_c (r := 0) (by omega) hu ?_
  rintro ⟨f0_count, f0_counting, f0_blocks, f0_isStudied, f0_stemCount, f0_keyCount, f0_partCount, f0_rows, a1, a2, a3, a4, a5, a6, a7, a8, a9, a10, a11, a12, a13, a14⟩ hu
  refine br_t rfl ?_
  refine dd_exact dd_hE1 (dd_G2 2 s v hs hv) hu ?_
  rintro ⟨f0_count, f0_counting, f0_blocks, f0_isStudied, f0_stemCount, f0_keyCount, f0_partCount, f0_rows, a1, a2, a3, a4, a5, a6, a7, a8, a9, a10, a11, a12, a13, a14⟩ hu
  refine br_t (dd_f0 (dd_x9 s hs)) ?_
  exact ⟨5, dd_v266_2 hs hv hu H⟩
theorem dd_v177 (hs : s < 64) (hv : 0 < v) {z z' : Int32} (hz : z' = z) (hu : dd_K dd_E1 dd_qE1 T 2 (dd_cw s v 6) (f0_count, f0_counting, f0_blocks, f0_isStudied, f0_stemCount, f0_keyCount, f0_partCount, f0_rows, a1, a2, a3, a4, a5, a6, a7, a8, a9, a10, a11, a12, a13, a14)) (H : ∀ u', dd_K dd_E1 dd_qE1 T 4 (dd_g dd_LC) u' → post 1 u') : wL_tables_177 post (nI s) (nI (dd_an 63 s)) z z' f0_count f0_counting f0_blocks f0_isStudied f0_stemCount f0_keyCount f0_partCount f0_rows a1 a2 a3 a4 a5 a6 a7 a8 a9 a10 a11 a12 a13 a14 := by
  refine br_t hz ?_
  refine dd_keepsBundled (dd_G2 2 s v hs hv) (dd_n64 _ (by omega)) hs hu ?_
  rintro ⟨f0_count, f0_counting, f0_blocks, f0_isStudied, f0_stemCount, f0_keyCount, f0_partCount, f0_rows, a1, a2, a3, a4, a5, a6, a7, a8, a9, a10, a11, a12, a13, a14⟩ hu
  refine br_f (dd_t1 (dd_x6 s hs)) ?_
  refine pk_eq s 0 (fun h => dd_v219 hs hv hu H) (fun h => ?_)
  rw [dd_lbI s hs]
  refine dd_keepsBundled (x := 0) (dd_G2 2 s v hs hv) (by omega) (dd_lb_lt s hs) hu ?_
  rintro ⟨f0_count, f0_counting, f0_blocks, f0_isStudied, f0_stemCount, f0_keyCount, f0_partCount, f0_rows, a1, a2, a3, a4, a5, a6, a7, a8, a9, a10, a11, a12, a13, a14⟩ hu
  refine ek_if (d := s &&& (s - 1) = 0) (by rw [dd_m1 (by omega), dd_and]; exact dd_z (dd_31 (dd_a64 _ hs))) (fun h' => br_t ?_ (dd_v219 hs hv hu H)) (fun h' => br_t ?_ (dd_v219 hs hv hu H))
  · rw [dd_x7 s hs h, decide_eq_true h']; rfl
  · rw [dd_x7 s hs h, decide_eq_false h']; rfl
theorem dd_v96 (hs : s < 64) (hv : 0 < v) (hv' : v < 2 ^ 31) (H : ∀ u', dd_K dd_E1 dd_qE1 T 4 (dd_g dd_LC) u' → post 1 u') : ∀ m c (f0_count : Int32) (f0_counting : Int32) (f0_blocks : Int32) (f0_isStudied : Int32) (f0_stemCount : Int32) (f0_keyCount : Int32) (f0_partCount : Int32) (f0_rows : Int32) (a1 : Nat → Int32) (a2 : Nat → Int32) (a3 : Nat → Int32) (a4 : Nat → Int32) (a5 : Nat → Int32) (a6 : Nat → Int32) (a7 : Nat → Int32) (a8 : Nat → Int32) (a9 : Nat → Int32) (a10 : Nat → Int32) (a11 : Nat → Int32) (a12 : Nat → Int32) (a13 : Nat → Int32) (a14 : Nat → Int32), c + m = 6 → dd_K dd_E1 dd_qE1 T 2 (dd_cw s v c) (f0_count, f0_counting, f0_blocks, f0_isStudied, f0_stemCount, f0_keyCount, f0_partCount, f0_rows, a1, a2, a3, a4, a5, a6, a7, a8, a9, a10, a11, a12, a13, a14) →
    wL_tables_96 post (nI s) (nI v) (m + 1) 1 (nI c) f0_count f0_counting f0_blocks f0_isStudied f0_stemCount f0_keyCount f0_partCount f0_rows a1 a2 a3 a4 a5 a6 a7 a8 a9 a10 a11 a12 a13 a14 := by
  intro m
  induction m with
  | zero =>
    intro c f0_count f0_counting f0_blocks f0_isStudied f0_stemCount f0_keyCount f0_partCount f0_rows a1 a2 a3 a4 a5 a6 a7 a8 a9 a10 a11 a12 a13 a14 hc hu
    have hc' : c = 6 := by omega
    subst hc'
    refine pk_le 6 6 (fun _ => nm_r (dd_andn 63 s) (br_f (by decide) ?_)) (fun z => absurd z (by omega))
    refine dd_keeps (x := 0) (dd_G2 2 s v hs hv) (by omega) (dd_n64 _ (by omega)) hu ?_
    rintro ⟨f0_count, f0_counting, f0_blocks, f0_isStudied, f0_stemCount, f0_keyCount, f0_partCount, f0_rows, a1, a2, a3, a4, a5, a6, a7, a8, a9, a10, a11, a12, a13, a14⟩ hu
    refine br_f (dd_t1 (dd_x4 s hs)) ?_
    refine dd_keeps (dd_G2 2 s v hs hv) (dd_n64 _ (by omega)) hs hu ?_
    rintro ⟨f0_count, f0_counting, f0_blocks, f0_isStudied, f0_stemCount, f0_keyCount, f0_partCount, f0_rows, a1, a2, a3, a4, a5, a6, a7, a8, a9, a10, a11, a12, a13, a14⟩ hu
    refine pk_eq s 0 (fun h => dd_v177 hs hv ?_ hu H) (fun h => dd_v177 hs hv ?_ hu H)
    · rw [dd_x5 s hs, decide_eq_true h]; rfl
    · rw [dd_x5 s hs, decide_eq_false h]; rfl
  | succ m ih =>
    intro c f0_count f0_counting f0_blocks f0_isStudied f0_stemCount f0_keyCount f0_partCount f0_rows a1 a2 a3 a4 a5 a6 a7 a8 a9 a10 a11 a12 a13 a14 hc hu
    refine pk_le 6 c (fun z => absurd z (by omega)) (fun _ => br_f (by decide) (dd_bb0 s c (fun h => nm_r (nI_1 c) ?_) (fun h => ?_) (dd_31 hs) (by omega)))
    · refine ih (c + 1) _ _ _ _ _ _ _ _ _ _ _ _ _ _ _ _ _ _ _ _ _ _ (by omega) (dd_K_ce hu (fun i hi => ?_))
      unfold dd_cw
      by_cases e : 6 ≤ i ∧ i < 6 + c ∧ s.testBit (i - 6) = true
      · rw [if_pos e, if_pos ⟨e.1, by omega, e.2.2⟩]
      · rw [if_neg e, if_neg (fun z => ?_)]
        by_cases e' : i = 6 + c
        · rw [e', Nat.add_sub_cancel_left, h] at z
          exact absurd z.2.2 (by decide)
        · exact e ⟨z.1, by omega, z.2.2⟩
    · refine dd_write (r := 1) (c := c) (x := v) (by omega) (by omega) hv' hu ?_
      rintro ⟨f0_count, f0_counting, f0_blocks, f0_isStudied, f0_stemCount, f0_keyCount, f0_partCount, f0_rows, a1, a2, a3, a4, a5, a6, a7, a8, a9, a10, a11, a12, a13, a14⟩ hu
      refine br_t ?_ (nm_r (nI_1 c) (ih (c + 1) _ _ _ _ _ _ _ _ _ _ _ _ _ _ _ _ _ _ _ _ _ _ (by omega) (dd_K_ce hu (fun i hi => ?_))))
      · unfold dd_cw
        rw [if_neg (fun z => by omega)]
        rfl
      · unfold dd_cw
        by_cases e' : i = 6 * 1 + c
        · rw [if_pos e', if_pos ⟨by omega, by omega, by rw [show i - 6 = c by omega]; exact h⟩]
        · rw [if_neg e']
          by_cases e : 6 ≤ i ∧ i < 6 + c ∧ s.testBit (i - 6) = true
          · rw [if_pos e, if_pos ⟨e.1, by omega, e.2.2⟩]
          · rw [if_neg e, if_neg (fun z => e ⟨z.1, by omega, z.2.2⟩)]
theorem dd_tables (hs : s < 64) (hv : 0 < v) (hv' : v < 2 ^ 31) (hu : dd_K dd_E1 dd_qE1 T 0 (fun _ => 0) u) (H : ∀ u', dd_K dd_E1 dd_qE1 T 4 (dd_g dd_LC) u' → post 1 u') : wpL_tables post u (nI s) (nI v) := by
  obtain ⟨f0_count, f0_counting, f0_blocks, f0_isStudied, f0_stemCount, f0_keyCount, f0_partCount, f0_rows, a1, a2, a3, a4, a5, a6, a7, a8, a9, a10, a11, a12, a13, a14⟩ := u
  unfold wpL_tables
  refine dd_keeps (x := 0) (y := 63) (dd_G0 0) (by omega) (by omega) hu ?_
  rintro ⟨f0_count, f0_counting, f0_blocks, f0_isStudied, f0_stemCount, f0_keyCount, f0_partCount, f0_rows, a1, a2, a3, a4, a5, a6, a7, a8, a9, a10, a11, a12, a13, a14⟩ hu
  refine br_f (dd_t1 rfl) ?_
  refine dd_keepsBundled (x := 0) (y := 9) (dd_G0 0) (by omega) (by omega) hu ?_
  rintro ⟨f0_count, f0_counting, f0_blocks, f0_isStudied, f0_stemCount, f0_keyCount, f0_partCount, f0_rows, a1, a2, a3, a4, a5, a6, a7, a8, a9, a10, a11, a12, a13, a14⟩ hu
  refine br_f (dd_t1 rfl) ?_
  refine dd_agreements (dd_G0 0) hu ?_
  rintro ⟨f0_count, f0_counting, f0_blocks, f0_isStudied, f0_stemCount, f0_keyCount, f0_partCount, f0_rows, a1, a2, a3, a4, a5, a6, a7, a8, a9, a10, a11, a12, a13, a14⟩ hu
  refine br_t rfl ?_
  refine dd_discovered (dd_G0 0) hu ?_
  rintro ⟨f0_count, f0_counting, f0_blocks, f0_isStudied, f0_stemCount, f0_keyCount, f0_partCount, f0_rows, a1, a2, a3, a4, a5, a6, a7, a8, a9, a10, a11, a12, a13, a14⟩ hu
  refine br_t (dd_ve dd_x1) ?_
  refine dd_row (by omega) hu ?_
  rintro ⟨f0_count, f0_counting, f0_blocks, f0_isStudied, f0_stemCount, f0_keyCount, f0_partCount, f0_rows, a1, a2, a3, a4, a5, a6, a7, a8, a9, a10, a11, a12, a13, a14⟩ hu
  refine br_t rfl ?_
  have hu : dd_K dd_E1 dd_qE1 T 1 (fun _ => 0) (f0_count, f0_counting, f0_blocks, f0_isStudied, f0_stemCount, f0_keyCount, f0_partCount, f0_rows, a1, a2, a3, a4, a5, a6, a7, a8, a9, a10, a11, a12, a13, a14) := dd_K_ce hu (by decide +kernel)
  refine dd_discovered (dd_G0 1) hu ?_
  rintro ⟨f0_count, f0_counting, f0_blocks, f0_isStudied, f0_stemCount, f0_keyCount, f0_partCount, f0_rows, a1, a2, a3, a4, a5, a6, a7, a8, a9, a10, a11, a12, a13, a14⟩ hu
  refine br_t (dd_ve dd_x2) ?_
  refine dd_row (by omega) hu ?_
  rintro ⟨f0_count, f0_counting, f0_blocks, f0_isStudied, f0_stemCount, f0_keyCount, f0_partCount, f0_rows, a1, a2, a3, a4, a5, a6, a7, a8, a9, a10, a11, a12, a13, a14⟩ hu
  refine br_t rfl ?_
  have hu : dd_K dd_E1 dd_qE1 T 2 (fun _ => 0) (f0_count, f0_counting, f0_blocks, f0_isStudied, f0_stemCount, f0_keyCount, f0_partCount, f0_rows, a1, a2, a3, a4, a5, a6, a7, a8, a9, a10, a11, a12, a13, a14) := dd_K_ce hu (by decide +kernel)
  refine dd_agreements (dd_G0 2) hu ?_
  rintro ⟨f0_count, f0_counting, f0_blocks, f0_isStudied, f0_stemCount, f0_keyCount, f0_partCount, f0_rows, a1, a2, a3, a4, a5, a6, a7, a8, a9, a10, a11, a12, a13, a14⟩ hu
  refine br_t (by decide +kernel) ?_
  refine dd_keeps (x := 0) (y := 63) (dd_G0 2) (by omega) (by omega) hu ?_
  rintro ⟨f0_count, f0_counting, f0_blocks, f0_isStudied, f0_stemCount, f0_keyCount, f0_partCount, f0_rows, a1, a2, a3, a4, a5, a6, a7, a8, a9, a10, a11, a12, a13, a14⟩ hu
  refine br_f (dd_t1 (by decide +kernel)) ?_
  refine dd_discovered (dd_G0 2) hu ?_
  rintro ⟨f0_count, f0_counting, f0_blocks, f0_isStudied, f0_stemCount, f0_keyCount, f0_partCount, f0_rows, a1, a2, a3, a4, a5, a6, a7, a8, a9, a10, a11, a12, a13, a14⟩ hu
  refine br_t (dd_ve dd_x3) ?_
  refine ⟨7, dd_v96 hs hv hv' H 6 0 _ _ _ _ _ _ _ _ _ _ _ _ _ _ _ _ _ _ _ _ _ _ (by omega) (dd_K_ce hu (fun i hi => ?_))⟩
  unfold dd_cw
  rw [if_neg (fun z => by omega)]
end
end
section
section
variable {f0_count f0_counting f0_blocks f0_isStudied f0_stemCount f0_keyCount f0_partCount f0_rows : Int32} {a1 a2 a3 a4 a5 a6 a7 a8 a9 a10 a11 a12 a13 a14 : Nat → Int32}
variable {D : List (Nat × Nat × Bool)} {q : Nat × List Nat × Nat × List Nat} {T : List Nat} {R : Nat} {ce : Nat → Nat} {u : St2} {post : Int32 → St2 → Prop}
theorem dd_b64 : (64 : Int32) < 0 ∨ ¬ (64 : Int32) ≤ 63 := by decide
theorem dd_bm1 : (-1 : Int32) < 0 ∨ ¬ (-1 : Int32) ≤ 63 := by decide
theorem dd_closure_b (hu : dd_K D q T R ce u) (H : ∀ u', dd_K D q T R ce u' → post (-1) u') : wpX_closure post u 64 := by
  obtain ⟨f0_count, f0_counting, f0_blocks, f0_isStudied, f0_stemCount, f0_keyCount, f0_partCount, f0_rows, a1, a2, a3, a4, a5, a6, a7, a8, a9, a10, a11, a12, a13, a14⟩ := u
  unfold wpX_closure
  refine dd_bad dd_b64 ?_
  refine br_f (by decide) ?_
  exact H _ hu
theorem dd_give_b (hu : dd_K D q T R ce u) (H : ∀ u', dd_K D q T R ce u' → post (-1) u') : wpX_give post u (-1) 0 0 := by
  obtain ⟨f0_count, f0_counting, f0_blocks, f0_isStudied, f0_stemCount, f0_keyCount, f0_partCount, f0_rows, a1, a2, a3, a4, a5, a6, a7, a8, a9, a10, a11, a12, a13, a14⟩ := u
  unfold wpX_give
  refine dd_bad dd_bm1 ?_
  refine br_f (by decide) ?_
  exact H _ hu
theorem dd_needs_b (hu : dd_K D q T R ce u) (H : ∀ u', dd_K D q T R ce u' → post (-1) u') : wpX_needs post u 64 0 := by
  obtain ⟨f0_count, f0_counting, f0_blocks, f0_isStudied, f0_stemCount, f0_keyCount, f0_partCount, f0_rows, a1, a2, a3, a4, a5, a6, a7, a8, a9, a10, a11, a12, a13, a14⟩ := u
  unfold wpX_needs
  refine dd_bad dd_b64 ?_
  refine br_f (by decide) ?_
  refine br_f (by decide) ?_
  exact H _ hu
theorem dd_part_b (hu : dd_K D q T R ce u) (H : ∀ u', dd_K D q T R ce u' → post (-1) u') : wpX_part post u 64 := by
  obtain ⟨f0_count, f0_counting, f0_blocks, f0_isStudied, f0_stemCount, f0_keyCount, f0_partCount, f0_rows, a1, a2, a3, a4, a5, a6, a7, a8, a9, a10, a11, a12, a13, a14⟩ := u
  unfold wpX_part
  refine dd_bad dd_b64 ?_
  refine br_f (by decide) ?_
  exact H _ hu
theorem dd_follows_b (hu : dd_K D q T R ce u) (H : ∀ u', dd_K D q T R ce u' → post 0 u') : wpX_follows post u 64 0 := by
  obtain ⟨f0_count, f0_counting, f0_blocks, f0_isStudied, f0_stemCount, f0_keyCount, f0_partCount, f0_rows, a1, a2, a3, a4, a5, a6, a7, a8, a9, a10, a11, a12, a13, a14⟩ := u
  unfold wpX_follows
  refine dd_bad dd_b64 ?_
  refine br_f (by decide) ?_
  exact H _ hu
theorem dd_bundles_b (hu : dd_K D q T R ce u) (H : ∀ u', dd_K D q T R ce u' → post 0 u') : wpX_bundles post u 0 (-1) := by
  obtain ⟨f0_count, f0_counting, f0_blocks, f0_isStudied, f0_stemCount, f0_keyCount, f0_partCount, f0_rows, a1, a2, a3, a4, a5, a6, a7, a8, a9, a10, a11, a12, a13, a14⟩ := u
  unfold wpX_bundles
  refine dd_ok (x := 0) (by omega) ?_
  refine br_t rfl ?_
  refine dd_bad dd_bm1 ?_
  refine br_f (by decide) ?_
  exact H _ hu
theorem dd_third_b (hu : dd_K D q T R ce u) (H : ∀ u', dd_K D q T R ce u' → post 0 u') : wpX_third post u 64 := by
  obtain ⟨f0_count, f0_counting, f0_blocks, f0_isStudied, f0_stemCount, f0_keyCount, f0_partCount, f0_rows, a1, a2, a3, a4, a5, a6, a7, a8, a9, a10, a11, a12, a13, a14⟩ := u
  unfold wpX_third
  refine dd_bad dd_b64 ?_
  refine br_f (by decide) ?_
  exact H _ hu
theorem dd_boyce_b (hu : dd_K D q T R ce u) (H : ∀ u', dd_K D q T R ce u' → post 0 u') : wpX_boyce post u (-1) := by
  obtain ⟨f0_count, f0_counting, f0_blocks, f0_isStudied, f0_stemCount, f0_keyCount, f0_partCount, f0_rows, a1, a2, a3, a4, a5, a6, a7, a8, a9, a10, a11, a12, a13, a14⟩ := u
  unfold wpX_boyce
  refine dd_bad dd_bm1 ?_
  refine br_f (by decide) ?_
  exact H _ hu
theorem dd_keeps_b (hu : dd_K D q T R ce u) (H : ∀ u', dd_K D q T R ce u' → post 0 u') : wpX_keeps post u 0 64 := by
  obtain ⟨f0_count, f0_counting, f0_blocks, f0_isStudied, f0_stemCount, f0_keyCount, f0_partCount, f0_rows, a1, a2, a3, a4, a5, a6, a7, a8, a9, a10, a11, a12, a13, a14⟩ := u
  unfold wpX_keeps
  refine dd_ok (x := 0) (by omega) ?_
  refine br_t rfl ?_
  refine dd_bad dd_b64 ?_
  refine br_f (by decide) ?_
  exact H _ hu
theorem dd_keepsBundled_b (hu : dd_K D q T R ce u) (H : ∀ u', dd_K D q T R ce u' → post 0 u') : wpX_keepsBundled post u (-1) 0 := by
  obtain ⟨f0_count, f0_counting, f0_blocks, f0_isStudied, f0_stemCount, f0_keyCount, f0_partCount, f0_rows, a1, a2, a3, a4, a5, a6, a7, a8, a9, a10, a11, a12, a13, a14⟩ := u
  unfold wpX_keepsBundled
  refine dd_bad dd_bm1 ?_
  refine br_f (by decide) ?_
  exact H _ hu
end
section
variable {f0_count f0_counting f0_blocks f0_isStudied f0_stemCount f0_keyCount f0_partCount f0_rows : Int32} {a1 a2 a3 a4 a5 a6 a7 a8 a9 a10 a11 a12 a13 a14 : Nat → Int32}
variable {q : Nat × List Nat × Nat × List Nat} {T : List Nat} {R : Nat} {ce : Nat → Nat} {u : St2} {post : Int32 → St0 → Prop} {mc ms kc ks : Nat}
theorem dd_w97_11 (hu : dd_K dd_F dd_qF T R ce (f0_count, f0_counting, f0_blocks, f0_isStudied, f0_stemCount, f0_keyCount, f0_partCount, f0_rows, a1, a2, a3, a4, a5, a6, a7, a8, a9, a10, a11, a12, a13, a14)) (H : post 1 ()) : wL_lawOf_97 post mc ms kc ks 1 1 (nI 11) f0_count f0_counting f0_blocks f0_isStudied f0_stemCount f0_keyCount f0_partCount f0_rows a1 a2 a3 a4 a5 a6 a7 a8 a9 a10 a11 a12 a13 a14 := by
  refine pk_le 11 11 (fun _ => br_f (by decide) ?_) (fun z => absurd z (by omega))
  refine dd_closure_b hu ?_
  rintro ⟨f0_count, f0_counting, f0_blocks, f0_isStudied, f0_stemCount, f0_keyCount, f0_partCount, f0_rows, a1, a2, a3, a4, a5, a6, a7, a8, a9, a10, a11, a12, a13, a14⟩ hu
  refine br_t rfl ?_
  refine dd_give_b hu ?_
  rintro ⟨f0_count, f0_counting, f0_blocks, f0_isStudied, f0_stemCount, f0_keyCount, f0_partCount, f0_rows, a1, a2, a3, a4, a5, a6, a7, a8, a9, a10, a11, a12, a13, a14⟩ hu
  refine br_t rfl ?_
  refine dd_needs_b hu ?_
  rintro ⟨f0_count, f0_counting, f0_blocks, f0_isStudied, f0_stemCount, f0_keyCount, f0_partCount, f0_rows, a1, a2, a3, a4, a5, a6, a7, a8, a9, a10, a11, a12, a13, a14⟩ hu
  refine br_t rfl ?_
  refine dd_part_b hu ?_
  rintro ⟨f0_count, f0_counting, f0_blocks, f0_isStudied, f0_stemCount, f0_keyCount, f0_partCount, f0_rows, a1, a2, a3, a4, a5, a6, a7, a8, a9, a10, a11, a12, a13, a14⟩ hu
  refine br_t rfl ?_
  refine dd_follows_b hu ?_
  rintro ⟨f0_count, f0_counting, f0_blocks, f0_isStudied, f0_stemCount, f0_keyCount, f0_partCount, f0_rows, a1, a2, a3, a4, a5, a6, a7, a8, a9, a10, a11, a12, a13, a14⟩ hu
  refine br_t rfl ?_
  refine dd_bundles_b hu ?_
  rintro ⟨f0_count, f0_counting, f0_blocks, f0_isStudied, f0_stemCount, f0_keyCount, f0_partCount, f0_rows, a1, a2, a3, a4, a5, a6, a7, a8, a9, a10, a11, a12, a13, a14⟩ hu
  refine br_t rfl ?_
  refine dd_third_b hu ?_
  rintro ⟨f0_count, f0_counting, f0_blocks, f0_isStudied, f0_stemCount, f0_keyCount, f0_partCount, f0_rows, a1, a2, a3, a4, a5, a6, a7, a8, a9, a10, a11, a12, a13, a14⟩ hu
  refine br_t rfl ?_
  refine dd_boyce_b hu ?_
  rintro ⟨f0_count, f0_counting, f0_blocks, f0_isStudied, f0_stemCount, f0_keyCount, f0_partCount, f0_rows, a1, a2, a3, a4, a5, a6, a7, a8, a9, a10, a11, a12, a13, a14⟩ hu
  refine br_t rfl ?_
  refine dd_keeps_b hu ?_
  rintro ⟨f0_count, f0_counting, f0_blocks, f0_isStudied, f0_stemCount, f0_keyCount, f0_partCount, f0_rows, a1, a2, a3, a4, a5, a6, a7, a8, a9, a10, a11, a12, a13, a14⟩ hu
  refine br_t rfl ?_
  refine dd_keepsBundled_b hu ?_
  rintro ⟨f0_count, f0_counting, f0_blocks, f0_isStudied, f0_stemCount, f0_keyCount, f0_partCount, f0_rows, a1, a2, a3, a4, a5, a6, a7, a8, a9, a10, a11, a12, a13, a14⟩ hu
  refine br_t rfl ?_
  refine dd_stem (i := none) dd_hF (fun y hy => absurd hy (by simp)) hu ?_
  rintro ⟨f0_count, f0_counting, f0_blocks, f0_isStudied, f0_stemCount, f0_keyCount, f0_partCount, f0_rows, a1, a2, a3, a4, a5, a6, a7, a8, a9, a10, a11, a12, a13, a14⟩ hu
  refine br_t (by decide +kernel) ?_
  refine dd_key_n dd_hF hu ?_
  rintro ⟨f0_count, f0_counting, f0_blocks, f0_isStudied, f0_stemCount, f0_keyCount, f0_partCount, f0_rows, a1, a2, a3, a4, a5, a6, a7, a8, a9, a10, a11, a12, a13, a14⟩ hu
  refine br_t rfl ?_
  exact H
theorem dd_w97_10 (hu : dd_K dd_F dd_qF T R ce (f0_count, f0_counting, f0_blocks, f0_isStudied, f0_stemCount, f0_keyCount, f0_partCount, f0_rows, a1, a2, a3, a4, a5, a6, a7, a8, a9, a10, a11, a12, a13, a14)) (H : post 1 ()) : wL_lawOf_97 post mc ms kc ks 2 1 (nI 10) f0_count f0_counting f0_blocks f0_isStudied f0_stemCount f0_keyCount f0_partCount f0_rows a1 a2 a3 a4 a5 a6 a7 a8 a9 a10 a11 a12 a13 a14 := by
  refine pk_le 11 10 (fun z => absurd z (by omega)) (fun _ => br_f (by decide) ?_)
  refine dd_give_full (x := 0) (y := 0) (by omega) (by omega) rfl hu ?_
  rintro ⟨f0_count, f0_counting, f0_blocks, f0_isStudied, f0_stemCount, f0_keyCount, f0_partCount, f0_rows, a1, a2, a3, a4, a5, a6, a7, a8, a9, a10, a11, a12, a13, a14⟩ hu
  exact pk_le 10 10 (fun _ => br_t rfl (nm_r (nI_1 10) (dd_w97_11 hu H))) (fun z => absurd z (by omega))
theorem dd_w97_9 (hu : dd_K [(1, 6, true), (0, 0, true), (0, 0, false), (0, 0, true), (0, 0, false), (0, 0, true), (0, 0, false), (0, 0, true), (0, 0, false)] q T R ce (f0_count, f0_counting, f0_blocks, f0_isStudied, f0_stemCount, f0_keyCount, f0_partCount, f0_rows, a1, a2, a3, a4, a5, a6, a7, a8, a9, a10, a11, a12, a13, a14)) (H : post 1 ()) : wL_lawOf_97 post mc ms kc ks 3 1 (nI 9) f0_count f0_counting f0_blocks f0_isStudied f0_stemCount f0_keyCount f0_partCount f0_rows a1 a2 a3 a4 a5 a6 a7 a8 a9 a10 a11 a12 a13 a14 := by
  refine pk_le 11 9 (fun z => absurd z (by omega)) (fun _ => br_f (by decide) ?_)
  rw [show nI 9 &&& 1 = nI 1 by decide]
  refine dd_give (x := 0) (y := 0) (b := 1) (q' := dd_qF) (by omega) (by omega) (by omega) (by decide) hu ?_
  rintro ⟨f0_count, f0_counting, f0_blocks, f0_isStudied, f0_stemCount, f0_keyCount, f0_partCount, f0_rows, a1, a2, a3, a4, a5, a6, a7, a8, a9, a10, a11, a12, a13, a14⟩ hu
  exact pk_le 10 9 (fun z => absurd z (by omega)) (fun _ => br_t rfl (nm_r (nI_1 9) (dd_w97_10 hu H)))
theorem dd_w97_8 (hu : dd_K [(1, 6, true), (0, 0, true), (0, 0, false), (0, 0, true), (0, 0, false), (0, 0, true), (0, 0, false), (0, 0, true)] q T R ce (f0_count, f0_counting, f0_blocks, f0_isStudied, f0_stemCount, f0_keyCount, f0_partCount, f0_rows, a1, a2, a3, a4, a5, a6, a7, a8, a9, a10, a11, a12, a13, a14)) (H : post 1 ()) : wL_lawOf_97 post mc ms kc ks 4 1 (nI 8) f0_count f0_counting f0_blocks f0_isStudied f0_stemCount f0_keyCount f0_partCount f0_rows a1 a2 a3 a4 a5 a6 a7 a8 a9 a10 a11 a12 a13 a14 := by
  refine pk_le 11 8 (fun z => absurd z (by omega)) (fun _ => br_f (by decide) ?_)
  rw [show nI 8 &&& 1 = nI 0 by decide]
  refine dd_give (x := 0) (y := 0) (b := 0) (q' := dd_qF) (by omega) (by omega) (by omega) (by decide) hu ?_
  rintro ⟨f0_count, f0_counting, f0_blocks, f0_isStudied, f0_stemCount, f0_keyCount, f0_partCount, f0_rows, a1, a2, a3, a4, a5, a6, a7, a8, a9, a10, a11, a12, a13, a14⟩ hu
  exact pk_le 10 8 (fun z => absurd z (by omega)) (fun _ => br_t rfl (nm_r (nI_1 8) (dd_w97_9 hu H)))
theorem dd_w97_7 (hu : dd_K [(1, 6, true), (0, 0, true), (0, 0, false), (0, 0, true), (0, 0, false), (0, 0, true), (0, 0, false)] q T R ce (f0_count, f0_counting, f0_blocks, f0_isStudied, f0_stemCount, f0_keyCount, f0_partCount, f0_rows, a1, a2, a3, a4, a5, a6, a7, a8, a9, a10, a11, a12, a13, a14)) (H : post 1 ()) : wL_lawOf_97 post mc ms kc ks 5 1 (nI 7) f0_count f0_counting f0_blocks f0_isStudied f0_stemCount f0_keyCount f0_partCount f0_rows a1 a2 a3 a4 a5 a6 a7 a8 a9 a10 a11 a12 a13 a14 := by
  refine pk_le 11 7 (fun z => absurd z (by omega)) (fun _ => br_f (by decide) ?_)
  rw [show nI 7 &&& 1 = nI 1 by decide]
  refine dd_give (x := 0) (y := 0) (b := 1) (q' := dd_qF) (by omega) (by omega) (by omega) (by decide) hu ?_
  rintro ⟨f0_count, f0_counting, f0_blocks, f0_isStudied, f0_stemCount, f0_keyCount, f0_partCount, f0_rows, a1, a2, a3, a4, a5, a6, a7, a8, a9, a10, a11, a12, a13, a14⟩ hu
  exact pk_le 10 7 (fun z => absurd z (by omega)) (fun _ => br_t rfl (nm_r (nI_1 7) (dd_w97_8 hu H)))
theorem dd_w97_6 (hu : dd_K [(1, 6, true), (0, 0, true), (0, 0, false), (0, 0, true), (0, 0, false), (0, 0, true)] q T R ce (f0_count, f0_counting, f0_blocks, f0_isStudied, f0_stemCount, f0_keyCount, f0_partCount, f0_rows, a1, a2, a3, a4, a5, a6, a7, a8, a9, a10, a11, a12, a13, a14)) (H : post 1 ()) : wL_lawOf_97 post mc ms kc ks 6 1 (nI 6) f0_count f0_counting f0_blocks f0_isStudied f0_stemCount f0_keyCount f0_partCount f0_rows a1 a2 a3 a4 a5 a6 a7 a8 a9 a10 a11 a12 a13 a14 := by
  refine pk_le 11 6 (fun z => absurd z (by omega)) (fun _ => br_f (by decide) ?_)
  rw [show nI 6 &&& 1 = nI 0 by decide]
  refine dd_give (x := 0) (y := 0) (b := 0) (q' := dd_qF) (by omega) (by omega) (by omega) (by decide) hu ?_
  rintro ⟨f0_count, f0_counting, f0_blocks, f0_isStudied, f0_stemCount, f0_keyCount, f0_partCount, f0_rows, a1, a2, a3, a4, a5, a6, a7, a8, a9, a10, a11, a12, a13, a14⟩ hu
  exact pk_le 10 6 (fun z => absurd z (by omega)) (fun _ => br_t rfl (nm_r (nI_1 6) (dd_w97_7 hu H)))
theorem dd_w97_5 (hu : dd_K [(1, 6, true), (0, 0, true), (0, 0, false), (0, 0, true), (0, 0, false)] q T R ce (f0_count, f0_counting, f0_blocks, f0_isStudied, f0_stemCount, f0_keyCount, f0_partCount, f0_rows, a1, a2, a3, a4, a5, a6, a7, a8, a9, a10, a11, a12, a13, a14)) (H : post 1 ()) : wL_lawOf_97 post mc ms kc ks 7 1 (nI 5) f0_count f0_counting f0_blocks f0_isStudied f0_stemCount f0_keyCount f0_partCount f0_rows a1 a2 a3 a4 a5 a6 a7 a8 a9 a10 a11 a12 a13 a14 := by
  refine pk_le 11 5 (fun z => absurd z (by omega)) (fun _ => br_f (by decide) ?_)
  rw [show nI 5 &&& 1 = nI 1 by decide]
  refine dd_give (x := 0) (y := 0) (b := 1) (q' := dd_qF) (by omega) (by omega) (by omega) (by decide) hu ?_
  rintro ⟨f0_count, f0_counting, f0_blocks, f0_isStudied, f0_stemCount, f0_keyCount, f0_partCount, f0_rows, a1, a2, a3, a4, a5, a6, a7, a8, a9, a10, a11, a12, a13, a14⟩ hu
  exact pk_le 10 5 (fun z => absurd z (by omega)) (fun _ => br_t rfl (nm_r (nI_1 5) (dd_w97_6 hu H)))
theorem dd_w97_4 (hu : dd_K [(1, 6, true), (0, 0, true), (0, 0, false), (0, 0, true)] q T R ce (f0_count, f0_counting, f0_blocks, f0_isStudied, f0_stemCount, f0_keyCount, f0_partCount, f0_rows, a1, a2, a3, a4, a5, a6, a7, a8, a9, a10, a11, a12, a13, a14)) (H : post 1 ()) : wL_lawOf_97 post mc ms kc ks 8 1 (nI 4) f0_count f0_counting f0_blocks f0_isStudied f0_stemCount f0_keyCount f0_partCount f0_rows a1 a2 a3 a4 a5 a6 a7 a8 a9 a10 a11 a12 a13 a14 := by
  refine pk_le 11 4 (fun z => absurd z (by omega)) (fun _ => br_f (by decide) ?_)
  rw [show nI 4 &&& 1 = nI 0 by decide]
  refine dd_give (x := 0) (y := 0) (b := 0) (q' := dd_qF) (by omega) (by omega) (by omega) (by decide) hu ?_
  rintro ⟨f0_count, f0_counting, f0_blocks, f0_isStudied, f0_stemCount, f0_keyCount, f0_partCount, f0_rows, a1, a2, a3, a4, a5, a6, a7, a8, a9, a10, a11, a12, a13, a14⟩ hu
  exact pk_le 10 4 (fun z => absurd z (by omega)) (fun _ => br_t rfl (nm_r (nI_1 4) (dd_w97_5 hu H)))
theorem dd_w97_3 (hu : dd_K [(1, 6, true), (0, 0, true), (0, 0, false)] q T R ce (f0_count, f0_counting, f0_blocks, f0_isStudied, f0_stemCount, f0_keyCount, f0_partCount, f0_rows, a1, a2, a3, a4, a5, a6, a7, a8, a9, a10, a11, a12, a13, a14)) (H : post 1 ()) : wL_lawOf_97 post mc ms kc ks 9 1 (nI 3) f0_count f0_counting f0_blocks f0_isStudied f0_stemCount f0_keyCount f0_partCount f0_rows a1 a2 a3 a4 a5 a6 a7 a8 a9 a10 a11 a12 a13 a14 := by
  refine pk_le 11 3 (fun z => absurd z (by omega)) (fun _ => br_f (by decide) ?_)
  rw [show nI 3 &&& 1 = nI 1 by decide]
  refine dd_give (x := 0) (y := 0) (b := 1) (q' := dd_qF) (by omega) (by omega) (by omega) (by decide) hu ?_
  rintro ⟨f0_count, f0_counting, f0_blocks, f0_isStudied, f0_stemCount, f0_keyCount, f0_partCount, f0_rows, a1, a2, a3, a4, a5, a6, a7, a8, a9, a10, a11, a12, a13, a14⟩ hu
  exact pk_le 10 3 (fun z => absurd z (by omega)) (fun _ => br_t rfl (nm_r (nI_1 3) (dd_w97_4 hu H)))
theorem dd_w97_2 (hu : dd_K [(1, 6, true), (0, 0, true)] q T R ce (f0_count, f0_counting, f0_blocks, f0_isStudied, f0_stemCount, f0_keyCount, f0_partCount, f0_rows, a1, a2, a3, a4, a5, a6, a7, a8, a9, a10, a11, a12, a13, a14)) (H : post 1 ()) : wL_lawOf_97 post mc ms kc ks 10 1 (nI 2) f0_count f0_counting f0_blocks f0_isStudied f0_stemCount f0_keyCount f0_partCount f0_rows a1 a2 a3 a4 a5 a6 a7 a8 a9 a10 a11 a12 a13 a14 := by
  refine pk_le 11 2 (fun z => absurd z (by omega)) (fun _ => br_f (by decide) ?_)
  rw [show nI 2 &&& 1 = nI 0 by decide]
  refine dd_give (x := 0) (y := 0) (b := 0) (q' := dd_qF) (by omega) (by omega) (by omega) (by decide) hu ?_
  rintro ⟨f0_count, f0_counting, f0_blocks, f0_isStudied, f0_stemCount, f0_keyCount, f0_partCount, f0_rows, a1, a2, a3, a4, a5, a6, a7, a8, a9, a10, a11, a12, a13, a14⟩ hu
  exact pk_le 10 2 (fun z => absurd z (by omega)) (fun _ => br_t rfl (nm_r (nI_1 2) (dd_w97_3 hu H)))
theorem dd_w97_1 (hu : dd_K [(1, 6, true)] q T R ce (f0_count, f0_counting, f0_blocks, f0_isStudied, f0_stemCount, f0_keyCount, f0_partCount, f0_rows, a1, a2, a3, a4, a5, a6, a7, a8, a9, a10, a11, a12, a13, a14)) (H : post 1 ()) : wL_lawOf_97 post mc ms kc ks 11 1 (nI 1) f0_count f0_counting f0_blocks f0_isStudied f0_stemCount f0_keyCount f0_partCount f0_rows a1 a2 a3 a4 a5 a6 a7 a8 a9 a10 a11 a12 a13 a14 := by
  refine pk_le 11 1 (fun z => absurd z (by omega)) (fun _ => br_f (by decide) ?_)
  rw [show nI 1 &&& 1 = nI 1 by decide]
  refine dd_give (x := 0) (y := 0) (b := 1) (q' := dd_qF) (by omega) (by omega) (by omega) (by decide) hu ?_
  rintro ⟨f0_count, f0_counting, f0_blocks, f0_isStudied, f0_stemCount, f0_keyCount, f0_partCount, f0_rows, a1, a2, a3, a4, a5, a6, a7, a8, a9, a10, a11, a12, a13, a14⟩ hu
  exact pk_le 10 1 (fun z => absurd z (by omega)) (fun _ => br_t rfl (nm_r (nI_1 1) (dd_w97_2 hu H)))
theorem dd_lawOf (p0 p1 : Int32) (H : post 1 ()) : wpL_lawOf post 15 797 () p0 p1 := by
  obtain ⟨j1, hj1, e1⟩ := pk_andE p0 (m := 7) 3 (by decide)
  obtain ⟨j2, hj2, e2⟩ := pk_andE (p0 >>> ((3 : Int32) &&& 31)) (m := 7) 3 (by decide)
  obtain ⟨j3, hj3, e3⟩ := pk_andE (p0 >>> ((6 : Int32) &&& 31)) (m := 7) 3 (by decide)
  obtain ⟨s, hs, e4⟩ := pk_andE p1 (m := 63) 6 (by decide)
  obtain ⟨j5, hj5, e5⟩ := pk_andE (p1 >>> ((6 : Int32) &&& 31)) (m := 7) 3 (by decide)
  unfold wpL_lawOf
  rw [e1, e2, e3, e4, e5]
  refine ⟨by omega, by omega, 14, 775, by omega, by omega, ?_⟩
  refine ⟨by omega, by omega, by omega, by omega, by omega, by omega, by omega, by omega, by omega, by omega, by omega, by omega, by omega, by omega, by omega, by omega, by omega, by omega, by omega, by omega, by omega, by omega, by omega, by omega, by omega, by omega, by omega, by omega, ?_⟩
  refine ⟨by decide, nm_r (e' := nI (j1 % 6)) (pk_rem (d := 6) (by omega) (by omega) (by omega)) ⟨by decide, nm_r (e' := nI (j2 % 6)) (pk_rem (d := 6) (by omega) (by omega) (by omega)) ⟨by decide, nm_r (e' := nI (1 + j3 % 5)) ?_ (nm_e (nm_r (e' := nI (1 + j5)) ?_ ?_))⟩⟩⟩
  · have t : nI j3 - nI j3 / 5 * 5 = nI (j3 % 5) := pk_rem (d := 5) (by omega) (by omega) (by omega)
    rw [t]
    exact nI_add 1 _
  · exact nI_add 1 _
  · refine dd_rings (R := 0) (ce := fun _ => 0) (Nat.mod_lt _ (by omega)) (Nat.mod_lt _ (by omega)) (show 1 + j3 % 5 < 6 by omega) (by omega) ⟨rfl, ⟨by decide, fun i hi => absurd hi (by simp [dd_D0])⟩, Or.inl rfl, ⟨rfl, by decide, dd_lt_nil (by omega), dd_am_nil⟩, ⟨rfl, by omega, fun i hi => absurd hi (by omega)⟩⟩ ?_
    rintro ⟨f0_count, f0_counting, f0_blocks, f0_isStudied, f0_stemCount, f0_keyCount, f0_partCount, f0_rows, a1, a2, a3, a4, a5, a6, a7, a8, a9, a10, a11, a12, a13, a14⟩ hu
    refine br_f (by decide) (dd_bundled hu ?_)
    rintro ⟨f0_count, f0_counting, f0_blocks, f0_isStudied, f0_stemCount, f0_keyCount, f0_partCount, f0_rows, a1, a2, a3, a4, a5, a6, a7, a8, a9, a10, a11, a12, a13, a14⟩ hu
    refine br_f (by decide) (dd_tables hs (by omega) (by omega) hu ?_)
    rintro ⟨f0_count, f0_counting, f0_blocks, f0_isStudied, f0_stemCount, f0_keyCount, f0_partCount, f0_rows, a1, a2, a3, a4, a5, a6, a7, a8, a9, a10, a11, a12, a13, a14⟩ hu
    exact br_f (by decide) ⟨11, dd_w97_1 hu H⟩
end
theorem dd_cell {post : Int32 → Prop} {L : Nat} {xs : Nat → Int32} {i : Nat} {x : Int32} (hx : x = nI i) (hL : L ≤ 2) (hi : i < 2) (H : ∀ y, post y) : wpL_cellAt post L xs () x :=
  pk_le L i (fun _ => H 0) (fun z => ⟨pk_in i L z hx, H _⟩) rfl hx
theorem i_vc (xs : Nat → Int32) (L : Nat) (hL : L ≤ 2) : wpL_law (fun r => r = 1) L xs :=
  dd_cell (i := 0) rfl hL (by omega) (fun p0 => dd_cell (i := 1) rfl hL (by omega) (fun p1 => ⟨15, 797, by omega, by omega, dd_lawOf p0 p1 rfl⟩))
end
