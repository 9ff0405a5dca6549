section
theorem pk_us {f : Nat → Int32} {k : Nat} {x : Int32} : upd f k x k = x := if_pos rfl
theorem pk_un {f : Nat → Int32} {k j : Nat} {x : Int32} (h : j ≠ k) : upd f k x j = f j := if_neg h
theorem pk_mul (a b : Nat) : nI a * nI b = nI (a * b) := (Int32.ofNat_mul a b).symm
def bt (x : Int32) (i : Nat) : Bool := x.toBitVec.getLsbD i
theorem b_ext {x y : Int32} (h : ∀ i, i < 32 → bt x i = bt y i) : x = y := Int32.toBitVec_inj.mp (BitVec.eq_of_getLsbD_eq (fun i hi => h i hi))
theorem b_or (x y : Int32) (i : Nat) : bt (x ||| y) i = (bt x i || bt y i) := by unfold bt; rw [Int32.toBitVec_or, BitVec.getLsbD_or]
theorem b_and (x y : Int32) (i : Nat) : bt (x &&& y) i = (bt x i && bt y i) := by unfold bt; rw [Int32.toBitVec_and, BitVec.getLsbD_and]
theorem b_0 (i : Nat) : bt 0 i = false := BitVec.getLsbD_zero
theorem s_l : ∀ n, n < 32 → ((nI n &&& 31).toBitVec.smod 32).toNat = n := by decide +kernel
theorem s_u : ∀ n, n < 32 → (((nI n).toUInt32 &&& Int32.toUInt32 31).toBitVec % 32).toNat = n := by decide +kernel
theorem b_shl (n : Nat) (hn : n < 32) (x : Int32) {i : Nat} (hi : i < 32) : bt (x <<< (nI n &&& 31)) i = (decide (n ≤ i) && bt x (i - n)) := by
  unfold bt
  rw [Int32.toBitVec_shiftLeft]
  show (x.toBitVec <<< ((nI n &&& 31).toBitVec.smod 32).toNat).getLsbD i = _
  rw [s_l n hn, BitVec.getLsbD_shiftLeft]
  rcases Nat.lt_or_ge i n with h | h
  · simp [h, Nat.not_le.mpr h]
  · simp [hi, h, Nat.not_lt.mpr h]
theorem b_ushr (n : Nat) (hn : n < 32) (x : Int32) (i : Nat) : bt ((x.toUInt32 >>> ((nI n).toUInt32 &&& Int32.toUInt32 31)).toInt32) i = bt x (n + i) := by
  show (x.toUInt32 >>> ((nI n).toUInt32 &&& Int32.toUInt32 31)).toBitVec.getLsbD i = x.toUInt32.toBitVec.getLsbD (n + i)
  rw [UInt32.toBitVec_shiftRight]
  show (x.toUInt32.toBitVec >>> (((nI n).toUInt32 &&& Int32.toUInt32 31).toBitVec % 32).toNat).getLsbD i = _
  rw [s_u n hn, BitVec.getLsbD_ushiftRight]
/-! the rows above stand in kit/rows; those below are this claim's own -/
/-- bit c of w is not set, as the walks ask it -/
def vs_z (w : Int32) (c : Nat) : Prop := ((w.toUInt32 >>> ((nI c).toUInt32 &&& Int32.toUInt32 31)).toInt32 &&& 1) = 0
theorem vs_b1 : ∀ i, i < 32 → bt 1 i = decide (i = 0) := by decide +kernel
theorem vs_z_bt {w : Int32} {c : Nat} (hc : c < 32) : vs_z w c ↔ bt w c = false := by
  constructor
  · intro h
    have e : bt ((w.toUInt32 >>> ((nI c).toUInt32 &&& Int32.toUInt32 31)).toInt32 &&& 1) 0 = bt 0 0 := congrArg (fun z => bt z 0) h
    rw [b_and, b_ushr c hc, b_0, vs_b1 0 (by omega)] at e
    simpa using e
  · intro h
    apply b_ext
    intro i hi
    rw [b_and, b_ushr c hc, vs_b1 i hi, b_0]
    by_cases e : i = 0
    · subst e; simp [h]
    · simp [e]
theorem vs_z0 (c : Nat) (hc : c < 32) : vs_z 0 c := (vs_z_bt hc).mpr (b_0 c)
theorem vs_z_or {a b : Int32} {c : Nat} (hc : c < 32) : vs_z (a ||| b) c ↔ vs_z a c ∧ vs_z b c := by
  rw [vs_z_bt hc, vs_z_bt hc, vs_z_bt hc, b_or]
  simp
theorem vs_z_bit {c d : Nat} (hc : c < 32) (hd : d < 32) : vs_z ((1 : Int32) <<< (nI c &&& 31)) d ↔ c ≠ d := by
  rw [vs_z_bt hd, b_shl c hc 1 hd, vs_b1 (d - c) (by omega)]
  rcases Nat.lt_or_ge d c with h | h
  · simp [Nat.not_le.mpr h]; omega
  · simp [h]; omega
theorem vs_ix (t c : Nat) : (16 : Int32) * nI t + nI c = nI (16 * t + c) := by
  show nI 16 * nI t + nI c = _
  rw [pk_mul, nI_add]
theorem vs_ixc {t c : Nat} (ht : t < 6) (hc : c < 16) : ((16 : Int32) * nI t + nI c).toNatClampNeg = 16 * t + c := by
  rw [vs_ix, nI_clamp (by omega)]
theorem vs_ixi {t c : Nat} (ht : t < 6) (hc : c < 16) : vp_in ((16 : Int32) * nI t + nI c) 96 := by
  rw [vs_ix]
  exact vp_in_nI (by omega) (by omega)
end
section
/-! ===== the pool: seventeen lists (sixteen cells' chains, the free list at 16) over one array of links ===== -/
/-- the links that begin at x are the list -/
def vs_ch (ol : Nat → Int32) : List Nat → Int32 → Prop
  | [], x => x = -1
  | v :: l, x => x = nI v ∧ v < 144 ∧ vs_ch ol l (ol v)
theorem vs_ch_upd {ol : Nat → Int32} {v : Nat} {y : Int32} : ∀ {l : List Nat} {x : Int32}, v ∉ l → vs_ch ol l x → vs_ch (upd ol v y) l x
  | [], _, _, h => h
  | w :: l, x, hn, h => by
    obtain ⟨h1, h2, h3⟩ := h
    refine ⟨h1, h2, ?_⟩
    have e : w ≠ v := fun z => hn (by rw [z]; exact List.mem_cons_self)
    rw [pk_un e]
    exact vs_ch_upd (fun z => hn (List.mem_cons_of_mem _ z)) h3
theorem vs_ch_mid {ol : Nat → Int32} {k : Nat} {R : List Nat} : ∀ {A : List Nat} {x : Int32}, vs_ch ol (A ++ k :: R) x → k < 144 ∧ vs_ch ol R (ol k)
  | [], _, h => ⟨h.2.1, h.2.2⟩
  | _ :: A, _, h => vs_ch_mid (A := A) h.2.2
theorem vs_ch_cut {ol : Nat → Int32} {k v : Nat} {R : List Nat} : ∀ {A : List Nat} {x : Int32}, (A ++ k :: v :: R).Nodup → vs_ch ol (A ++ k :: v :: R) x → vs_ch (upd ol k (ol v)) (A ++ k :: R) x
  | [], x, hn, h => by
    obtain ⟨h1, h2, _, _, h5⟩ := h
    refine ⟨h1, h2, ?_⟩
    rw [pk_us]
    have hk : k ∉ v :: R := (List.nodup_cons.mp hn).1
    exact vs_ch_upd (fun z => hk (List.mem_cons_of_mem _ z)) h5
  | a :: A, x, hn, h => by
    obtain ⟨h1, h2, h3⟩ := h
    have hn' := List.nodup_cons.mp hn
    refine ⟨h1, h2, ?_⟩
    have e : a ≠ k := fun z => hn'.1 (by rw [z]; exact List.mem_append_right _ List.mem_cons_self)
    rw [pk_un e]
    exact vs_ch_cut hn'.2 h3
/-- one place of a function set anew -/
def vs_set {α : Type} (f : Nat → α) (k : Nat) (x : α) : Nat → α := fun j => if j = k then x else f j
theorem vs_ss {α : Type} {f : Nat → α} {k : Nat} {x : α} : vs_set f k x k = x := if_pos rfl
theorem vs_sn {α : Type} {f : Nat → α} {k j : Nat} {x : α} (h : j ≠ k) : vs_set f k x j = f j := if_neg h
def vs_sm (f : Nat → Nat) : Nat → Nat
  | 0 => 0
  | n + 1 => vs_sm f n + f n
theorem vs_sm_c {f g : Nat → Nat} : ∀ {n : Nat}, (∀ i, i < n → f i = g i) → vs_sm f n = vs_sm g n
  | 0, _ => rfl
  | n + 1, h => by
    show vs_sm f n + f n = vs_sm g n + g n
    rw [vs_sm_c (fun i hi => h i (by omega)), h n (by omega)]
theorem vs_sm_set {f : Nat → Nat} {k x : Nat} : ∀ {n : Nat}, k < n → vs_sm (vs_set f k x) n + f k = vs_sm f n + x
  | 0, h => by omega
  | n + 1, h => by
    show vs_sm (vs_set f k x) n + vs_set f k x n + f k = vs_sm f n + f n + x
    by_cases e : n = k
    · subst e
      rw [vs_ss, vs_sm_c (g := f) (fun i hi => vs_sn (by omega))]
      omega
    · have ih := vs_sm_set (f := f) (k := k) (x := x) (n := n) (by omega)
      rw [vs_sn e]
      omega
theorem vs_sm_le {f : Nat → Nat} {k : Nat} : ∀ {n : Nat}, k < n → f k ≤ vs_sm f n
  | 0, h => by omega
  | n + 1, h => by
    show f k ≤ vs_sm f n + f n
    by_cases e : k = n
    · subst e; omega
    · have ih := vs_sm_le (f := f) (k := k) (n := n) (by omega)
      omega
theorem vs_sm_b {f : Nat → Nat} {b : Nat} : ∀ {n : Nat}, (∀ i, i < n → f i ≤ b) → vs_sm f n ≤ n * b
  | 0, _ => by show 0 ≤ _; omega
  | n + 1, h => by
    show vs_sm f n + f n ≤ (n + 1) * b
    have ih := vs_sm_b (f := f) (b := b) (n := n) (fun i hi => h i (by omega))
    have h2 := h n (by omega)
    rw [Nat.succ_mul]
    omega
/-- the lists hold different numbers, 144 in all -/
def vs_D (ch : Nat → List Nat) : Prop := (∀ c, c ≤ 16 → (ch c).Nodup) ∧ (∀ c d v, c ≤ 16 → d ≤ 16 → v ∈ ch c → v ∈ ch d → c = d) ∧ vs_sm (fun c => (ch c).length) 17 = 144
theorem vs_mv {ch : Nat → List Nat} {a b v : Nat} {A B : List Nat} (D : vs_D ch) (ha : a ≤ 16) (hb : b ≤ 16) (ab : a ≠ b) (h : ch a = A ++ v :: B) : vs_D (vs_set (vs_set ch a (A ++ B)) b (v :: ch b)) := by
  obtain ⟨d1, d2, d3⟩ := D
  have na := d1 a ha
  rw [h] at na
  have hva : v ∈ ch a := by rw [h]; exact List.mem_append_right _ List.mem_cons_self
  have sub : (A ++ B).Sublist (A ++ v :: B) := List.Sublist.append (List.Sublist.refl A) (List.sublist_cons_self v B)
  have nv : v ∉ A ++ B := by
    intro z
    have q := List.nodup_append.mp na
    rcases List.mem_append.mp z with z | z
    · exact q.2.2 v z v List.mem_cons_self rfl
    · exact (List.nodup_cons.mp q.2.1).1 z
  have eb : vs_set (vs_set ch a (A ++ B)) b (v :: ch b) b = v :: ch b := vs_ss
  have ea : vs_set (vs_set ch a (A ++ B)) b (v :: ch b) a = A ++ B := by rw [vs_sn ab, vs_ss]
  have eo : ∀ c, c ≠ a → c ≠ b → vs_set (vs_set ch a (A ++ B)) b (v :: ch b) c = ch c := fun c h1 h2 => by rw [vs_sn h2, vs_sn h1]
  have mem : ∀ c w, w ∈ vs_set (vs_set ch a (A ++ B)) b (v :: ch b) c → (c = b ∧ w = v) ∨ (w ∈ ch c ∧ (c = a → w ≠ v)) := by
    intro c w hw
    by_cases e1 : c = b
    · subst e1
      rw [eb] at hw
      rcases List.mem_cons.mp hw with z | z
      · exact Or.inl ⟨rfl, z⟩
      · exact Or.inr ⟨z, fun y => absurd y.symm ab⟩
    · by_cases e2 : c = a
      · subst e2
        rw [ea] at hw
        refine Or.inr ⟨by rw [h]; exact sub.subset hw, fun _ z => nv (by rw [← z]; exact hw)⟩
      · rw [eo c e2 e1] at hw
        exact Or.inr ⟨hw, fun y => absurd y e2⟩
  refine ⟨?_, ?_, ?_⟩
  · intro c hc
    by_cases e1 : c = b
    · subst e1
      rw [eb]
      exact List.nodup_cons.mpr ⟨fun z => ab (d2 a c v ha hc hva z), d1 c hc⟩
    · by_cases e2 : c = a
      · subst e2
        rw [ea]
        exact List.Nodup.sublist sub na
      · rw [eo c e2 e1]
        exact d1 c hc
  · intro c d w hc hd h1 h2
    rcases mem c w h1 with ⟨z1, z2⟩ | ⟨z1, z2⟩
    · rcases mem d w h2 with ⟨y1, _⟩ | ⟨y1, y2⟩
      · rw [z1, y1]
      · rw [z2] at y1 y2
        exact absurd rfl (y2 (d2 d a v hd ha y1 hva))
    · rcases mem d w h2 with ⟨y1, y2⟩ | ⟨y1, _⟩
      · rw [y2] at z1 z2
        exact absurd rfl (z2 (d2 c a v hc ha z1 hva))
      · exact d2 c d w hc hd z1 y1
  · have e1 : vs_sm (fun c => (vs_set (vs_set ch a (A ++ B)) b (v :: ch b) c).length) 17 = vs_sm (vs_set (vs_set (fun c => (ch c).length) a (A ++ B).length) b (v :: ch b).length) 17 := by
      apply vs_sm_c
      intro i _
      by_cases e1 : i = b
      · subst e1
        rw [vs_ss, vs_ss]
      · rw [vs_sn e1, vs_sn e1]
        by_cases e2 : i = a
        · subst e2
          rw [vs_ss, vs_ss]
        · rw [vs_sn e2, vs_sn e2]
    have e2 := vs_sm_set (f := vs_set (fun c => (ch c).length) a (A ++ B).length) (k := b) (x := (v :: ch b).length) (n := 17) (by omega)
    have e3 := vs_sm_set (f := fun c => (ch c).length) (k := a) (x := (A ++ B).length) (n := 17) (by omega)
    have e4 : vs_set (fun c => (ch c).length) a (A ++ B).length b = (ch b).length := vs_sn (Ne.symm ab)
    have e5 : (ch a).length = (A ++ B).length + 1 := by rw [h, List.length_append, List.length_append, List.length_cons]; omega
    have e6 : (v :: ch b).length = (ch b).length + 1 := List.length_cons
    rw [e1]
    rw [e4] at e2
    omega
/-- chains, free list and count, as the class keeps them -/
def vs_C (fv fc : Int32) (ol ne : Nat → Int32) (ch : Nat → List Nat) : Prop := vs_D ch ∧ vs_ch ol (ch 16) fv ∧ fc = nI (ch 16).length ∧ ∀ c, c < 16 → vs_ch ol (ch c) (ne c)
/-- what the versions of the cells hold: commit and value, from the newest -/
def vs_R (fv fc : Int32) (va co ol ne : Nat → Int32) (P : Nat → List (Int32 × Int32)) : Prop := ∃ ch : Nat → List Nat, vs_C fv fc ol ne ch ∧ ∀ c, c < 16 → P c = (ch c).map (fun v => (co v, va v))
theorem vs_D_len {ch : Nat → List Nat} (D : vs_D ch) {c : Nat} (hc : c ≤ 16) : (ch c).length ≤ 144 := by
  have h := vs_sm_le (f := fun c => (ch c).length) (k := c) (n := 17) (by omega)
  rw [D.2.2] at h
  exact h
end
section
/-! ===== versions as pairs (commit, value), from the newest ===== -/
/-- the value that a limit sees -/
def vs_w (L : Int32) : List (Int32 × Int32) → Int32
  | [] => 0
  | p :: l => if L < p.1 then vs_w L l else p.2
/-- whether the newest is newer than the limit -/
def vs_n (L : Int32) : List (Int32 × Int32) → Prop
  | [] => False
  | p :: _ => L < p.1
/-- the newest value -/
def vs_h : List (Int32 × Int32) → Int32
  | [] => 0
  | p :: _ => p.2
theorem vs_w_t {L : Int32} {p : Int32 × Int32} {l : List (Int32 × Int32)} (h : L < p.1) : vs_w L (p :: l) = vs_w L l := if_pos h
theorem vs_w_f {L : Int32} {p : Int32 × Int32} {l : List (Int32 × Int32)} (h : ¬ L < p.1) : vs_w L (p :: l) = p.2 := if_neg h
theorem vs_w_top {L : Int32} : ∀ {l : List (Int32 × Int32)}, (∀ p, p ∈ l → p.1 ≤ L) → vs_w L l = vs_h l
  | [], _ => rfl
  | p :: _, h => vs_w_f (Int32.not_lt.mpr (h p List.mem_cons_self))
/-- some open transaction began at a or later, and before b -/
def vs_s (op be : Nat → Int32) (a b : Int32) : Prop := ∃ t, t < 6 ∧ ¬ op t = 0 ∧ ¬ be t < a ∧ ¬ b ≤ be t
/-- what pruning leaves behind a version of the commit a -/
def vs_K (op be : Nat → Int32) : Int32 → List (Int32 × Int32) → List (Int32 × Int32) → Prop
  | _, [], l' => l' = []
  | a, p :: l, l' => (vs_s op be p.1 a ∧ ∃ m, l' = p :: m ∧ vs_K op be p.1 l m) ∨ (¬ vs_s op be p.1 a ∧ vs_K op be p.1 l l')
/-- what pruning leaves of a cell -/
def vs_T (op be : Nat → Int32) : List (Int32 × Int32) → List (Int32 × Int32) → Prop
  | [], l' => l' = []
  | p :: l, l' => ∃ m, l' = p :: m ∧ vs_K op be p.1 l m
theorem vs_K_sub {op be : Nat → Int32} : ∀ {l : List (Int32 × Int32)} {a : Int32} {l' : List (Int32 × Int32)}, vs_K op be a l l' → l'.Sublist l
  | [], _, l', h => by
    have h' : l' = [] := h
    rw [h']
    exact List.Sublist.refl _
  | p :: l, a, l', h => by
    rcases h with ⟨_, m, rfl, h⟩ | ⟨_, h⟩
    · exact List.Sublist.cons_cons p (vs_K_sub h)
    · exact List.Sublist.cons p (vs_K_sub h)
theorem vs_T_sub {op be : Nat → Int32} : ∀ {l l' : List (Int32 × Int32)}, vs_T op be l l' → l'.Sublist l
  | [], l', h => by
    have h' : l' = [] := h
    rw [h']
    exact List.Sublist.refl _
  | p :: l, l', h => by
    obtain ⟨m, rfl, h⟩ := h
    exact List.Sublist.cons_cons p (vs_K_sub h)
theorem vs_T_h {op be : Nat → Int32} : ∀ {l l' : List (Int32 × Int32)}, vs_T op be l l' → vs_h l' = vs_h l
  | [], l', h => by
    have h' : l' = [] := h
    rw [h']
  | p :: l, l', h => by
    obtain ⟨m, rfl, _⟩ := h
    rfl
theorem vs_T_n {op be : Nat → Int32} {L : Int32} : ∀ {l l' : List (Int32 × Int32)}, vs_T op be l l' → (vs_n L l' ↔ vs_n L l)
  | [], l', h => by
    have h' : l' = [] := h
    rw [h']
  | p :: l, l', h => by
    obtain ⟨m, rfl, _⟩ := h
    exact Iff.rfl
theorem vs_K_w {op be : Nat → Int32} {t : Nat} (ht : t < 6) (ho : ¬ op t = 0) : ∀ {l : List (Int32 × Int32)} {a : Int32} {l' : List (Int32 × Int32)}, be t < a → vs_K op be a l l' → vs_w (be t) l' = vs_w (be t) l
  | [], _, l', _, h => by
    have h' : l' = [] := h
    rw [h']
  | p :: l, a, l', ha, h => by
    by_cases e : be t < p.1
    · rw [vs_w_t e]
      rcases h with ⟨_, m, rfl, h⟩ | ⟨_, h⟩
      · rw [vs_w_t e]
        exact vs_K_w ht ho e h
      · exact vs_K_w ht ho e h
    · rcases h with ⟨_, m, rfl, h⟩ | ⟨h, _⟩
      · rw [vs_w_f e, vs_w_f e]
      · exact absurd ⟨t, ht, ho, e, Int32.not_le.mpr ha⟩ h
theorem vs_T_w {op be : Nat → Int32} {t : Nat} (ht : t < 6) (ho : ¬ op t = 0) : ∀ {l l' : List (Int32 × Int32)}, vs_T op be l l' → vs_w (be t) l' = vs_w (be t) l
  | [], l', h => by
    have h' : l' = [] := h
    rw [h']
  | p :: l, l', h => by
    obtain ⟨m, rfl, h⟩ := h
    by_cases e : be t < p.1
    · rw [vs_w_t e, vs_w_t e]
      exact vs_K_w ht ho e h
    · rw [vs_w_f e, vs_w_f e]
/-- how many of the first n transactions are open and began before a -/
def vs_cn (op be : Nat → Int32) (a : Int32) : Nat → Nat
  | 0 => 0
  | n + 1 => vs_cn op be a n + if ¬ op n = 0 ∧ be n < a then 1 else 0
theorem vs_cn_le {op be : Nat → Int32} {a : Int32} : ∀ n, vs_cn op be a n ≤ n
  | 0 => Nat.le_refl 0
  | n + 1 => by
    have ih := vs_cn_le (op := op) (be := be) (a := a) n
    show vs_cn op be a n + (if ¬ op n = 0 ∧ be n < a then 1 else 0) ≤ n + 1
    split <;> omega
theorem vs_cn_mo {op be : Nat → Int32} {a b : Int32} (ab : a ≤ b) : ∀ n, vs_cn op be a n ≤ vs_cn op be b n
  | 0 => Nat.le_refl 0
  | n + 1 => by
    have ih := vs_cn_mo (op := op) (be := be) ab n
    show vs_cn op be a n + (if ¬ op n = 0 ∧ be n < a then 1 else 0) ≤ vs_cn op be b n + (if ¬ op n = 0 ∧ be n < b then 1 else 0)
    by_cases h : ¬ op n = 0 ∧ be n < a
    · rw [if_pos h, if_pos ⟨h.1, Int32.lt_of_lt_of_le h.2 ab⟩]
      omega
    · rw [if_neg h]
      omega
theorem vs_cn_st {op be : Nat → Int32} {a b : Int32} (ab : a ≤ b) {t : Nat} (ho : ¬ op t = 0) (h1 : ¬ be t < a) (h2 : ¬ b ≤ be t) : ∀ n, t < n → vs_cn op be a n + 1 ≤ vs_cn op be b n
  | 0, h => by omega
  | n + 1, h => by
    show vs_cn op be a n + (if ¬ op n = 0 ∧ be n < a then 1 else 0) + 1 ≤ vs_cn op be b n + (if ¬ op n = 0 ∧ be n < b then 1 else 0)
    by_cases e : t = n
    · subst e
      have ih := vs_cn_mo (op := op) (be := be) ab t
      rw [if_neg (fun z => h1 z.2), if_pos ⟨ho, Int32.not_le.mp h2⟩]
      omega
    · have ih := vs_cn_st ab ho h1 h2 n (by omega)
      by_cases h : ¬ op n = 0 ∧ be n < a
      · rw [if_pos h, if_pos ⟨h.1, Int32.lt_of_lt_of_le h.2 ab⟩]
        omega
      · rw [if_neg h]
        omega
/-- the commits fall from version to older version -/
def vs_so (l : List (Int32 × Int32)) : Prop := l.Pairwise (fun p q => q.1 ≤ p.1)
theorem vs_K_len {op be : Nat → Int32} : ∀ {l : List (Int32 × Int32)} {a : Int32} {l' : List (Int32 × Int32)}, vs_so l → (∀ p, p ∈ l → p.1 ≤ a) → vs_K op be a l l' → l'.length ≤ vs_cn op be a 6
  | [], _, l', _, _, h => by
    have h' : l' = [] := h
    rw [h']
    exact Nat.zero_le _
  | p :: l, a, l', so, hb, h => by
    have pa : p.1 ≤ a := hb p List.mem_cons_self
    have so' := List.pairwise_cons.mp so
    rcases h with ⟨⟨t, ht, ho, h1, h2⟩, m, rfl, h⟩ | ⟨_, h⟩
    · have ih := vs_K_len so'.2 so'.1 h
      have st := vs_cn_st pa ho h1 h2 6 ht
      rw [List.length_cons]
      omega
    · have ih := vs_K_len so'.2 so'.1 h
      have st := vs_cn_mo (op := op) (be := be) pa 6
      omega
theorem vs_T_len {op be : Nat → Int32} : ∀ {l l' : List (Int32 × Int32)}, vs_so l → vs_T op be l l' → l'.length ≤ 7
  | [], l', _, h => by
    have h' : l' = [] := h
    rw [h']
    exact Nat.zero_le _
  | p :: l, l', so, h => by
    obtain ⟨m, rfl, h⟩ := h
    have so' := List.pairwise_cons.mp so
    have h1 := vs_K_len so'.2 so'.1 h
    have h2 := vs_cn_le (op := op) (be := be) (a := p.1) 6
    rw [List.length_cons]
    omega
/-! ===== the relation's pieces ===== -/
/-- a cell: its versions, the reference's value and number of the last commit -/
def vs_Gc (cm ym : Nat) (l : List (Int32 × Int32)) (s w : Int32) : Prop := vs_so l ∧ (∀ p, p ∈ l → p.1 ≤ nI cm) ∧ vs_h l = s ∧ w ≤ nI ym
/-- a cell as an open transaction sees it -/
def vs_Gv (l : List (Int32 × Int32)) (b bY x w : Int32) : Prop := vs_w b l = x ∧ (vs_n b l ↔ bY < w)
theorem vs_Gc_T {op be : Nat → Int32} {cm ym : Nat} {l l' : List (Int32 × Int32)} {s w : Int32} (h : vs_T op be l l') (g : vs_Gc cm ym l s w) : vs_Gc cm ym l' s w :=
  ⟨List.Pairwise.sublist (vs_T_sub h) g.1, fun p hp => g.2.1 p ((vs_T_sub h).subset hp), (vs_T_h h).trans g.2.2.1, g.2.2.2⟩
theorem vs_Gv_T {op be : Nat → Int32} {t : Nat} (ht : t < 6) (ho : ¬ op t = 0) {l l' : List (Int32 × Int32)} {bY x w : Int32} (h : vs_T op be l l') (g : vs_Gv l (be t) bY x w) : vs_Gv l' (be t) bY x w :=
  ⟨(vs_T_w ht ho h).trans g.1, (vs_T_n h).trans g.2⟩
theorem vs_lt1 {x : Int32} {n : Nat} (hn : n < 4096) (h : x ≤ nI n) : x < nI (n + 1) := Int32.lt_of_le_of_lt h (nI_lt (by omega) (by omega))
theorem vs_le1 {x : Int32} {n m : Nat} (hn : m < 4096) (nm : n ≤ m) (h : x ≤ nI n) : x ≤ nI m := Int32.le_trans h (nI_le nm (by omega))
theorem vs_Gc_up {cm ym cm' ym' : Nat} {l : List (Int32 × Int32)} {s w : Int32} (hc : cm' < 4096) (hy : ym' < 4096) (h1 : cm ≤ cm') (h2 : ym ≤ ym') (g : vs_Gc cm ym l s w) : vs_Gc cm' ym' l s w :=
  ⟨g.1, fun p hp => vs_le1 hc h1 (g.2.1 p hp), g.2.2.1, vs_le1 hy h2 g.2.2.2⟩
theorem vs_Gc_in {cm ym : Nat} {l : List (Int32 × Int32)} {s w : Int32} (x : Int32) (hc : cm + 1 < 4096) (g : vs_Gc cm ym l s w) : vs_Gc (cm + 1) (ym + 1) ((nI (cm + 1), x) :: l) x (nI (ym + 1)) := by
  have h : ∀ p, p ∈ l → p.1 ≤ nI (cm + 1) := fun p hp => vs_le1 hc (by omega) (g.2.1 p hp)
  refine ⟨List.pairwise_cons.mpr ⟨h, g.1⟩, ?_, rfl, Int32.le_refl _⟩
  intro p hp
  rcases List.mem_cons.mp hp with z | z
  · rw [z]
    exact Int32.le_refl _
  · exact h p z
theorem vs_Gv_in {cm ym : Nat} {l : List (Int32 × Int32)} {b bY x w : Int32} (y : Int32) (hc : cm < 4096) (hy : ym < 4096) (hb : b ≤ nI cm) (hbY : bY ≤ nI ym) (g : vs_Gv l b bY x w) : vs_Gv ((nI (cm + 1), y) :: l) b bY x (nI (ym + 1)) :=
  ⟨(vs_w_t (vs_lt1 hc hb)).trans g.1, iff_of_true (vs_lt1 hc hb) (vs_lt1 hy hbY)⟩
theorem vs_Gv_be {cm ym : Nat} {l : List (Int32 × Int32)} {s w : Int32} (g : vs_Gc cm ym l s w) : vs_Gv l (nI cm) (nI ym) s w := by
  refine ⟨(vs_w_top g.2.1).trans g.2.2.1, iff_of_false ?_ (Int32.not_lt.mpr g.2.2.2)⟩
  obtain ⟨_, h, _⟩ := g
  cases l with
  | nil => exact fun z => z
  | cons p l => exact Int32.not_lt.mpr (h p List.mem_cons_self)
end
section
/-! ===== the class: walks that only read, or store into a transaction ===== -/
/-- p0 is no open transaction -/
def vs_bad (op : Nat → Int32) (p0 : Int32) : Prop := ∀ t, t < 6 → p0 = nI t → op t = 0
theorem vs_cs (op : Nat → Int32) (p0 : Int32) : vs_bad op p0 ∨ ∃ t, t < 6 ∧ p0 = nI t ∧ ¬ op t = 0 := by
  by_cases h : ∃ t, t < 6 ∧ p0 = nI t ∧ ¬ op t = 0
  · exact Or.inr h
  · refine Or.inl fun t ht e => ?_
    by_cases z : op t = 0
    · exact z
    · exact absurd ⟨t, ht, e, z⟩ h
/-- p0 is no cell -/
def vs_badc (p0 : Int32) : Prop := ∀ c, c < 16 → ¬ p0 = nI c
theorem vs_csc (p0 : Int32) : vs_badc p0 ∨ ∃ c, c < 16 ∧ p0 = nI c := by
  by_cases h : ∃ c, c < 16 ∧ p0 = nI c
  · exact Or.inr h
  · exact Or.inl fun c hc e => h ⟨c, hc, e⟩
theorem vs_cl (f : Nat → Int32) {t : Nat} (h : t < 4096) : f (nI t).toNatClampNeg = f t := by rw [nI_clamp (by omega)]
section
variable {fv fc cm : Int32} {va co ol ne op se be wr sn ow : Nat → Int32}
theorem vs_xo1 {post : Int32 → Prop} {t : Nat} (ht : t < 6) (ho : ¬ op t = 0) (h : post 1) : wpX_isOpen post (fv, fc, cm, va, co, ol, ne, op, se, be, wr, sn, ow) (nI t) :=
  br_f (nI_pos (by omega)) (br_f (nI_nlt (a := 5) (b := t) (by omega) (by decide)) ⟨vp_in_nI ht (by omega), br_f (by rw [nI_clamp (by omega)]; exact ho) h⟩)
theorem vs_xo0 {post : Int32 → Prop} {p0 : Int32} (hb : vs_bad op p0) (h : post 0) : wpX_isOpen post (fv, fc, cm, va, co, ol, ne, op, se, be, wr, sn, ow) p0 := by
  refine br_c (fun _ => h) (fun h0 => br_c (fun _ => h) (fun h5 => ?_))
  obtain ⟨j, hj, rfl⟩ := nI_of2 (M := 5) (n := 5) (by decide) h0 (Int32.not_lt.mp h5)
  exact ⟨vp_in_nI (by omega) (by omega), br_t (by rw [nI_clamp (by omega)]; exact hb j (by omega) rfl) h⟩
theorem vs_xc1 {post : Int32 → Prop} {c : Nat} (hc : c < 16) (h : post 1) : wpX_isCell post (nI c) :=
  br_f (nI_pos (by omega)) (br_f (nI_nlt (a := 15) (b := c) (by omega) (by decide)) h)
theorem vs_xc0 {post : Int32 → Prop} {p0 : Int32} (hb : vs_badc p0) (h : post 0) : wpX_isCell post p0 := by
  refine br_c (fun _ => h) (fun h0 => br_c (fun _ => h) (fun h5 => ?_))
  obtain ⟨j, hj, rfl⟩ := nI_of2 (M := 15) (n := 15) (by decide) h0 (Int32.not_lt.mp h5)
  exact absurd rfl (hb j (by omega))
theorem vs_xn {post : SX → Prop} {t c : Nat} (ht : t < 6) (h1 : vs_z (wr t) c → post (fv, fc, cm, va, co, ol, ne, op, se, be, wr, upd sn t (sn t ||| ((1 : Int32) <<< (nI c &&& 31))), ow)) (h2 : ¬ vs_z (wr t) c → post (fv, fc, cm, va, co, ol, ne, op, se, be, wr, sn, ow)) : wpX_note post (fv, fc, cm, va, co, ol, ne, op, se, be, wr, sn, ow) (nI t) (nI c) := by
  have e : (nI t).toNatClampNeg = t := nI_clamp (by omega)
  have i : vp_in (nI t) 6 := vp_in_nI ht (by omega)
  unfold wpX_note
  simp only [e]
  exact ⟨i, br_c (fun z => ⟨i, i, nm_e (h1 z)⟩) h2⟩
theorem vs_xaL {post : Int32 → Prop} {L : Int32} : ∀ (l : List Nat) (x : Int32) (s n : Nat), vs_ch ol l x → s + l.length ≤ 144 → l.length < n → post (vs_w L (l.map (fun v => (co v, va v)))) → wX_versionAt_10 post L fv fc cm va co ol ne op se be wr sn ow n x (nI s)
  | [], x, s, n, h, _, hn, hp => by
    obtain ⟨n, rfl⟩ : ∃ n', n = n' + 1 := ⟨n - 1, by simp at hn; omega⟩
    have hx : x = -1 := h
    subst hx
    exact br_c (fun _ => hp) (fun _ => br_t (by decide) hp)
  | v :: l, x, s, n, h, hs, hn, hp => by
    rw [List.length_cons] at hs hn
    obtain ⟨n, rfl⟩ : ∃ n', n = n' + 1 := ⟨n - 1, by omega⟩
    obtain ⟨rfl, hv, h⟩ := h
    have e : (nI v).toNatClampNeg = v := nI_clamp (by omega)
    have i : vp_in (nI v) 144 := vp_in_nI hv (by omega)
    have s1 : ¬ (144 : Int32) ≤ nI s := nI_ge (b := 144) (by omega) (by decide)
    unfold wX_versionAt_10
    simp only [e]
    refine br_f s1 (br_f (nI_pos (by omega)) ⟨i, br_c (fun z => ⟨i, nm_e (nm_r (nI_1 s) ?_)⟩) (fun z => ⟨i, ?_⟩)⟩)
    · refine vs_xaL l (ol v) (s + 1) n h (by omega) (by omega) ?_
      rw [List.map_cons, vs_w_t z] at hp
      exact hp
    · rw [List.map_cons, vs_w_f z] at hp
      exact hp
theorem vs_xa {post : Int32 → Prop} {L : Int32} {P : Nat → List (Int32 × Int32)} (R : vs_R fv fc va co ol ne P) {c : Nat} (hc : c < 16) (hp : post (vs_w L (P c))) : wpX_versionAt post (fv, fc, cm, va, co, ol, ne, op, se, be, wr, sn, ow) (nI c) L := by
  obtain ⟨ch, C, HP⟩ := R
  have e : (nI c).toNatClampNeg = c := nI_clamp (by omega)
  have hl := vs_D_len C.1 (c := c) (by omega)
  rw [HP c hc] at hp
  unfold wpX_versionAt
  simp only [e]
  exact ⟨vp_in_nI hc (by omega), nm_e ⟨(ch c).length + 1, vs_xaL (ch c) (ne c) 0 _ (C.2.2.2 c hc) (by omega) (by omega) hp⟩⟩
theorem vs_xv {post : Int32 → Prop} {P : Nat → List (Int32 × Int32)} (R : vs_R fv fc va co ol ne P) {t c : Nat} (ht : t < 6) (hc : c < 16) (h1 : vs_z (wr t) c → post (vs_w (be t) (P c))) (h2 : ¬ vs_z (wr t) c → post (ow (16 * t + c))) : wpX_visible post (fv, fc, cm, va, co, ol, ne, op, se, be, wr, sn, ow) (nI t) (nI c) := by
  have e : (nI t).toNatClampNeg = t := nI_clamp (by omega)
  have i : vp_in (nI t) 6 := vp_in_nI ht (by omega)
  unfold wpX_visible
  simp only [e, vs_ixc ht hc]
  exact ⟨i, br_c (fun z => ⟨i, vs_xa R hc (h1 z)⟩) (fun z => ⟨vs_ixi ht hc, h2 z⟩)⟩
theorem vs_xm74 {post J : Int32 → Prop} {x1 x2 z0 : Int32} {c : Nat} (ha : (vs_z x2 c ∨ z0 = 0) → J (nI (c + 1))) (hb : ¬ vs_z x2 c → ¬ z0 = 0 → post 0) : wX_mayCommit_74 post J x1 x2 (nI c) z0 fv fc cm va co ol ne op se be wr sn ow :=
  br_c (fun z => nm_r (nI_1 c) (ha (Or.inl z))) (fun z => br_c (fun y => nm_r (nI_1 c) (ha (Or.inr y))) (fun y => hb z y))
theorem vs_xmL {post : Int32 → Prop} {x2 : Int32} {t : Nat} (ht : t < 6) {P : Nat → List (Int32 × Int32)} {ch : Nat → List Nat} (hC : ∀ c, c < 16 → vs_ch ol (ch c) (ne c)) (HP : ∀ c, c < 16 → P c = (ch c).map (fun v => (co v, va v))) : ∀ m c n, c + m = 16 → m < n → ((∃ d, c ≤ d ∧ d < 16 ∧ ¬ vs_z x2 d ∧ vs_n (be t) (P d)) → post 0) → ((∀ d, c ≤ d → d < 16 → ¬ vs_z x2 d → ¬ vs_n (be t) (P d)) → post 1) → wX_mayCommit_34 post (nI t) x2 fv fc cm va co ol ne op se be wr sn ow n (nI c) := by
  intro m
  induction m with
  | zero =>
    intro c n hc hn h0 h1
    obtain ⟨n, rfl⟩ : ∃ n', n = n' + 1 := ⟨n - 1, by omega⟩
    exact br_t (nI_le (a := 16) (by omega) (by omega)) (h1 (fun d h2 h3 => by omega))
  | succ m ih =>
    intro c n hc hn h0 h1
    obtain ⟨n, rfl⟩ : ∃ n', n = n' + 1 := ⟨n - 1, by omega⟩
    have hc16 : c < 16 := by omega
    have e : (nI c).toNatClampNeg = c := nI_clamp (by omega)
    have et : (nI t).toNatClampNeg = t := nI_clamp (by omega)
    have i : vp_in (nI c) 16 := vp_in_nI hc16 (by omega)
    have it : vp_in (nI t) 6 := vp_in_nI ht (by omega)
    have next : (vs_z x2 c ∨ ¬ vs_n (be t) (P c)) → wX_mayCommit_34 post (nI t) x2 fv fc cm va co ol ne op se be wr sn ow n (nI (c + 1)) := by
      intro q
      refine ih (c + 1) n (by omega) (by omega) ?_ ?_
      · rintro ⟨d, h2, h3⟩
        exact h0 ⟨d, by omega, h3⟩
      · intro h
        refine h1 (fun d h2 h3 h4 => ?_)
        by_cases z : d = c
        · subst z
          rcases q with q | q
          · exact absurd q h4
          · exact q
        · exact h d (by omega) h3 h4
    have hcc := hC c hc16
    have hP := HP c hc16
    unfold wX_mayCommit_34
    simp only [e, et]
    refine br_f (nI_ge (b := 16) hc16 (by decide)) ⟨i, ?_⟩
    cases hl : ch c with
    | nil =>
      rw [hl] at hcc hP
      have hx : ne c = -1 := hcc
      refine br_t (by rw [hx]; decide) ?_
      refine vs_xm74 (fun _ => next (Or.inr ?_)) (fun _ z => absurd rfl z)
      rw [hP]
      exact fun z => z
    | cons v l =>
      rw [hl] at hcc hP
      obtain ⟨hx, hv, _⟩ := hcc
      have ev : (nI v).toNatClampNeg = v := nI_clamp (by omega)
      simp only [hx, ev]
      refine br_f (nI_pos (by omega)) ⟨i, vp_in_nI hv (by omega), it, br_c (fun z => ?_) (fun z => ?_)⟩
      · refine vs_xm74 (fun _ => next (Or.inr ?_)) (fun _ z => absurd rfl z)
        rw [hP]
        exact Int32.not_lt.mpr z
      · refine vs_xm74 (fun q => next (Or.inl ?_)) (fun q _ => h0 ⟨c, Nat.le_refl c, hc16, q, ?_⟩)
        · rcases q with q | q
          · exact q
          · exact absurd q (by decide)
        · rw [hP]
          exact Int32.not_le.mp z
/-- whether the class's transaction t is overtaken -/
def vs_ov (P : Nat → List (Int32 × Int32)) (se be wr sn : Nat → Int32) (t : Nat) : Prop := ∃ d, d < 16 ∧ ¬ (vs_z (wr t) d ∧ (¬ se t = 0 → vs_z (sn t) d)) ∧ vs_n (be t) (P d)
theorem vs_xm {post : Int32 → Prop} {P : Nat → List (Int32 × Int32)} (R : vs_R fv fc va co ol ne P) {t : Nat} (ht : t < 6) (h0 : vs_ov P se be wr sn t → post 0) (h1 : ¬ vs_ov P se be wr sn t → post 1) : wpX_mayCommit post (fv, fc, cm, va, co, ol, ne, op, se, be, wr, sn, ow) (nI t) := by
  obtain ⟨ch, C, HP⟩ := R
  have e : (nI t).toNatClampNeg = t := nI_clamp (by omega)
  have i : vp_in (nI t) 6 := vp_in_nI ht (by omega)
  unfold wpX_mayCommit
  simp only [e]
  refine ⟨i, br_c (fun z => ⟨i, nm_e ⟨17, ?_⟩⟩) (fun z => ⟨i, i, nm_e ⟨17, ?_⟩⟩)⟩
  · refine vs_xmL ht C.2.2.2 HP 16 0 17 rfl (by omega) ?_ ?_
    · rintro ⟨d, _, hd, h2, h3⟩
      exact h0 ⟨d, hd, fun q => h2 q.1, h3⟩
    · intro h
      refine h1 ?_
      rintro ⟨d, hd, h2, h3⟩
      exact h d (by omega) hd (fun q => h2 ⟨q, fun y => absurd z y⟩) h3
  · refine vs_xmL ht C.2.2.2 HP 16 0 17 rfl (by omega) ?_ ?_
    · rintro ⟨d, _, hd, h2, h3⟩
      exact h0 ⟨d, hd, fun q => h2 ((vs_z_or (by omega)).mpr ⟨q.1, q.2 z⟩), h3⟩
    · intro h
      refine h1 ?_
      rintro ⟨d, hd, h2, h3⟩
      refine h d (by omega) hd (fun q => h2 ?_) h3
      have q' := (vs_z_or (by omega)).mp q
      exact ⟨q'.1, fun _ => q'.2⟩
theorem vs_xsL {post : Int32 → Prop} {a b : Int32} : ∀ m t n, t + m = 6 → m < n → ((∃ d, t ≤ d ∧ d < 6 ∧ ¬ op d = 0 ∧ ¬ be d < a ∧ ¬ b ≤ be d) → post 1) → ((¬ ∃ d, t ≤ d ∧ d < 6 ∧ ¬ op d = 0 ∧ ¬ be d < a ∧ ¬ b ≤ be d) → post 0) → wX_isSeen_2 post a b fv fc cm va co ol ne op se be wr sn ow n (nI t) := by
  intro m
  induction m with
  | zero =>
    intro t n ht hn h1 h0
    obtain ⟨n, rfl⟩ : ∃ n', n = n' + 1 := ⟨n - 1, by omega⟩
    refine br_t (nI_le (a := 6) (by omega) (by omega)) (h0 ?_)
    rintro ⟨d, h2, h3, _⟩
    omega
  | succ m ih =>
    intro t n ht hn h1 h0
    obtain ⟨n, rfl⟩ : ∃ n', n = n' + 1 := ⟨n - 1, by omega⟩
    have e : (nI t).toNatClampNeg = t := nI_clamp (by omega)
    have i : vp_in (nI t) 6 := vp_in_nI (by omega) (by omega)
    have next : ¬ (¬ op t = 0 ∧ ¬ be t < a ∧ ¬ b ≤ be t) → wX_isSeen_2 post a b fv fc cm va co ol ne op se be wr sn ow n (nI (t + 1)) := by
      intro q
      refine ih (t + 1) n (by omega) (by omega) ?_ ?_
      · rintro ⟨d, h2, h3⟩
        exact h1 ⟨d, by omega, h3⟩
      · intro h
        refine h0 ?_
        rintro ⟨d, h2, h3, h4⟩
        by_cases z : d = t
        · subst z
          exact q h4
        · exact h ⟨d, by omega, h3, h4⟩
    unfold wX_isSeen_2
    simp only [e]
    exact br_f (nI_ge (b := 6) (by omega) (by decide)) ⟨i, br_c (fun z => nm_r (nI_1 t) (next (fun q => q.1 z))) (fun z => ⟨i, br_c (fun y => nm_r (nI_1 t) (next (fun q => q.2.1 y))) (fun y => ⟨i, br_c (fun x => nm_r (nI_1 t) (next (fun q => q.2.2 x))) (fun x => h1 ⟨t, Nat.le_refl t, by omega, z, y, x⟩)⟩)⟩)⟩
theorem vs_xs {post : Int32 → Prop} {a b : Int32} (h1 : vs_s op be a b → post 1) (h0 : ¬ vs_s op be a b → post 0) : wpX_isSeen post (fv, fc, cm, va, co, ol, ne, op, se, be, wr, sn, ow) a b := by
  refine ⟨7, vs_xsL 6 0 7 rfl (by omega) ?_ ?_⟩
  · rintro ⟨d, _, h⟩
    exact h1 ⟨d, h⟩
  · intro h
    refine h0 ?_
    rintro ⟨d, q⟩
    exact h ⟨d, Nat.zero_le d, q⟩
end
end
section
/-! ===== the class: pruning, tidying, installing ===== -/
theorem vs_C_free {fv fc : Int32} {ol ne : Nat → Int32} {ch : Nat → List Nat} {c k v : Nat} {A R : List Nat} (hc : c < 16) (C : vs_C fv fc ol ne ch) (h : ch c = A ++ k :: v :: R) : vs_C (nI v) (fc + 1) (upd (upd ol k (ol v)) v fv) ne (vs_set (vs_set ch c (A ++ k :: R)) 16 (v :: ch 16)) := by
  obtain ⟨D, F, hf, H⟩ := C
  have h' : ch c = (A ++ [k]) ++ v :: R := by rw [h, List.append_assoc]; rfl
  have D' := vs_mv D (a := c) (b := 16) (by omega) (by omega) (by omega) h'
  have e' : (A ++ [k]) ++ R = A ++ k :: R := by rw [List.append_assoc]; rfl
  rw [e'] at D'
  have nd := D.1 c (by omega)
  have kc : k ∈ ch c := by rw [h]; exact List.mem_append_right _ List.mem_cons_self
  have vc : v ∈ ch c := by rw [h]; exact List.mem_append_right _ (List.mem_cons_of_mem _ List.mem_cons_self)
  have k16 : k ∉ ch 16 := fun z => absurd (D.2.1 c 16 k (by omega) (by omega) kc z) (by omega)
  have v16 : v ∉ ch 16 := fun z => absurd (D.2.1 c 16 v (by omega) (by omega) vc z) (by omega)
  have hcc := H c hc
  have hcc2 := hcc
  rw [h'] at hcc2
  have hv := (vs_ch_mid hcc2).1
  refine ⟨D', ?_, ?_, ?_⟩
  · rw [vs_ss]
    refine ⟨rfl, hv, ?_⟩
    rw [pk_us]
    exact vs_ch_upd v16 (vs_ch_upd k16 F)
  · rw [vs_ss, hf, nI_1, List.length_cons]
  · intro d hd
    rw [vs_sn (show d ≠ 16 by omega)]
    by_cases e : d = c
    · subst e
      rw [vs_ss]
      have q := nd
      rw [h'] at q
      have nv : v ∉ A ++ k :: R := by
        rw [← e']
        intro z
        have q2 := List.nodup_append.mp q
        rcases List.mem_append.mp z with z | z
        · exact q2.2.2 v z v List.mem_cons_self rfl
        · exact (List.nodup_cons.mp q2.2.1).1 z
      rw [h] at nd hcc
      exact vs_ch_upd nv (vs_ch_cut nd hcc)
    · rw [vs_sn e]
      have kd : k ∉ ch d := fun z => e (D.2.1 d c k (by omega) (by omega) z kc)
      have vd : v ∉ ch d := fun z => e (D.2.1 d c v (by omega) (by omega) z vc)
      exact vs_ch_upd vd (vs_ch_upd kd (H d hd))
theorem vs_C_inst {fv fc : Int32} {ol ne : Nat → Int32} {ch : Nat → List Nat} {c v : Nat} {F : List Nat} (hc : c < 16) (C : vs_C fv fc ol ne ch) (h : ch 16 = v :: F) : vs_C (ol v) (fc - 1) (upd ol v (ne c)) (upd ne c (nI v)) (vs_set (vs_set ch 16 F) c (v :: ch c)) := by
  obtain ⟨D, hF, hf, H⟩ := C
  have D' := vs_mv D (a := 16) (b := c) (A := []) (by omega) (by omega) (by omega) h
  rw [List.nil_append] at D'
  have v16 : v ∈ ch 16 := by rw [h]; exact List.mem_cons_self
  have vd : ∀ d, d < 16 → v ∉ ch d := fun d hd z => absurd (D.2.1 d 16 v (by omega) (by omega) z v16) (by omega)
  have nd := D.1 16 (by omega)
  rw [h] at hF nd hf
  have nF : v ∉ F := (List.nodup_cons.mp nd).1
  refine ⟨D', ?_, ?_, ?_⟩
  · rw [vs_sn (show 16 ≠ c by omega), vs_ss]
    exact vs_ch_upd nF hF.2.2
  · rw [vs_sn (show 16 ≠ c by omega), vs_ss, hf, List.length_cons, nI_pred]
  · intro d hd
    by_cases e : d = c
    · subst e
      rw [vs_ss, pk_us]
      refine ⟨rfl, hF.2.1, ?_⟩
      rw [pk_us]
      exact vs_ch_upd (vd d hd) (H d hd)
    · rw [vs_sn e, vs_sn (show d ≠ 16 by omega), pk_un e]
      exact vs_ch_upd (vd d hd) (H d hd)
section
variable {cm : Int32} {va co ne op se be wr sn ow : Nat → Int32}
theorem vs_xpL {post : SX → Prop} {c : Nat} (hc : c < 16) : ∀ (R A : List Nat) (k s n : Nat) (x3 ab fv fc : Int32) (ol : Nat → Int32) (ch : Nat → List Nat), vs_C fv fc ol ne ch → ch c = A ++ k :: R → x3 = ol k → s + R.length ≤ 144 → R.length < n → (∀ (fv' fc' : Int32) (ol' : Nat → Int32) (ch' : Nat → List Nat) (R' : List Nat), vs_C fv' fc' ol' ne ch' → ch' c = A ++ k :: R' → vs_K op be ab (R.map (fun v => (co v, va v))) (R'.map (fun v => (co v, va v))) → (∀ d, d < 16 → d ≠ c → ch' d = ch d) → post (fv', fc', cm, va, co, ol', ne, op, se, be, wr, sn, ow)) → wX_prune_30 post cm n (nI k) x3 ab (nI s) fv fc va co ol ne op se be wr sn ow := by
  intro R
  induction R with
  | nil =>
    intro A k s n x3 ab fv fc ol ch C h hx hs hn H
    obtain ⟨n, rfl⟩ : ∃ n', n = n' + 1 := ⟨n - 1, by simp at hn; omega⟩
    have hm := C.2.2.2 c hc
    rw [h] at hm
    have hx' : x3 = -1 := hx.trans (vs_ch_mid hm).2
    have hp := H fv fc ol ch [] C h rfl (fun _ _ _ => rfl)
    refine br_c (fun _ => hp) (fun _ => br_t ?_ hp)
    rw [hx']
    decide
  | cons v R ih =>
    intro A k s n x3 ab fv fc ol ch C h hx hs hn H
    rw [List.length_cons] at hs hn
    obtain ⟨n, rfl⟩ : ∃ n', n = n' + 1 := ⟨n - 1, by omega⟩
    have hm := C.2.2.2 c hc
    rw [h] at hm
    have hk := (vs_ch_mid hm).1
    obtain ⟨hx', hv, _⟩ := (vs_ch_mid hm).2
    have nd := C.1.1 c (by omega)
    rw [h] at nd
    have kv : k ≠ v := fun z => (List.nodup_cons.mp (List.nodup_append.mp nd).2.1).1 (by rw [z]; exact List.mem_cons_self)
    rw [hx'] at hx
    subst hx
    have e : (nI v).toNatClampNeg = v := nI_clamp (by omega)
    have ek : (nI k).toNatClampNeg = k := nI_clamp (by omega)
    have i : vp_in (nI v) 144 := vp_in_nI hv (by omega)
    have ik : vp_in (nI k) 144 := vp_in_nI hk (by omega)
    have s1 : ¬ (144 : Int32) ≤ nI s := nI_ge (b := 144) (by omega) (by decide)
    unfold wX_prune_30
    simp only [e, ek]
    refine br_f s1 (br_f (nI_pos (by omega)) ⟨i, nm_e ⟨i, nm_e ?_⟩⟩)
    refine vs_xs (fun q => br_f (by decide) (nm_r (nI_1 s) ?_)) (fun q => br_t rfl ⟨ik, nm_e ⟨i, nm_e (nm_e (nm_r (nI_1 s) ?_))⟩⟩)
    · refine ih (A ++ [k]) v (s + 1) n (ol v) (co v) fv fc ol ch C (by rw [h, List.append_assoc]; rfl) rfl (by omega) (by omega) ?_
      intro fv' fc' ol' ch' R' C' h' K' O'
      refine H fv' fc' ol' ch' (v :: R') C' (by rw [h', List.append_assoc]; rfl) (Or.inl ⟨q, _, List.map_cons, K'⟩) O'
    · refine ih A k (s + 1) n (ol v) (co v) (nI v) (fc + 1) (upd (upd ol k (ol v)) v fv) (vs_set (vs_set ch c (A ++ k :: R)) 16 (v :: ch 16)) (vs_C_free hc C h) (by rw [vs_sn (show c ≠ 16 by omega), vs_ss]) (by rw [pk_un kv, pk_us]) (by omega) (by omega) ?_
      intro fv' fc' ol' ch' R' C' h' K' O'
      refine H fv' fc' ol' ch' R' C' h' (Or.inr ⟨q, K'⟩) (fun d hd hdc => ?_)
      rw [O' d hd hdc, vs_sn (show d ≠ 16 by omega), vs_sn hdc]
theorem vs_xp {post : SX → Prop} {fv fc : Int32} {ol : Nat → Int32} {P : Nat → List (Int32 × Int32)} (R : vs_R fv fc va co ol ne P) {c : Nat} (hc : c < 16) (H : ∀ (fv' fc' : Int32) (ol' : Nat → Int32) (l' : List (Int32 × Int32)), vs_R fv' fc' va co ol' ne (vs_set P c l') → vs_T op be (P c) l' → post (fv', fc', cm, va, co, ol', ne, op, se, be, wr, sn, ow)) : wpX_prune post (fv, fc, cm, va, co, ol, ne, op, se, be, wr, sn, ow) (nI c) := by
  obtain ⟨ch, C, HP⟩ := R
  have e : (nI c).toNatClampNeg = c := nI_clamp (by omega)
  have hcc := C.2.2.2 c hc
  have hP := HP c hc
  have hl := vs_D_len C.1 (c := c) (by omega)
  unfold wpX_prune
  simp only [e]
  refine ⟨vp_in_nI hc (by omega), nm_e ?_⟩
  cases hch : ch c with
  | nil =>
    rw [hch] at hcc hP
    have hx : ne c = -1 := hcc
    refine br_f (by rw [hx]; decide) (H fv fc ol [] ⟨ch, C, fun d hd => ?_⟩ (by rw [hP]; exact rfl))
    by_cases z : d = c
    · subst z
      rw [vs_ss, hch]
      rfl
    · rw [vs_sn z]
      exact HP d hd
  | cons k R =>
    rw [hch] at hcc hP hl
    rw [List.length_cons] at hl
    obtain ⟨hx, hk, _⟩ := hcc
    have ek : (nI k).toNatClampNeg = k := nI_clamp (by omega)
    have ik : vp_in (nI k) 144 := vp_in_nI hk (by omega)
    simp only [hx, ek]
    refine br_t (nI_pos' (by omega)) ⟨ik, nm_e ⟨ik, nm_e ⟨R.length + 1, ?_⟩⟩⟩
    refine vs_xpL hc R [] k 0 (R.length + 1) (ol k) (co k) fv fc ol ch C (by rw [hch]; rfl) rfl (by omega) (by omega) ?_
    intro fv' fc' ol' ch' R' C' h' K' O'
    rw [List.nil_append] at h'
    refine H fv' fc' ol' ((k :: R').map (fun v => (co v, va v))) ⟨ch', C', fun d hd => ?_⟩ ?_
    · by_cases z : d = c
      · subst z
        rw [vs_ss, h']
      · rw [vs_sn z, O' d hd z]
        exact HP d hd
    · rw [hP, List.map_cons, List.map_cons]
      exact ⟨_, rfl, K'⟩
theorem vs_xtL {post : SX → Prop} {P0 : Nat → List (Int32 × Int32)} : ∀ (m c n : Nat) (fv fc : Int32) (ol : Nat → Int32) (P : Nat → List (Int32 × Int32)), c + m = 16 → m < n → vs_R fv fc va co ol ne P → (∀ d, d < c → vs_T op be (P0 d) (P d)) → (∀ d, c ≤ d → P d = P0 d) → (∀ (fv' fc' : Int32) (ol' : Nat → Int32) (P' : Nat → List (Int32 × Int32)), vs_R fv' fc' va co ol' ne P' → (∀ d, d < 16 → vs_T op be (P0 d) (P' d)) → post (fv', fc', cm, va, co, ol', ne, op, se, be, wr, sn, ow)) → wX_tidy_2 post n (nI c) fv fc cm va co ol ne op se be wr sn ow := by
  intro m
  induction m with
  | zero =>
    intro c n fv fc ol P hc hn R h1 h2 H
    obtain ⟨n, rfl⟩ : ∃ n', n = n' + 1 := ⟨n - 1, by omega⟩
    exact br_t (nI_le (a := 16) (by omega) (by omega)) (H fv fc ol P R (fun d hd => h1 d (by omega)))
  | succ m ih =>
    intro c n fv fc ol P hc hn R h1 h2 H
    obtain ⟨n, rfl⟩ : ∃ n', n = n' + 1 := ⟨n - 1, by omega⟩
    refine br_f (nI_ge (b := 16) (by omega) (by decide)) ?_
    refine vs_xp R (by omega) ?_
    intro fv' fc' ol' l' R' T'
    refine nm_r (nI_1 c) ?_
    refine ih (c + 1) n fv' fc' ol' (vs_set P c l') (by omega) (by omega) R' ?_ ?_ H
    · intro d hd
      by_cases z : d = c
      · subst z
        rw [vs_ss, ← h2 d (Nat.le_refl d)]
        exact T'
      · rw [vs_sn z]
        exact h1 d (by omega)
    · intro d hd
      rw [vs_sn (show d ≠ c by omega)]
      exact h2 d (by omega)
theorem vs_xt {post : SX → Prop} {fv fc : Int32} {ol : Nat → Int32} {P : Nat → List (Int32 × Int32)} (R : vs_R fv fc va co ol ne P) (H : ∀ (fv' fc' : Int32) (ol' : Nat → Int32) (P' : Nat → List (Int32 × Int32)), vs_R fv' fc' va co ol' ne P' → (∀ d, d < 16 → vs_T op be (P d) (P' d)) → post (fv', fc', cm, va, co, ol', ne, op, se, be, wr, sn, ow)) : wpX_tidy post (fv, fc, cm, va, co, ol, ne, op, se, be, wr, sn, ow) :=
  ⟨17, vs_xtL 16 0 17 fv fc ol P rfl (by omega) R (fun d hd => absurd hd (Nat.not_lt_zero d)) (fun _ _ => rfl) H⟩
end
/-- a chain's map doesn't see a store at a number that it doesn't hold -/
theorem vs_map_upd {co va : Nat → Int32} {v : Nat} {x y : Int32} {l : List Nat} (h : v ∉ l) : l.map (fun w => (upd co v x w, upd va v y w)) = l.map (fun w => (co w, va w)) := by
  apply List.map_congr_left
  intro w hw
  have e : w ≠ v := fun z => h (by rw [← z]; exact hw)
  rw [pk_un e, pk_un e]
section
variable {cm : Int32} {op se be wr sn ow : Nat → Int32}
theorem vs_xiL {post : SX → Prop} {t : Nat} (ht : t < 6) : ∀ (m c n : Nat) (fv fc : Int32) (va co ol ne : Nat → Int32) (ch : Nat → List Nat) (P : Nat → List (Int32 × Int32)), c + m = 16 → m < n → vs_C fv fc ol ne ch → (∀ d, d < 16 → P d = (ch d).map (fun v => (co v, va v))) → m ≤ (ch 16).length → (∀ (fv' fc' : Int32) (va' co' ol' ne' : Nat → Int32) (P' : Nat → List (Int32 × Int32)), vs_R fv' fc' va' co' ol' ne' P' → (∀ d, d < c → P' d = P d) → (∀ d, c ≤ d → d < 16 → (vs_z (wr t) d → P' d = P d) ∧ (¬ vs_z (wr t) d → P' d = (cm, ow (16 * t + d)) :: P d)) → post (fv', fc', cm, va', co', ol', ne', op, se, be, wr, sn, ow)) → wX_install_25 post (nI t) cm n (nI c) fv fc va co ol ne op se be wr sn ow := by
  intro m
  induction m with
  | zero =>
    intro c n fv fc va co ol ne ch P hc hn C HP hm H
    obtain ⟨n, rfl⟩ : ∃ n', n = n' + 1 := ⟨n - 1, by omega⟩
    exact br_t (nI_le (a := 16) (by omega) (by omega)) (H fv fc va co ol ne P ⟨ch, C, HP⟩ (fun _ _ => rfl) (fun d h1 h2 => by omega))
  | succ m ih =>
    intro c n fv fc va co ol ne ch P hc hn C HP hm H
    obtain ⟨n, rfl⟩ : ∃ n', n = n' + 1 := ⟨n - 1, by omega⟩
    have hc16 : c < 16 := by omega
    have e : (nI c).toNatClampNeg = c := nI_clamp (by omega)
    have et : (nI t).toNatClampNeg = t := nI_clamp (by omega)
    have i : vp_in (nI c) 16 := vp_in_nI hc16 (by omega)
    have it : vp_in (nI t) 6 := vp_in_nI ht (by omega)
    cases hl : ch 16 with
    | nil =>
      rw [hl] at hm
      exact absurd hm (by simp)
    | cons v F =>
      have hF := C.2.1
      rw [hl] at hF hm
      rw [List.length_cons] at hm
      obtain ⟨hx, hv, _⟩ := hF
      subst hx
      have ev : (nI v).toNatClampNeg = v := nI_clamp (by omega)
      have iv : vp_in (nI v) 144 := vp_in_nI hv (by omega)
      have v16 : v ∈ ch 16 := by rw [hl]; exact List.mem_cons_self
      have vd : ∀ d, d < 16 → v ∉ ch d := fun d hd z => absurd (C.1.2.1 d 16 v (by omega) (by omega) z v16) (by omega)
      unfold wX_install_25
      simp only [e, et, ev, vs_ixc ht hc16]
      refine br_f (nI_ge (b := 16) hc16 (by decide)) ⟨it, br_c (fun z => nm_r (nI_1 c) ?_) (fun z => ⟨iv, nm_e (nm_e ⟨vs_ixi ht hc16, iv, nm_e ⟨iv, nm_e ⟨i, iv, nm_e ⟨i, nm_e (nm_r (nI_1 c) ?_)⟩⟩⟩⟩)⟩)⟩
      · refine ih (c + 1) n (nI v) fc va co ol ne ch P (by omega) (by omega) C HP (by rw [hl, List.length_cons]; omega) ?_
        intro fv' fc' va' co' ol' ne' P' R' h1 h2
        refine H fv' fc' va' co' ol' ne' P' R' (fun d hd => h1 d (by omega)) (fun d hd1 hd2 => ?_)
        by_cases y : d = c
        · subst y
          exact ⟨fun _ => h1 d (by omega), fun q => absurd z q⟩
        · exact h2 d (by omega) hd2
      · refine ih (c + 1) n (ol v) (fc - 1) (upd va v (ow (16 * t + c))) (upd co v cm) (upd ol v (ne c)) (upd ne c (nI v)) (vs_set (vs_set ch 16 F) c (v :: ch c)) (vs_set P c ((cm, ow (16 * t + c)) :: P c)) (by omega) (by omega) (vs_C_inst hc16 C hl) ?_ (by rw [vs_sn (show 16 ≠ c by omega), vs_ss]; omega) ?_
        · intro d hd
          by_cases y : d = c
          · subst y
            rw [vs_ss, vs_ss, List.map_cons, vs_map_upd (vd d hd), pk_us, pk_us, HP d hd]
          · rw [vs_sn y, vs_sn y, vs_sn (show d ≠ 16 by omega), vs_map_upd (vd d hd)]
            exact HP d hd
        · intro fv' fc' va' co' ol' ne' P' R' h1 h2
          refine H fv' fc' va' co' ol' ne' P' R' (fun d hd => ?_) (fun d hd1 hd2 => ?_)
          · rw [h1 d (by omega), vs_sn (show d ≠ c by omega)]
          · by_cases y : d = c
            · subst y
              refine ⟨fun q => absurd q z, fun _ => ?_⟩
              rw [h1 d (by omega), vs_ss]
            · have q := h2 d (by omega) hd2
              rw [vs_sn y] at q
              exact q
theorem vs_xi13 {post : SX → Prop} {t : Nat} (ht : t < 6) {k : Nat} {fv fc : Int32} {va co ol ne : Nat → Int32} {P : Nat → List (Int32 × Int32)} (R : vs_R fv fc va co ol ne P) (hf : ∀ ch, vs_C fv fc ol ne ch → (∀ d, d < 16 → P d = (ch d).map (fun v => (co v, va v))) → 16 ≤ (ch 16).length) (H : ∀ (fv' fc' : Int32) (va' co' ol' ne' : Nat → Int32) (P' : Nat → List (Int32 × Int32)), vs_R fv' fc' va' co' ol' ne' P' → (∀ d, d < 16 → (vs_z (wr t) d → P' d = P d) ∧ (¬ vs_z (wr t) d → P' d = (nI (k + 1), ow (16 * t + d)) :: P d)) → post (fv', fc', nI (k + 1), va', co', ol', ne', op, se, be, wr, sn, ow)) : wX_install_13 post (nI t) fv fc (nI k) va co ol ne op se be wr sn ow := by
  obtain ⟨ch, C, HP⟩ := R
  refine nm_r (nI_1 k) ⟨17, vs_xiL ht 16 0 17 fv fc va co ol ne ch P rfl (by omega) C HP (hf ch C HP) ?_⟩
  intro fv' fc' va' co' ol' ne' P' R' _ h2
  exact H fv' fc' va' co' ol' ne' P' R' (fun d hd => h2 d (Nat.zero_le d) hd)
/-- installing, tidied or not: the versions ahead are those of before, or what pruning leaves of them -/
theorem vs_xi {post : SX → Prop} {t : Nat} (ht : t < 6) {k : Nat} {fv fc : Int32} {va co ol ne : Nat → Int32} {P : Nat → List (Int32 × Int32)} (R : vs_R fv fc va co ol ne P) (so : ∀ d, d < 16 → vs_so (P d)) (H : ∀ (fv' fc' : Int32) (va' co' ol' ne' : Nat → Int32) (P1 P' : Nat → List (Int32 × Int32)), vs_R fv' fc' va' co' ol' ne' P' → (∀ d, d < 16 → P1 d = P d ∨ vs_T op be (P d) (P1 d)) → (∀ d, d < 16 → (vs_z (wr t) d → P' d = P1 d) ∧ (¬ vs_z (wr t) d → P' d = (nI (k + 1), ow (16 * t + d)) :: P1 d)) → post (fv', fc', nI (k + 1), va', co', ol', ne', op, se, be, wr, sn, ow)) : wpX_install post (fv, fc, nI k, va, co, ol, ne, op, se, be, wr, sn, ow) (nI t) := by
  refine br_c (fun z => ?_) (fun _ => ?_)
  · refine vs_xi13 ht R ?_ ?_
    · intro ch C _
      rw [C.2.2.1] at z
      exact (nI_leI (a := 16) (by decide) (by have := vs_D_len C.1 (c := 16) (by omega); omega)).mp z
    · intro fv' fc' va' co' ol' ne' P' R' h
      exact H fv' fc' va' co' ol' ne' P P' R' (fun _ _ => Or.inl rfl) h
  · refine vs_xt R ?_
    intro fv1 fc1 ol1 P1 R1 T1
    refine vs_xi13 ht R1 ?_ ?_
    · intro ch C HP
      have h17 : vs_sm (fun c => (ch c).length) 16 + (ch 16).length = 144 := C.1.2.2
      have hb : vs_sm (fun c => (ch c).length) 16 ≤ 16 * 7 := by
        apply vs_sm_b
        intro d hd
        have q := vs_T_len (so d hd) (T1 d hd)
        rw [HP d hd, List.length_map] at q
        exact q
      omega
    · intro fv' fc' va' co' ol' ne' P' R' h
      exact H fv' fc' va' co' ol' ne' P1 P' R' (fun d hd => Or.inr (T1 d hd)) h
end
end
section
/-! ===== the reference's walks ===== -/
theorem vs_nb1 : vp_nar .boolean 1 = 1 := rfl
theorem vs_nb0 : vp_nar .boolean 0 = 0 := rfl
section
variable {ym : Int32} {st wy op se bY vi wo ow lo : Nat → Int32}
theorem vs_yo1 {post : Int32 → Prop} {t : Nat} (ht : t < 6) (ho : ¬ op t = 0) (h : post 0) : wpY_bad post (ym, st, wy, op, se, bY, vi, wo, ow, lo) (nI t) :=
  br_f (nI_pos (by omega)) (br_f (nI_nlt (a := 5) (b := t) (by omega) (by decide)) ⟨vp_in_nI ht (by omega), br_f (by rw [nI_clamp (by omega)]; exact ho) h⟩)
theorem vs_yo0 {post : Int32 → Prop} {p0 : Int32} (hb : vs_bad op p0) (h : post 1) : wpY_bad post (ym, st, wy, op, se, bY, vi, wo, ow, lo) p0 := by
  refine br_c (fun _ => h) (fun h0 => br_c (fun _ => h) (fun h5 => ?_))
  obtain ⟨j, hj, rfl⟩ := nI_of2 (M := 5) (n := 5) (by decide) h0 (Int32.not_lt.mp h5)
  exact ⟨vp_in_nI (by omega) (by omega), br_t (by rw [nI_clamp (by omega)]; exact hb j (by omega) rfl) h⟩
theorem vs_yc1 {post : Int32 → Prop} {c : Nat} (hc : c < 16) (h : post 0) : wpY_badCell post (nI c) :=
  br_f (nI_pos (by omega)) (br_t (nI_le (a := c) (b := 15) (by omega) (by decide)) h)
theorem vs_yc0 {post : Int32 → Prop} {p0 : Int32} (hb : vs_badc p0) (h : post 1) : wpY_badCell post p0 := by
  refine br_c (fun _ => h) (fun h0 => br_c (fun h5 => ?_) (fun _ => h))
  obtain ⟨j, hj, rfl⟩ := nI_of2 (M := 15) (n := 15) (by decide) h0 h5
  exact absurd rfl (hb j (by omega))
theorem vs_ys {post : Int32 → Prop} {j : Nat} (hj : j < 96) (h1 : wo j = 0 → post (vi j)) (h2 : ¬ wo j = 0 → post (ow j)) : wpY_seen post (ym, st, wy, op, se, bY, vi, wo, ow, lo) (nI j) := by
  have e : (nI j).toNatClampNeg = j := nI_clamp (by omega)
  have i : vp_in (nI j) 96 := vp_in_nI hj (by omega)
  unfold wpY_seen
  simp only [e]
  exact ⟨i, br_c (fun z => ⟨i, h1 z⟩) (fun z => ⟨i, h2 z⟩)⟩
theorem vs_yr {post : Int32 → SY → Prop} {t c : Nat} (ht : t < 6) (ho : ¬ op t = 0) (hc : c < 16) (h1 : wo (16 * t + c) = 0 → post (vi (16 * t + c)) (ym, st, wy, op, se, bY, vi, wo, ow, upd lo (16 * t + c) 1)) (h2 : ¬ wo (16 * t + c) = 0 → post (ow (16 * t + c)) (ym, st, wy, op, se, bY, vi, wo, ow, lo)) : wpY_read post (ym, st, wy, op, se, bY, vi, wo, ow, lo) (nI t) (nI c) := by
  have e : (nI (16 * t + c)).toNatClampNeg = 16 * t + c := nI_clamp (by omega)
  have hj : 16 * t + c < 96 := by omega
  have i : vp_in (nI (16 * t + c)) 96 := vp_in_nI hj (by omega)
  unfold wpY_read
  dsimp only
  refine vs_yo1 ht ho (br_t rfl (vs_yc1 hc (br_t rfl (nm_r (vs_ix t c) ?_))))
  simp only [e, vs_nb1]
  refine ⟨i, br_c (fun z => ⟨i, nm_e ?_⟩) (fun z => ?_)⟩
  · exact vs_ys hj (fun _ => h1 z) (fun q => absurd z q)
  · exact vs_ys hj (fun q => absurd q z) (fun _ => h2 z)
theorem vs_yw {post : Int32 → SY → Prop} {t c : Nat} {x : Int32} (ht : t < 6) (ho : ¬ op t = 0) (hc : c < 16) (h : post 0 (ym, st, wy, op, se, bY, vi, upd wo (16 * t + c) 1, upd ow (16 * t + c) x, lo)) : wpY_write post (ym, st, wy, op, se, bY, vi, wo, ow, lo) (nI t) (nI c) x := by
  have e : (nI (16 * t + c)).toNatClampNeg = 16 * t + c := nI_clamp (by omega)
  have i : vp_in (nI (16 * t + c)) 96 := vp_in_nI (by omega) (by omega)
  unfold wpY_write
  dsimp only
  refine vs_yo1 ht ho (br_t rfl (vs_yc1 hc (br_t rfl (nm_r (vs_ix t c) ?_))))
  simp only [e, vs_nb1]
  exact ⟨i, nm_e ⟨i, nm_e h⟩⟩
theorem vs_ya {post : Int32 → SY → Prop} {t c : Nat} {x : Int32} (ht : t < 6) (ho : ¬ op t = 0) (hc : c < 16) (h1 : wo (16 * t + c) = 0 → post (vi (16 * t + c) + x) (ym, st, wy, op, se, bY, vi, upd wo (16 * t + c) 1, upd ow (16 * t + c) (vi (16 * t + c) + x), upd lo (16 * t + c) 1)) (h2 : ¬ wo (16 * t + c) = 0 → post (ow (16 * t + c) + x) (ym, st, wy, op, se, bY, vi, upd wo (16 * t + c) 1, upd ow (16 * t + c) (ow (16 * t + c) + x), lo)) : wpY_add post (ym, st, wy, op, se, bY, vi, wo, ow, lo) (nI t) (nI c) x := by
  unfold wpY_add
  dsimp only
  refine vs_yo1 ht ho (br_t rfl (vs_yc1 hc (br_t rfl (vs_yr ht ho hc (fun z => nm_e ?_) (fun z => nm_e ?_)))))
  · exact vs_yw ht ho hc (h1 z)
  · exact vs_yw ht ho hc (h2 z)
/-- whether the reference's transaction t is overtaken -/
def vs_oy (wo lo se bY wy : Nat → Int32) (t : Nat) : Prop := ∃ d, d < 16 ∧ ¬ (wo (16 * t + d) = 0 ∧ (¬ se t = 0 → lo (16 * t + d) = 0)) ∧ bY t < wy d
theorem vs_yv50 {post J : Int32 → Prop} {t c : Nat} {z0 : Int32} (ht : t < 6) (hc : c < 16) (ha : (z0 = 0 ∨ ¬ bY t < wy c) → J (nI (c + 1))) (hb : ¬ z0 = 0 → bY t < wy c → post 1) : wY_overtaken_50 post J (nI t) (nI c) z0 ym st wy op se bY vi wo ow lo := by
  have e : (nI c).toNatClampNeg = c := nI_clamp (by omega)
  have et : (nI t).toNatClampNeg = t := nI_clamp (by omega)
  unfold wY_overtaken_50
  simp only [e, et]
  exact br_c (fun z => nm_r (nI_1 c) (ha (Or.inl z))) (fun z => ⟨vp_in_nI hc (by omega), vp_in_nI ht (by omega), br_c (fun y => nm_r (nI_1 c) (ha (Or.inr (Int32.not_lt.mpr y)))) (fun y => hb z (Int32.not_le.mp y))⟩)
theorem vs_yvL {post : Int32 → Prop} {t : Nat} (ht : t < 6) : ∀ m c n, c + m = 16 → m < n → ((∃ d, c ≤ d ∧ d < 16 ∧ ¬ (wo (16 * t + d) = 0 ∧ (¬ se t = 0 → lo (16 * t + d) = 0)) ∧ bY t < wy d) → post 1) → ((¬ ∃ d, c ≤ d ∧ d < 16 ∧ ¬ (wo (16 * t + d) = 0 ∧ (¬ se t = 0 → lo (16 * t + d) = 0)) ∧ bY t < wy d) → post 0) → wY_overtaken_2 post (nI t) ym st wy op se bY vi wo ow lo n (nI c) := by
  intro m
  induction m with
  | zero =>
    intro c n hc hn h1 h0
    obtain ⟨n, rfl⟩ : ∃ n', n = n' + 1 := ⟨n - 1, by omega⟩
    refine br_t (nI_le (a := 16) (by omega) (by omega)) (h0 ?_)
    rintro ⟨d, h2, h3, _⟩
    omega
  | succ m ih =>
    intro c n hc hn h1 h0
    obtain ⟨n, rfl⟩ : ∃ n', n = n' + 1 := ⟨n - 1, by omega⟩
    have hc16 : c < 16 := by omega
    have e : (nI c).toNatClampNeg = c := nI_clamp (by omega)
    have et : (nI t).toNatClampNeg = t := nI_clamp (by omega)
    have i : vp_in ((16 : Int32) * nI t + nI c) 96 := vs_ixi ht hc16
    have it : vp_in (nI t) 6 := vp_in_nI ht (by omega)
    have next : ((wo (16 * t + c) = 0 ∧ (¬ se t = 0 → lo (16 * t + c) = 0)) ∨ ¬ bY t < wy c) → wY_overtaken_2 post (nI t) ym st wy op se bY vi wo ow lo n (nI (c + 1)) := by
      intro q
      refine ih (c + 1) n (by omega) (by omega) ?_ ?_
      · rintro ⟨d, h2, h3⟩
        exact h1 ⟨d, by omega, h3⟩
      · intro h
        refine h0 ?_
        rintro ⟨d, h2, h3, h4, h5⟩
        by_cases z : d = c
        · subst z
          rcases q with q | q
          · exact h4 q
          · exact q h5
        · exact h ⟨d, by omega, h3, h4, h5⟩
    have j0 : (wo (16 * t + c) = 0 ∧ (¬ se t = 0 → lo (16 * t + c) = 0)) → wY_overtaken_49 post (wY_overtaken_2 post (nI t) ym st wy op se bY vi wo ow lo n) (nI t) (nI c) ym st wy op se bY vi wo ow lo := fun q => vs_yv50 ht hc16 (fun _ => next (Or.inl q)) (fun z => absurd rfl z)
    have j1 : ¬ (wo (16 * t + c) = 0 ∧ (¬ se t = 0 → lo (16 * t + c) = 0)) → wY_overtaken_45 post (wY_overtaken_2 post (nI t) ym st wy op se bY vi wo ow lo n) (nI t) (nI c) ym st wy op se bY vi wo ow lo := fun q => vs_yv50 ht hc16 (fun y => next (Or.inr (y.resolve_left (by decide)))) (fun _ y => h1 ⟨c, Nat.le_refl c, hc16, q, y⟩)
    unfold wY_overtaken_2
    simp only [et, vs_ixc ht hc16]
    exact br_f (nI_ge (b := 16) hc16 (by decide)) ⟨i, br_c (fun z => ⟨it, br_c (fun y => j0 ⟨z, fun x => absurd y x⟩) (fun y => ⟨i, br_c (fun x => j0 ⟨z, fun _ => x⟩) (fun x => j1 (fun q => x (q.2 y)))⟩)⟩) (fun z => j1 (fun q => z q.1))⟩
theorem vs_yv {post : Int32 → Prop} {t : Nat} (ht : t < 6) (h1 : vs_oy wo lo se bY wy t → post 1) (h0 : ¬ vs_oy wo lo se bY wy t → post 0) : wpY_overtaken post (ym, st, wy, op, se, bY, vi, wo, ow, lo) (nI t) := by
  refine ⟨17, vs_yvL ht 16 0 17 rfl (by omega) ?_ ?_⟩
  · rintro ⟨d, _, h⟩
    exact h1 ⟨d, h⟩
  · intro h
    refine h0 ?_
    rintro ⟨d, q⟩
    exact h ⟨d, Nat.zero_le d, q⟩
end
section
variable {ym : Int32} {op se bY vi wo ow lo : Nat → Int32}
theorem vs_ymL {post : Int32 → SY → Prop} {t : Nat} (ht : t < 6) : ∀ (m c n : Nat) (st wy : Nat → Int32), c + m = 16 → m < n → (∀ st' wy' : Nat → Int32, (∀ d, d < c → st' d = st d ∧ wy' d = wy d) → (∀ d, c ≤ d → d < 16 → (wo (16 * t + d) = 0 → st' d = st d ∧ wy' d = wy d) ∧ (¬ wo (16 * t + d) = 0 → st' d = ow (16 * t + d) ∧ wy' d = ym)) → post 0 (ym, st', wy', op, se, bY, vi, wo, ow, lo)) → wY_commit_39 post (nI t) ym n (nI c) st wy op se bY vi wo ow lo := by
  intro m
  induction m with
  | zero =>
    intro c n st wy hc hn H
    obtain ⟨n, rfl⟩ : ∃ n', n = n' + 1 := ⟨n - 1, by omega⟩
    exact br_t (nI_le (a := 16) (by omega) (by omega)) (H st wy (fun _ _ => ⟨rfl, rfl⟩) (fun d h1 h2 => by omega))
  | succ m ih =>
    intro c n st wy hc hn H
    obtain ⟨n, rfl⟩ : ∃ n', n = n' + 1 := ⟨n - 1, by omega⟩
    have hc16 : c < 16 := by omega
    have e : (nI c).toNatClampNeg = c := nI_clamp (by omega)
    have i : vp_in ((16 : Int32) * nI t + nI c) 96 := vs_ixi ht hc16
    have ic : vp_in (nI c) 16 := vp_in_nI hc16 (by omega)
    unfold wY_commit_39
    simp only [e, vs_ixc ht hc16]
    refine br_f (nI_ge (b := 16) hc16 (by decide)) ⟨i, br_c (fun z => nm_r (nI_1 c) ?_) (fun z => ⟨i, ic, nm_e ⟨ic, nm_e (nm_r (nI_1 c) ?_)⟩⟩)⟩
    · refine ih (c + 1) n st wy (by omega) (by omega) ?_
      intro st' wy' h1 h2
      refine H st' wy' (fun d hd => h1 d (by omega)) (fun d hd1 hd2 => ?_)
      by_cases y : d = c
      · subst y
        exact ⟨fun _ => h1 d (by omega), fun q => absurd z q⟩
      · exact h2 d (by omega) hd2
    · refine ih (c + 1) n (upd st c (ow (16 * t + c))) (upd wy c ym) (by omega) (by omega) ?_
      intro st' wy' h1 h2
      refine H st' wy' (fun d hd => ?_) (fun d hd1 hd2 => ?_)
      · have q := h1 d (by omega)
        rw [pk_un (show d ≠ c by omega), pk_un (show d ≠ c by omega)] at q
        exact q
      · by_cases y : d = c
        · subst y
          have q := h1 d (by omega)
          rw [pk_us, pk_us] at q
          exact ⟨fun x => absurd x z, fun _ => q⟩
        · have q := h2 d (by omega) hd2
          rw [pk_un y, pk_un y] at q
          exact q
theorem vs_ym {post : Int32 → SY → Prop} {t k : Nat} {st wy : Nat → Int32} (ht : t < 6) (ho : ¬ op t = 0) (h1 : vs_oy wo lo se bY wy t → post 1 (nI k, st, wy, upd op t 0, se, bY, vi, wo, ow, lo)) (h0 : ¬ vs_oy wo lo se bY wy t → ∀ st' wy' : Nat → Int32, (∀ d, d < 16 → (wo (16 * t + d) = 0 → st' d = st d ∧ wy' d = wy d) ∧ (¬ wo (16 * t + d) = 0 → st' d = ow (16 * t + d) ∧ wy' d = nI (k + 1))) → post 0 (nI (k + 1), st', wy', upd op t 0, se, bY, vi, wo, ow, lo)) : wpY_commit post (nI k, st, wy, op, se, bY, vi, wo, ow, lo) (nI t) := by
  have e : (nI t).toNatClampNeg = t := nI_clamp (by omega)
  have i : vp_in (nI t) 6 := vp_in_nI ht (by omega)
  unfold wpY_commit
  dsimp only
  refine vs_yo1 ht ho (br_t rfl ?_)
  simp only [e, vs_nb0]
  refine ⟨i, nm_e (vs_yv ht (fun q => br_f (by decide) (h1 q)) (fun q => br_t rfl (nm_r (nI_1 k) ⟨17, ?_⟩)))⟩
  refine vs_ymL ht 16 0 17 st wy rfl (by omega) ?_
  intro st' wy' _ h2
  exact h0 q st' wy' (fun d hd => h2 d (Nat.zero_le d) hd)
end
section
variable {ym : Int32} {st wy op se bY ow : Nat → Int32}
theorem vs_yb43 {post : Int32 → SY → Prop} {t : Nat} (ht : t < 6) : ∀ (m c n : Nat) (vi wo lo : Nat → Int32), c + m = 16 → m < n → (∀ vi' wo' lo' : Nat → Int32, (∀ d, c ≤ d → d < 16 → vi' (16 * t + d) = st d ∧ wo' (16 * t + d) = 0 ∧ lo' (16 * t + d) = 0) → (∀ j, j < 16 * t + c ∨ 16 * t + 16 ≤ j → vi' j = vi j ∧ wo' j = wo j ∧ lo' j = lo j) → post (nI t) (ym, st, wy, op, se, bY, vi', wo', ow, lo')) → wY_begin_43 post (nI t) ym n (nI c) st wy op se bY vi wo ow lo := by
  intro m
  induction m with
  | zero =>
    intro c n vi wo lo hc hn H
    obtain ⟨n, rfl⟩ : ∃ n', n = n' + 1 := ⟨n - 1, by omega⟩
    exact br_t (nI_le (a := 16) (by omega) (by omega)) (H vi wo lo (fun d h1 h2 => by omega) (fun _ _ => ⟨rfl, rfl, rfl⟩))
  | succ m ih =>
    intro c n vi wo lo hc hn H
    obtain ⟨n, rfl⟩ : ∃ n', n = n' + 1 := ⟨n - 1, by omega⟩
    have hc16 : c < 16 := by omega
    have e : (nI c).toNatClampNeg = c := nI_clamp (by omega)
    have i : vp_in ((16 : Int32) * nI t + nI c) 96 := vs_ixi ht hc16
    have ic : vp_in (nI c) 16 := vp_in_nI hc16 (by omega)
    unfold wY_begin_43
    simp only [e, vs_ixc ht hc16, vs_nb0]
    refine br_f (nI_ge (b := 16) hc16 (by decide)) ⟨ic, i, nm_e ⟨i, nm_e ⟨i, nm_e (nm_r (nI_1 c) ?_)⟩⟩⟩
    refine ih (c + 1) n (upd vi (16 * t + c) (st c)) (upd wo (16 * t + c) 0) (upd lo (16 * t + c) 0) (by omega) (by omega) ?_
    intro vi' wo' lo' h1 h2
    refine H vi' wo' lo' (fun d hd1 hd2 => ?_) (fun j hj => ?_)
    · by_cases y : d = c
      · subst y
        have q := h2 (16 * t + d) (Or.inl (by omega))
        rw [pk_us, pk_us, pk_us] at q
        exact q
      · exact h1 d (by omega) hd2
    · have q := h2 j (by omega)
      rw [pk_un (show j ≠ 16 * t + c by omega), pk_un (show j ≠ 16 * t + c by omega), pk_un (show j ≠ 16 * t + c by omega)] at q
      exact q
theorem vs_ybA {post : Int32 → SY → Prop} {x1 : Int32} {vi wo lo : Nat → Int32} (ha : ∀ q, q < 6 → ¬ op q = 0) (h : post (-1) (ym, st, wy, op, se, bY, vi, wo, ow, lo)) : ∀ m s n, s + m = 6 → m < n → wY_begin_2 post x1 ym st wy op se bY vi wo ow lo n (nI s) := by
  intro m
  induction m with
  | zero =>
    intro s n hs hn
    obtain ⟨n, rfl⟩ : ∃ n', n = n' + 1 := ⟨n - 1, by omega⟩
    exact br_t (nI_le (a := 6) (by omega) (by omega)) h
  | succ m ih =>
    intro s n hs hn
    obtain ⟨n, rfl⟩ : ∃ n', n = n' + 1 := ⟨n - 1, by omega⟩
    exact br_f (nI_ge (b := 6) (by omega) (by decide)) ⟨vp_in_nI (by omega) (by omega), br_f (by rw [nI_clamp (by omega)]; exact ha s (by omega)) (nm_r (nI_1 s) (ih (s + 1) n (by omega) (by omega)))⟩
theorem vs_ybF {post : Int32 → SY → Prop} {x1 : Int32} {vi wo lo : Nat → Int32} {t : Nat} (ht : t < 6) (h0 : op t = 0) (ha : ∀ q, q < t → ¬ op q = 0) (H : ∀ vi' wo' lo' : Nat → Int32, (∀ d, d < 16 → vi' (16 * t + d) = st d ∧ wo' (16 * t + d) = 0 ∧ lo' (16 * t + d) = 0) → (∀ j, j < 16 * t ∨ 16 * t + 16 ≤ j → vi' j = vi j ∧ wo' j = wo j ∧ lo' j = lo j) → post (nI t) (ym, st, wy, upd op t 1, upd se t (vp_nar .boolean x1), upd bY t ym, vi', wo', ow, lo')) : ∀ m s n, s + m = t → m < n → wY_begin_2 post x1 ym st wy op se bY vi wo ow lo n (nI s) := by
  intro m
  induction m with
  | zero =>
    intro s n hs hn
    obtain ⟨n, rfl⟩ : ∃ n', n = n' + 1 := ⟨n - 1, by omega⟩
    obtain rfl : s = t := by omega
    have e : (nI s).toNatClampNeg = s := nI_clamp (by omega)
    have i : vp_in (nI s) 6 := vp_in_nI ht (by omega)
    unfold wY_begin_2
    simp only [e, vs_nb1]
    refine br_f (nI_ge (b := 6) (by omega) (by decide)) ⟨i, br_t h0 ⟨i, nm_e ⟨i, nm_e ⟨i, nm_e ⟨17, ?_⟩⟩⟩⟩⟩
    refine vs_yb43 ht 16 0 17 vi wo lo rfl (by omega) ?_
    intro vi' wo' lo' h1 h2
    exact H vi' wo' lo' (fun d hd => h1 d (Nat.zero_le d) hd) h2
  | succ m ih =>
    intro s n hs hn
    obtain ⟨n, rfl⟩ : ∃ n', n = n' + 1 := ⟨n - 1, by omega⟩
    exact br_f (nI_ge (b := 6) (by omega) (by decide)) ⟨vp_in_nI (by omega) (by omega), br_f (by rw [nI_clamp (by omega)]; exact ha s (by omega)) (nm_r (nI_1 s) (ih (s + 1) n (by omega) (by omega)))⟩
end
end
section
/-! ===== the class: its methods ===== -/
section
variable {fv fc cm : Int32} {va co ol ne op se be wr sn ow : Nat → Int32}
theorem vs_xr {post : Int32 → SX → Prop} {P : Nat → List (Int32 × Int32)} (R : vs_R fv fc va co ol ne P) {t c : Nat} (ht : t < 6) (ho : ¬ op t = 0) (hc : c < 16) (h1 : vs_z (wr t) c → post (vs_w (be t) (P c)) (fv, fc, cm, va, co, ol, ne, op, se, be, wr, upd sn t (sn t ||| ((1 : Int32) <<< (nI c &&& 31))), ow)) (h2 : ¬ vs_z (wr t) c → post (ow (16 * t + c)) (fv, fc, cm, va, co, ol, ne, op, se, be, wr, sn, ow)) : wpX_read post (fv, fc, cm, va, co, ol, ne, op, se, be, wr, sn, ow) (nI t) (nI c) := by
  unfold wpX_read
  dsimp only
  refine vs_xo1 ht ho (br_f (by decide) (vs_xc1 hc (br_f (by decide) ?_)))
  refine vs_xn ht (fun z => ?_) (fun z => ?_)
  · exact vs_xv R ht hc (fun _ => h1 z) (fun q => absurd z q)
  · exact vs_xv R ht hc (fun q => absurd q z) (fun _ => h2 z)
theorem vs_xw {post : Int32 → SX → Prop} {t c : Nat} {x : Int32} (ht : t < 6) (ho : ¬ op t = 0) (hc : c < 16) (h : post 0 (fv, fc, cm, va, co, ol, ne, op, se, be, upd wr t (wr t ||| ((1 : Int32) <<< (nI c &&& 31))), sn, upd ow (16 * t + c) x)) : wpX_write post (fv, fc, cm, va, co, ol, ne, op, se, be, wr, sn, ow) (nI t) (nI c) x := by
  have e : (nI t).toNatClampNeg = t := nI_clamp (by omega)
  have i : vp_in (nI t) 6 := vp_in_nI ht (by omega)
  unfold wpX_write
  simp only [e, vs_ixc ht hc]
  exact vs_xo1 ht ho (br_f (by decide) (vs_xc1 hc (br_f (by decide) ⟨vs_ixi ht hc, nm_e ⟨i, i, nm_e h⟩⟩)))
theorem vs_xd {post : Int32 → SX → Prop} {P : Nat → List (Int32 × Int32)} (R : vs_R fv fc va co ol ne P) {t c : Nat} {x : Int32} (ht : t < 6) (ho : ¬ op t = 0) (hc : c < 16) (h1 : vs_z (wr t) c → post (vs_w (be t) (P c) + x) (fv, fc, cm, va, co, ol, ne, op, se, be, upd wr t (wr t ||| ((1 : Int32) <<< (nI c &&& 31))), upd sn t (sn t ||| ((1 : Int32) <<< (nI c &&& 31))), upd ow (16 * t + c) (vs_w (be t) (P c) + x))) (h2 : ¬ vs_z (wr t) c → post (ow (16 * t + c) + x) (fv, fc, cm, va, co, ol, ne, op, se, be, upd wr t (wr t ||| ((1 : Int32) <<< (nI c &&& 31))), sn, upd ow (16 * t + c) (ow (16 * t + c) + x))) : wpX_add post (fv, fc, cm, va, co, ol, ne, op, se, be, wr, sn, ow) (nI t) (nI c) x := by
  unfold wpX_add
  dsimp only
  refine vs_xo1 ht ho (br_f (by decide) (vs_xc1 hc (br_f (by decide) ?_)))
  refine vs_xn ht (fun z => ?_) (fun z => ?_)
  · exact vs_xv R ht hc (fun _ => nm_e (vs_xw ht ho hc (h1 z))) (fun q => absurd z q)
  · exact vs_xv R ht hc (fun q => absurd q z) (fun _ => nm_e (vs_xw ht ho hc (h2 z)))
theorem vs_xab {post : Int32 → SX → Prop} {t : Nat} (ht : t < 6) (ho : ¬ op t = 0) (h : post 0 (fv, fc, cm, va, co, ol, ne, upd op t 0, se, be, wr, sn, ow)) : wpX_abort post (fv, fc, cm, va, co, ol, ne, op, se, be, wr, sn, ow) (nI t) := by
  have e : (nI t).toNatClampNeg = t := nI_clamp (by omega)
  have i : vp_in (nI t) 6 := vp_in_nI ht (by omega)
  unfold wpX_abort
  simp only [e, vs_nb0]
  exact vs_xo1 ht ho (br_f (by decide) ⟨i, nm_e h⟩)
theorem vs_xk {post : Int32 → SX → Prop} {k : Nat} {P : Nat → List (Int32 × Int32)} (R : vs_R fv fc va co ol ne P) (so : ∀ d, d < 16 → vs_so (P d)) {t : Nat} (ht : t < 6) (ho : ¬ op t = 0) (h1 : vs_ov P se be wr sn t → post 1 (fv, fc, nI k, va, co, ol, ne, upd op t 0, se, be, wr, sn, ow)) (h2 : ¬ vs_ov P se be wr sn t → wr t = 0 → post 0 (fv, fc, nI k, va, co, ol, ne, upd op t 0, se, be, wr, sn, ow)) (h3 : ¬ vs_ov P se be wr sn t → ∀ (fv' fc' : Int32) (va' co' ol' ne' : Nat → Int32) (P1 P' : Nat → List (Int32 × Int32)), vs_R fv' fc' va' co' ol' ne' P' → (∀ d, d < 16 → P1 d = P d ∨ vs_T (upd op t 0) be (P d) (P1 d)) → (∀ d, d < 16 → (vs_z (wr t) d → P' d = P1 d) ∧ (¬ vs_z (wr t) d → P' d = (nI (k + 1), ow (16 * t + d)) :: P1 d)) → post 0 (fv', fc', nI (k + 1), va', co', ol', ne', upd op t 0, se, be, wr, sn, ow)) : wpX_commit post (fv, fc, nI k, va, co, ol, ne, op, se, be, wr, sn, ow) (nI t) := by
  have e : (nI t).toNatClampNeg = t := nI_clamp (by omega)
  have i : vp_in (nI t) 6 := vp_in_nI ht (by omega)
  unfold wpX_commit
  simp only [e, vs_nb0]
  refine vs_xo1 ht ho (br_f (by decide) (vs_xm R ht (fun q => ⟨i, nm_e (br_t rfl (h1 q))⟩) (fun q => ⟨i, nm_e (br_f (by decide) ⟨i, br_c (fun z => h2 q z) (fun _ => ?_)⟩)⟩)))
  exact vs_xi ht R so (h3 q)
theorem vs_xbA {post : Int32 → SX → Prop} {x1 : Int32} (ha : ∀ q, q < 6 → ¬ op q = 0) (h : post (-1) (fv, fc, cm, va, co, ol, ne, op, se, be, wr, sn, ow)) : ∀ m s n, s + m = 6 → m < n → wX_begin_2 post x1 fv fc cm va co ol ne op se be wr sn ow n (nI s) := by
  intro m
  induction m with
  | zero =>
    intro s n hs hn
    obtain ⟨n, rfl⟩ : ∃ n', n = n' + 1 := ⟨n - 1, by omega⟩
    exact br_t (nI_le (a := 6) (by omega) (by omega)) h
  | succ m ih =>
    intro s n hs hn
    obtain ⟨n, rfl⟩ : ∃ n', n = n' + 1 := ⟨n - 1, by omega⟩
    exact br_f (nI_ge (b := 6) (by omega) (by decide)) ⟨vp_in_nI (by omega) (by omega), br_f (by rw [nI_clamp (by omega)]; exact ha s (by omega)) (nm_r (nI_1 s) (ih (s + 1) n (by omega) (by omega)))⟩
theorem vs_xbF {post : Int32 → SX → Prop} {x1 : Int32} {t : Nat} (ht : t < 6) (h0 : op t = 0) (ha : ∀ q, q < t → ¬ op q = 0) (H : post (nI t) (fv, fc, cm, va, co, ol, ne, upd op t 1, upd se t (vp_nar .boolean x1), upd be t cm, upd wr t 0, upd sn t 0, ow)) : ∀ m s n, s + m = t → m < n → wX_begin_2 post x1 fv fc cm va co ol ne op se be wr sn ow n (nI s) := by
  intro m
  induction m with
  | zero =>
    intro s n hs hn
    obtain ⟨n, rfl⟩ : ∃ n', n = n' + 1 := ⟨n - 1, by omega⟩
    obtain rfl : s = t := by omega
    have e : (nI s).toNatClampNeg = s := nI_clamp (by omega)
    have i : vp_in (nI s) 6 := vp_in_nI ht (by omega)
    unfold wX_begin_2
    simp only [e, vs_nb1]
    exact br_f (nI_ge (b := 6) (by omega) (by decide)) ⟨i, br_t h0 ⟨i, nm_e ⟨i, nm_e ⟨i, nm_e ⟨i, nm_e ⟨i, nm_e H⟩⟩⟩⟩⟩⟩
  | succ m ih =>
    intro s n hs hn
    obtain ⟨n, rfl⟩ : ∃ n', n = n' + 1 := ⟨n - 1, by omega⟩
    exact br_f (nI_ge (b := 6) (by omega) (by decide)) ⟨vp_in_nI (by omega) (by omega), br_f (by rw [nI_clamp (by omega)]; exact ha s (by omega)) (nm_r (nI_1 s) (ih (s + 1) n (by omega) (by omega)))⟩
end
theorem vs_first (op : Nat → Int32) : ∀ n, (∀ q, q < n → ¬ op q = 0) ∨ ∃ t, t < n ∧ op t = 0 ∧ ∀ q, q < t → ¬ op q = 0
  | 0 => Or.inl (fun q h => absurd h (Nat.not_lt_zero q))
  | n + 1 => by
    rcases vs_first op n with h | ⟨t, h1, h2⟩
    · by_cases z : op n = 0
      · exact Or.inr ⟨n, by omega, z, h⟩
      · refine Or.inl (fun q hq => ?_)
        by_cases y : q = n
        · subst y
          exact z
        · exact h q (by omega)
    · exact Or.inr ⟨t, by omega, h2⟩
/-! ===== both sides at once: sum, open ===== -/
section
variable {fv fc cm ym : Int32} {va co ol ne op se be wr sn ow st wy bY vi wo lo : Nat → Int32}
theorem vs_suL {t : Nat} {a b : Int32} {V : Nat → Int32} (hX : ∀ c, c < 16 → ∀ post : Int32 → Prop, post (V c) → wpX_visible post (fv, fc, cm, va, co, ol, ne, op, se, be, wr, sn, ow) (nI t) (nI c)) (hY : ∀ c, c < 16 → ∀ post : Int32 → Prop, post (V c) → wpY_seen post (ym, st, wy, op, se, bY, vi, wo, ow, lo) (16 * nI t + nI c)) : ∀ (m c : Nat) (x : Int32), c + m = 16 → ∃ r : Int32, (∀ post : Int32 → Prop, post r → wX_sum_16 post (nI t) a b fv fc cm va co ol ne op se be wr sn ow (m + 1) x (nI c)) ∧ (∀ post : Int32 → Prop, post r → wY_sum_16 post (nI t) a b ym st wy op se bY vi wo ow lo (m + 1) x (nI c)) := by
  intro m
  induction m with
  | zero =>
    intro c x hc
    have h : (16 : Int32) ≤ nI c := nI_le (a := 16) (by omega) (by omega)
    exact ⟨x, fun _ hp => br_t h hp, fun _ hp => br_t h hp⟩
  | succ m ih =>
    intro c x hc
    have h : ¬ (16 : Int32) ≤ nI c := nI_ge (b := 16) (by omega) (by decide)
    by_cases h1 : nI c < a
    · obtain ⟨r, hx, hy⟩ := ih (c + 1) x (by omega)
      exact ⟨r, fun _ hp => br_f h (br_t h1 (nm_r (nI_1 c) (hx _ hp))), fun _ hp => br_f h (br_t h1 (nm_r (nI_1 c) (hy _ hp)))⟩
    · by_cases h2 : b < nI c
      · obtain ⟨r, hx, hy⟩ := ih (c + 1) x (by omega)
        exact ⟨r, fun _ hp => br_f h (br_f h1 (br_t h2 (nm_r (nI_1 c) (hx _ hp)))), fun _ hp => br_f h (br_f h1 (br_t h2 (nm_r (nI_1 c) (hy _ hp))))⟩
      · obtain ⟨r, hx, hy⟩ := ih (c + 1) (x + V c) (by omega)
        exact ⟨r, fun _ hp => br_f h (br_f h1 (br_f h2 (hX c (by omega) _ (nm_e (nm_r (nI_1 c) (hx _ hp)))))), fun _ hp => br_f h (br_f h1 (br_f h2 (hY c (by omega) _ (nm_e (nm_r (nI_1 c) (hy _ hp))))))⟩
theorem vs_opL : ∀ (m t : Nat) (x : Int32), t + m = 6 → ∃ r : Int32, (∀ post : Int32 → Prop, post r → wX_open_4 post fv fc cm va co ol ne op se be wr sn ow (m + 1) x (nI t)) ∧ (∀ post : Int32 → Prop, post r → wY_open_4 post ym st wy op se bY vi wo ow lo (m + 1) x (nI t)) := by
  intro m
  induction m with
  | zero =>
    intro t x ht
    have h : (6 : Int32) ≤ nI t := nI_le (a := 6) (by omega) (by omega)
    exact ⟨x, fun _ hp => br_t h hp, fun _ hp => br_t h hp⟩
  | succ m ih =>
    intro t x ht
    have h : ¬ (6 : Int32) ≤ nI t := nI_ge (b := 6) (by omega) (by decide)
    have i : vp_in (nI t) 6 := vp_in_nI (by omega) (by omega)
    by_cases z : op (nI t).toNatClampNeg = 0
    · obtain ⟨r, hx, hy⟩ := ih (t + 1) x (by omega)
      exact ⟨r, fun _ hp => br_f h ⟨i, br_t z (nm_r (Int32.add_zero x) (nm_r (nI_1 t) (hx _ hp)))⟩, fun _ hp => br_f h ⟨i, br_t z (nm_r (nI_1 t) (hy _ hp))⟩⟩
    · obtain ⟨r, hx, hy⟩ := ih (t + 1) (x + 1) (by omega)
      exact ⟨r, fun _ hp => br_f h ⟨i, br_f z (nm_e (nm_r (nI_1 t) (hx _ hp)))⟩, fun _ hp => br_f h ⟨i, br_f z (nm_e (nm_r (nI_1 t) (hy _ hp)))⟩⟩
end
/-! ===== the class: its constructor ===== -/
section
variable {fv fc cm : Int32} {va co op se be wr sn ow : Nat → Int32}
theorem vs_x131 {post : SX → Prop} {ol : Nat → Int32} : ∀ (m c n : Nat) (ne : Nat → Int32), c + m = 16 → m < n → (∀ ne' : Nat → Int32, (∀ d, d < c → ne' d = ne d) → (∀ d, c ≤ d → d < 16 → ne' d = -1) → post (fv, fc, cm, va, co, ol, ne', op, se, be, wr, sn, ow)) → wX_init_131 post fv fc cm n (nI c) va co ol ne op se be wr sn ow := by
  intro m
  induction m with
  | zero =>
    intro c n ne hc hn H
    obtain ⟨n, rfl⟩ : ∃ n', n = n' + 1 := ⟨n - 1, by omega⟩
    exact br_t (nI_le (a := 16) (by omega) (by omega)) (H ne (fun _ _ => rfl) (fun d h1 h2 => by omega))
  | succ m ih =>
    intro c n ne hc hn H
    obtain ⟨n, rfl⟩ : ∃ n', n = n' + 1 := ⟨n - 1, by omega⟩
    have e : (nI c).toNatClampNeg = c := nI_clamp (by omega)
    unfold wX_init_131
    simp only [e]
    refine br_f (nI_ge (b := 16) (by omega) (by decide)) ⟨vp_in_nI (by omega) (by omega), nm_e (nm_r (nI_1 c) ?_)⟩
    refine ih (c + 1) n (upd ne c (-1)) (by omega) (by omega) ?_
    intro ne' h1 h2
    refine H ne' (fun d hd => ?_) (fun d hd1 hd2 => ?_)
    · rw [h1 d (by omega), pk_un (by omega)]
    · by_cases y : d = c
      · subst y
        rw [h1 d (by omega), pk_us]
      · exact h2 d (by omega) hd2
theorem vs_x89 {post : SX → Prop} {ne : Nat → Int32} : ∀ (m v n : Nat) (ol : Nat → Int32), v + m = 144 → m < n → (∀ ol' : Nat → Int32, (∀ d, d < v → ol' d = ol d) → (∀ d, v ≤ d → d < 143 → ol' d = nI (d + 1)) → (v ≤ 143 → ol' 143 = -1) → ∃ n131 : Nat, wX_init_131 post fv 144 cm n131 0 va co ol' ne op se be wr sn ow) → wX_init_89 post fv fc cm n (nI v) va co ol ne op se be wr sn ow := by
  intro m
  induction m with
  | zero =>
    intro v n ol hv hn H
    obtain ⟨n, rfl⟩ : ∃ n', n = n' + 1 := ⟨n - 1, by omega⟩
    exact br_t (nI_le (a := 144) (by omega) (by omega)) (H ol (fun _ _ => rfl) (fun d h1 h2 => by omega) (fun h => by omega))
  | succ m ih =>
    intro v n ol hv hn H
    obtain ⟨n, rfl⟩ : ∃ n', n = n' + 1 := ⟨n - 1, by omega⟩
    have e : (nI v).toNatClampNeg = v := nI_clamp (by omega)
    have i : vp_in (nI v) 144 := vp_in_nI (by omega) (by omega)
    unfold wX_init_89
    simp only [e]
    refine br_f (nI_ge (b := 144) (by omega) (by decide)) (br_c (fun z => ⟨i, nm_e (nm_r (nI_1 v) ?_)⟩) (fun z => ⟨i, nm_r (e' := upd ol v (nI (v + 1))) (by rw [nI_1]) (nm_r (nI_1 v) ?_)⟩))
    · have z' : v = 143 := (nI_eq (b := 143) (by omega) (by decide)).mp z
      subst z'
      refine ih (143 + 1) n (upd ol 143 (-1)) (by omega) (by omega) ?_
      intro ol' h1 _ _
      refine H ol' (fun d hd => ?_) (fun d hd1 hd2 => by omega) (fun _ => ?_)
      · rw [h1 d (by omega), pk_un (by omega)]
      · rw [h1 143 (by omega), pk_us]
    · have z' : v ≠ 143 := fun q => z (by rw [q]; rfl)
      refine ih (v + 1) n (upd ol v (nI (v + 1))) (by omega) (by omega) ?_
      intro ol' h1 h2 h3
      refine H ol' (fun d hd => ?_) (fun d hd1 hd2 => ?_) (fun h => h3 (by omega))
      · rw [h1 d (by omega), pk_un (by omega)]
      · by_cases y : d = v
        · subst y
          rw [h1 d (by omega), pk_us]
        · exact h2 d (by omega) hd2
end
/-- the lists of a new store -/
def vs_c0 (c : Nat) : List Nat := if c = 16 then List.range' 0 144 else []
theorem vs_ch0 {ol : Nat → Int32} (h1 : ∀ d, d < 143 → ol d = nI (d + 1)) (h2 : ol 143 = -1) : ∀ m v, v + m = 143 → vs_ch ol (List.range' v (m + 1)) (nI v) := by
  intro m
  induction m with
  | zero =>
    intro v hv
    obtain rfl : v = 143 := by omega
    exact ⟨rfl, by omega, h2⟩
  | succ m ih =>
    intro v hv
    refine ⟨rfl, by omega, ?_⟩
    rw [h1 v (by omega)]
    exact ih (v + 1) (by omega)
theorem vs_R0 {va co ol ne : Nat → Int32} (h1 : ∀ d, d < 143 → ol d = nI (d + 1)) (h2 : ol 143 = -1) (h3 : ∀ d, d < 16 → ne d = -1) : vs_R 0 144 va co ol ne (fun _ => []) := by
  have e16 : vs_c0 16 = List.range' 0 144 := if_pos rfl
  have eo : ∀ c, c ≠ 16 → vs_c0 c = [] := fun c h => if_neg h
  refine ⟨vs_c0, ⟨⟨?_, ?_, ?_⟩, ?_, ?_, ?_⟩, ?_⟩
  · intro c hc
    by_cases z : c = 16
    · rw [z, e16]
      exact List.nodup_range'
    · rw [eo c z]
      exact List.nodup_nil
  · intro c d v hc hd hv hw
    by_cases z : c = 16
    · by_cases y : d = 16
      · rw [z, y]
      · rw [eo d y] at hw
        exact absurd hw List.not_mem_nil
    · rw [eo c z] at hv
      exact absurd hv List.not_mem_nil
  · rfl
  · rw [e16]
    exact vs_ch0 h1 h2 143 0 rfl
  · rw [e16, List.length_range']
    rfl
  · intro c hc
    rw [eo c (by omega)]
    exact h3 c hc
  · intro c hc
    rw [eo c (by omega)]
    rfl
end
section
/-! ===== the relation, and what each call does to it ===== -/
/-- cm, ym: the two counts of commits; every cell, and every open transaction's sight of every cell -/
def vs_G (cm ym : Nat) (op be wr sn st wy bY vi wo lo : Nat → Int32) (P : Nat → List (Int32 × Int32)) : Prop := (∀ c, c < 16 → vs_Gc cm ym (P c) (st c) (wy c)) ∧ (∀ t, t < 6 → ¬ op t = 0 → be t ≤ nI cm ∧ bY t ≤ nI ym ∧ ∀ c, c < 16 → vs_Gv (P c) (be t) (bY t) (vi (16 * t + c)) (wy c) ∧ (vs_z (wr t) c ↔ wo (16 * t + c) = 0) ∧ (vs_z (sn t) c ↔ lo (16 * t + c) = 0))
theorem vs_bit {w : Int32} {f : Nat → Int32} {t c : Nat} (hc : c < 16) (h : ∀ d, d < 16 → (vs_z w d ↔ f (16 * t + d) = 0)) : ∀ d, d < 16 → (vs_z (w ||| ((1 : Int32) <<< (nI c &&& 31))) d ↔ upd f (16 * t + c) 1 (16 * t + d) = 0) := by
  intro d hd
  rw [vs_z_or (by omega), vs_z_bit (by omega) (by omega)]
  by_cases e : d = c
  · subst e
    rw [pk_us]
    exact iff_of_false (fun q => q.2 rfl) (by decide)
  · rw [pk_un (by omega), ← h d hd]
    exact ⟨fun q => q.1, fun q => ⟨q, fun y => e y.symm⟩⟩
section
variable {cm ym : Nat} {op be wr sn st wy bY vi wo lo : Nat → Int32} {P : Nat → List (Int32 × Int32)}
theorem vs_G_sn {t c : Nat} (ht : t < 6) (hc : c < 16) (g : vs_G cm ym op be wr sn st wy bY vi wo lo P) : vs_G cm ym op be wr (upd sn t (sn t ||| ((1 : Int32) <<< (nI c &&& 31)))) st wy bY vi wo (upd lo (16 * t + c) 1) P := by
  refine ⟨g.1, fun s hs ho => ?_⟩
  obtain ⟨h1, h2, h3⟩ := g.2 s hs ho
  refine ⟨h1, h2, fun d hd => ⟨(h3 d hd).1, (h3 d hd).2.1, ?_⟩⟩
  by_cases e : s = t
  · subst e
    rw [pk_us]
    exact vs_bit hc (fun d hd => (h3 d hd).2.2) d hd
  · rw [pk_un e, pk_un (show 16 * s + d ≠ 16 * t + c by omega)]
    exact (h3 d hd).2.2
theorem vs_G_wr {t c : Nat} (ht : t < 6) (hc : c < 16) (g : vs_G cm ym op be wr sn st wy bY vi wo lo P) : vs_G cm ym op be (upd wr t (wr t ||| ((1 : Int32) <<< (nI c &&& 31)))) sn st wy bY vi (upd wo (16 * t + c) 1) lo P := by
  refine ⟨g.1, fun s hs ho => ?_⟩
  obtain ⟨h1, h2, h3⟩ := g.2 s hs ho
  refine ⟨h1, h2, fun d hd => ⟨(h3 d hd).1, ?_, (h3 d hd).2.2⟩⟩
  by_cases e : s = t
  · subst e
    rw [pk_us]
    exact vs_bit hc (fun d hd => (h3 d hd).2.1) d hd
  · rw [pk_un e, pk_un (show 16 * s + d ≠ 16 * t + c by omega)]
    exact (h3 d hd).2.1
theorem vs_G_cl {t : Nat} (g : vs_G cm ym op be wr sn st wy bY vi wo lo P) : vs_G cm ym (upd op t 0) be wr sn st wy bY vi wo lo P := by
  refine ⟨g.1, fun s hs ho => ?_⟩
  by_cases e : s = t
  · subst e
    rw [pk_us] at ho
    exact absurd rfl ho
  · rw [pk_un e] at ho
    exact g.2 s hs ho
theorem vs_G_be {t : Nat} {vi' wo' lo' : Nat → Int32} (ht : t < 6) (h1 : ∀ d, d < 16 → vi' (16 * t + d) = st d ∧ wo' (16 * t + d) = 0 ∧ lo' (16 * t + d) = 0) (h2 : ∀ j, j < 16 * t ∨ 16 * t + 16 ≤ j → vi' j = vi j ∧ wo' j = wo j ∧ lo' j = lo j) (g : vs_G cm ym op be wr sn st wy bY vi wo lo P) : vs_G cm ym (upd op t 1) (upd be t (nI cm)) (upd wr t 0) (upd sn t 0) st wy (upd bY t (nI ym)) vi' wo' lo' P := by
  refine ⟨g.1, fun s hs ho => ?_⟩
  by_cases e : s = t
  · subst e
    rw [pk_us, pk_us, pk_us, pk_us]
    refine ⟨Int32.le_refl _, Int32.le_refl _, fun d hd => ?_⟩
    obtain ⟨q1, q2, q3⟩ := h1 d hd
    rw [q1, q2, q3]
    exact ⟨vs_Gv_be (g.1 d hd), iff_of_true (vs_z0 d (by omega)) rfl, iff_of_true (vs_z0 d (by omega)) rfl⟩
  · rw [pk_un e] at ho
    rw [pk_un e, pk_un e, pk_un e, pk_un e]
    obtain ⟨q1, q2, q3⟩ := g.2 s hs ho
    refine ⟨q1, q2, fun d hd => ?_⟩
    obtain ⟨p1, p2, p3⟩ := h2 (16 * s + d) (by omega)
    rw [p1, p2, p3]
    exact q3 d hd
theorem vs_G_T {P' : Nat → List (Int32 × Int32)} (h : ∀ d, d < 16 → P' d = P d ∨ vs_T op be (P d) (P' d)) (g : vs_G cm ym op be wr sn st wy bY vi wo lo P) : vs_G cm ym op be wr sn st wy bY vi wo lo P' := by
  refine ⟨fun d hd => ?_, fun s hs ho => ?_⟩
  · rcases h d hd with q | q
    · rw [q]
      exact g.1 d hd
    · exact vs_Gc_T q (g.1 d hd)
  · obtain ⟨q1, q2, q3⟩ := g.2 s hs ho
    refine ⟨q1, q2, fun d hd => ⟨?_, (q3 d hd).2⟩⟩
    rcases h d hd with q | q
    · rw [q]
      exact (q3 d hd).1
    · exact vs_Gv_T hs ho q (q3 d hd).1
theorem vs_G_ym {st' wy' : Nat → Int32} (hc : cm < 4096) (hy : ym + 1 < 4096) (h : ∀ d, d < 16 → st' d = st d ∧ wy' d = wy d) (g : vs_G cm ym op be wr sn st wy bY vi wo lo P) : vs_G cm (ym + 1) op be wr sn st' wy' bY vi wo lo P := by
  refine ⟨fun d hd => ?_, fun s hs ho => ?_⟩
  · rw [(h d hd).1, (h d hd).2]
    exact vs_Gc_up hc hy (Nat.le_refl _) (by omega) (g.1 d hd)
  · obtain ⟨q1, q2, q3⟩ := g.2 s hs ho
    refine ⟨q1, vs_le1 hy (by omega) q2, fun d hd => ?_⟩
    rw [(h d hd).2]
    exact q3 d hd
theorem vs_G_cm {st' wy' : Nat → Int32} {P' : Nat → List (Int32 × Int32)} {z : Nat → Prop} {x : Nat → Int32} (hc : cm + 1 < 4096) (hy : ym + 1 < 4096) (hP : ∀ d, d < 16 → (z d → P' d = P d) ∧ (¬ z d → P' d = (nI (cm + 1), x d) :: P d)) (h : ∀ d, d < 16 → (z d → st' d = st d ∧ wy' d = wy d) ∧ (¬ z d → st' d = x d ∧ wy' d = nI (ym + 1))) (g : vs_G cm ym op be wr sn st wy bY vi wo lo P) : vs_G (cm + 1) (ym + 1) op be wr sn st' wy' bY vi wo lo P' := by
  refine ⟨fun d hd => ?_, fun s hs ho => ?_⟩
  · by_cases e : z d
    · rw [((h d hd).1 e).1, ((h d hd).1 e).2, (hP d hd).1 e]
      exact vs_Gc_up hc hy (by omega) (by omega) (g.1 d hd)
    · rw [((h d hd).2 e).1, ((h d hd).2 e).2, (hP d hd).2 e]
      exact vs_Gc_in (x d) hc (g.1 d hd)
  · obtain ⟨q1, q2, q3⟩ := g.2 s hs ho
    refine ⟨vs_le1 hc (by omega) q1, vs_le1 hy (by omega) q2, fun d hd => ⟨?_, (q3 d hd).2⟩⟩
    by_cases e : z d
    · rw [((h d hd).1 e).2, (hP d hd).1 e]
      exact (q3 d hd).1
    · rw [((h d hd).2 e).2, (hP d hd).2 e]
      exact vs_Gv_in (x d) (by omega) (by omega) q1 q2 (q3 d hd).1
theorem vs_G_ov {se : Nat → Int32} {t : Nat} (ht : t < 6) (ho : ¬ op t = 0) (g : vs_G cm ym op be wr sn st wy bY vi wo lo P) : vs_ov P se be wr sn t ↔ vs_oy wo lo se bY wy t := by
  obtain ⟨_, _, q⟩ := g.2 t ht ho
  constructor
  · rintro ⟨d, hd, h1, h2⟩
    obtain ⟨p1, p2, p3⟩ := q d hd
    rw [p2, p3] at h1
    exact ⟨d, hd, h1, p1.2.mp h2⟩
  · rintro ⟨d, hd, h1, h2⟩
    obtain ⟨p1, p2, p3⟩ := q d hd
    rw [← p2, ← p3] at h1
    exact ⟨d, hd, h1, p1.2.mpr h2⟩
theorem vs_G0 : vs_G 0 0 (fun _ => 0) (fun _ => 0) (fun _ => 0) (fun _ => 0) (fun _ => 0) (fun _ => 0) (fun _ => 0) (fun _ => 0) (fun _ => 0) (fun _ => 0) (fun _ => []) :=
  ⟨fun _ _ => ⟨List.Pairwise.nil, fun _ h => absurd h List.not_mem_nil, rfl, Int32.le_refl _⟩, fun _ _ h => absurd rfl h⟩
end
def vs_J (k : Nat) (fv fc cI : Int32) (va co ol ne op se be wr sn ow : Nat → Int32) (yI : Int32) (st wy op' se' bY vi wo ow' lo : Nat → Int32) : Prop := op' = op ∧ se' = se ∧ ow' = ow ∧ ∃ (cm ym : Nat) (P : Nat → List (Int32 × Int32)), cI = nI cm ∧ yI = nI ym ∧ cm ≤ k ∧ ym ≤ k ∧ vs_R fv fc va co ol ne P ∧ vs_G cm ym op be wr sn st wy bY vi wo lo P
/-- the relation at the head of a turn -/
def i_Rel (k : Nat) (u : SX) (v : SY) : Prop := match u, v with
  | (fv, fc, cI, va, co, ol, ne, op, se, be, wr, sn, ow), (yI, st, wy, op', se', bY, vi, wo, ow', lo) => vs_J k fv fc cI va co ol ne op se be wr sn ow yI st wy op' se' bY vi wo ow' lo
theorem vs_el {k : Nat} {u : SX} {v : SY} {Q : SX → SY → Prop} (I : i_Rel k u v) (h : ∀ (fv fc : Int32) (va co ol ne op se be wr sn ow st wy bY vi wo lo : Nat → Int32) (cm ym : Nat) (P : Nat → List (Int32 × Int32)), cm ≤ k → ym ≤ k → vs_R fv fc va co ol ne P → vs_G cm ym op be wr sn st wy bY vi wo lo P → Q (fv, fc, nI cm, va, co, ol, ne, op, se, be, wr, sn, ow) (nI ym, st, wy, op, se, bY, vi, wo, ow, lo)) : Q u v := by
  obtain ⟨fv, fc, cI, va, co, ol, ne, op, se, be, wr, sn, ow⟩ := u
  obtain ⟨yI, st, wy, op', se', bY, vi, wo, ow', lo⟩ := v
  have I' : vs_J k fv fc cI va co ol ne op se be wr sn ow yI st wy op' se' bY vi wo ow' lo := I
  obtain ⟨e1, e2, e3, cm, ym, P, e4, e5, h1, h2, R, g⟩ := I'
  subst e1 e2 e3 e4 e5
  exact h fv fc va co ol ne _ _ be wr sn _ st wy bY vi wo lo cm ym P h1 h2 R g
theorem vs_in {k : Nat} {fv fc : Int32} {va co ol ne op se be wr sn ow st wy bY vi wo lo : Nat → Int32} {cm ym : Nat} {P : Nat → List (Int32 × Int32)} (h1 : cm ≤ k) (h2 : ym ≤ k) (R : vs_R fv fc va co ol ne P) (g : vs_G cm ym op be wr sn st wy bY vi wo lo P) : i_Rel k (fv, fc, nI cm, va, co, ol, ne, op, se, be, wr, sn, ow) (nI ym, st, wy, op, se, bY, vi, wo, ow, lo) :=
  ⟨rfl, rfl, rfl, cm, ym, P, rfl, rfl, h1, h2, R, g⟩
theorem i_up {k : Nat} {u : SX} {v : SY} (h : i_Rel k u v) : i_Rel (k + 4) u v := by
  refine vs_el (Q := fun u v => i_Rel (k + 4) u v) h ?_
  intro fv fc va co ol ne op se be wr sn ow st wy bY vi wo lo cm ym P h1 h2 R g
  exact vs_in (by omega) (by omega) R g
end
section
/-! ===== what is owed ===== -/
theorem i_vc0 : wpX_init (fun u => wpY_init (fun v => i_Rel 0 u v)) := by
  refine ⟨145, vs_x89 144 0 145 (fun _ => 0) rfl (by omega) ?_⟩
  intro ol _ h1 h2
  refine ⟨17, vs_x131 16 0 17 (fun _ => 0) rfl (by omega) ?_⟩
  intro ne _ h3
  exact vs_in (cm := 0) (ym := 0) (Nat.le_refl 0) (Nat.le_refl 0) (vs_R0 (fun d hd => h1 d (Nat.zero_le d) hd) (h2 (by omega)) (fun d hd => h3 d (Nat.zero_le d) hd)) vs_G0
theorem i_vc_begin {k : Nat} {u : SX} {v : SY} (I : i_Rel k u v) (hk : k + 4 ≤ 2048) (v1 : Int32) : wpX_begin (fun r u' => wpY_begin (fun r' v' => r' = r ∧ i_Rel (k + 4) u' v') v (lw_bz v1)) u (lw_bz v1) := by
  refine vs_el (Q := fun u v => wpX_begin (fun r u' => wpY_begin (fun r' v' => r' = r ∧ i_Rel (k + 4) u' v') v (lw_bz v1)) u (lw_bz v1)) I ?_
  intro fv fc va co ol ne op se be wr sn ow st wy bY vi wo lo cm ym P h1 h2 R g
  rcases vs_first op 6 with ha | ⟨t, ht, h0, ha⟩
  · exact ⟨7, vs_xbA ha ⟨7, vs_ybA ha ⟨rfl, vs_in (by omega) (by omega) R g⟩ 6 0 7 rfl (by omega)⟩ 6 0 7 rfl (by omega)⟩
  · refine ⟨t + 1, vs_xbF ht h0 ha ⟨t + 1, vs_ybF ht h0 ha ?_ t 0 (t + 1) (by omega) (by omega)⟩ t 0 (t + 1) (by omega) (by omega)⟩
    intro vi' wo' lo' q1 q2
    exact ⟨rfl, vs_in (by omega) (by omega) R (vs_G_be ht q1 q2 g)⟩
theorem i_vc_read {k : Nat} {u : SX} {v : SY} (I : i_Rel k u v) (hk : k + 4 ≤ 2048) (v1 : Int32) (v2 : Int32) : wpX_read (fun r u' => wpY_read (fun r' v' => r' = r ∧ i_Rel (k + 4) u' v') v v1 v2) u v1 v2 := by
  refine vs_el (Q := fun u v => wpX_read (fun r u' => wpY_read (fun r' v' => r' = r ∧ i_Rel (k + 4) u' v') v v1 v2) u v1 v2) I ?_
  intro fv fc va co ol ne op se be wr sn ow st wy bY vi wo lo cm ym P h1 h2 R g
  have J : i_Rel (k + 4) (fv, fc, nI cm, va, co, ol, ne, op, se, be, wr, sn, ow) (nI ym, st, wy, op, se, bY, vi, wo, ow, lo) := vs_in (by omega) (by omega) R g
  rcases vs_cs op v1 with hb | ⟨t, ht, rfl, ho⟩
  · unfold wpX_read wpY_read
    dsimp only
    exact vs_xo0 hb (br_t rfl (vs_yo0 hb (br_f (by decide) ⟨rfl, J⟩)))
  · rcases vs_csc v2 with hb | ⟨c, hc, rfl⟩
    · unfold wpX_read wpY_read
      dsimp only
      exact vs_xo1 ht ho (br_f (by decide) (vs_xc0 hb (br_t rfl (vs_yo1 ht ho (br_t rfl (vs_yc0 hb (br_f (by decide) ⟨rfl, J⟩)))))))
    · obtain ⟨_, _, q⟩ := g.2 t ht ho
      obtain ⟨p1, p2, p3⟩ := q c hc
      refine vs_xr R ht ho hc (fun z => ?_) (fun z => ?_)
      · exact vs_yr ht ho hc (fun _ => ⟨p1.1.symm, vs_in (by omega) (by omega) R (vs_G_sn ht hc g)⟩) (fun y => absurd (p2.mp z) y)
      · exact vs_yr ht ho hc (fun y => absurd (p2.mpr y) z) (fun _ => ⟨rfl, J⟩)
theorem i_vc_write {k : Nat} {u : SX} {v : SY} (I : i_Rel k u v) (hk : k + 4 ≤ 2048) (v1 : Int32) (v2 : Int32) (v3 : Int32) : wpX_write (fun r u' => wpY_write (fun r' v' => r' = r ∧ i_Rel (k + 4) u' v') v v1 v2 v3) u v1 v2 v3 := by
  refine vs_el (Q := fun u v => wpX_write (fun r u' => wpY_write (fun r' v' => r' = r ∧ i_Rel (k + 4) u' v') v v1 v2 v3) u v1 v2 v3) I ?_
  intro fv fc va co ol ne op se be wr sn ow st wy bY vi wo lo cm ym P h1 h2 R g
  have J : i_Rel (k + 4) (fv, fc, nI cm, va, co, ol, ne, op, se, be, wr, sn, ow) (nI ym, st, wy, op, se, bY, vi, wo, ow, lo) := vs_in (by omega) (by omega) R g
  rcases vs_cs op v1 with hb | ⟨t, ht, rfl, ho⟩
  · unfold wpX_write wpY_write
    dsimp only
    exact vs_xo0 hb (br_t rfl (vs_yo0 hb (br_f (by decide) ⟨rfl, J⟩)))
  · rcases vs_csc v2 with hb | ⟨c, hc, rfl⟩
    · unfold wpX_write wpY_write
      dsimp only
      exact vs_xo1 ht ho (br_f (by decide) (vs_xc0 hb (br_t rfl (vs_yo1 ht ho (br_t rfl (vs_yc0 hb (br_f (by decide) ⟨rfl, J⟩)))))))
    · exact vs_xw ht ho hc (vs_yw ht ho hc ⟨rfl, vs_in (by omega) (by omega) R (vs_G_wr ht hc g)⟩)
theorem i_vc_add {k : Nat} {u : SX} {v : SY} (I : i_Rel k u v) (hk : k + 4 ≤ 2048) (v1 : Int32) (v2 : Int32) (v3 : Int32) : wpX_add (fun r u' => wpY_add (fun r' v' => r' = r ∧ i_Rel (k + 4) u' v') v v1 v2 v3) u v1 v2 v3 := by
  refine vs_el (Q := fun u v => wpX_add (fun r u' => wpY_add (fun r' v' => r' = r ∧ i_Rel (k + 4) u' v') v v1 v2 v3) u v1 v2 v3) I ?_
  intro fv fc va co ol ne op se be wr sn ow st wy bY vi wo lo cm ym P h1 h2 R g
  have J : i_Rel (k + 4) (fv, fc, nI cm, va, co, ol, ne, op, se, be, wr, sn, ow) (nI ym, st, wy, op, se, bY, vi, wo, ow, lo) := vs_in (by omega) (by omega) R g
  rcases vs_cs op v1 with hb | ⟨t, ht, rfl, ho⟩
  · unfold wpX_add wpY_add
    dsimp only
    exact vs_xo0 hb (br_t rfl (vs_yo0 hb (br_f (by decide) ⟨rfl, J⟩)))
  · rcases vs_csc v2 with hb | ⟨c, hc, rfl⟩
    · unfold wpX_add wpY_add
      dsimp only
      exact vs_xo1 ht ho (br_f (by decide) (vs_xc0 hb (br_t rfl (vs_yo1 ht ho (br_t rfl (vs_yc0 hb (br_f (by decide) ⟨rfl, J⟩)))))))
    · obtain ⟨_, _, q⟩ := g.2 t ht ho
      obtain ⟨p1, p2, p3⟩ := q c hc
      refine vs_xd R ht ho hc (fun z => ?_) (fun z => ?_)
      · refine vs_ya ht ho hc (fun _ => ?_) (fun y => absurd (p2.mp z) y)
        rw [p1.1]
        exact ⟨rfl, vs_in (by omega) (by omega) R (vs_G_wr ht hc (vs_G_sn ht hc g))⟩
      · exact vs_ya ht ho hc (fun y => absurd (p2.mpr y) z) (fun _ => ⟨rfl, vs_in (by omega) (by omega) R (vs_G_wr ht hc g)⟩)
theorem i_vc_commit {k : Nat} {u : SX} {v : SY} (I : i_Rel k u v) (hk : k + 4 ≤ 2048) (v1 : Int32) : wpX_commit (fun r u' => wpY_commit (fun r' v' => r' = r ∧ i_Rel (k + 4) u' v') v v1) u v1 := by
  refine vs_el (Q := fun u v => wpX_commit (fun r u' => wpY_commit (fun r' v' => r' = r ∧ i_Rel (k + 4) u' v') v v1) u v1) I ?_
  intro fv fc va co ol ne op se be wr sn ow st wy bY vi wo lo cm ym P h1 h2 R g
  rcases vs_cs op v1 with hb | ⟨t, ht, rfl, ho⟩
  · unfold wpX_commit wpY_commit
    dsimp only
    exact vs_xo0 hb (br_t rfl (vs_yo0 hb (br_f (by decide) ⟨rfl, vs_in (by omega) (by omega) R g⟩)))
  · have hov := vs_G_ov (se := se) ht ho g
    have hz : ∀ d, d < 16 → (vs_z (wr t) d ↔ wo (16 * t + d) = 0) := fun d hd => ((g.2 t ht ho).2.2 d hd).2.1
    have gc := vs_G_cl (t := t) g
    refine vs_xk R (fun d hd => (g.1 d hd).1) ht ho (fun q => ?_) (fun q z => ?_) (fun q => ?_)
    · exact vs_ym ht ho (fun _ => ⟨rfl, vs_in (by omega) (by omega) R gc⟩) (fun y => absurd (hov.mp q) y)
    · refine vs_ym ht ho (fun y => absurd (hov.mpr y) q) (fun _ st' wy' h => ⟨rfl, vs_in (by omega) (by omega) R (vs_G_ym (by omega) (by omega) (fun d hd => ?_) gc)⟩)
      refine (h d hd).1 ((hz d hd).mp ?_)
      rw [z]
      exact vs_z0 d (by omega)
    · intro fv' fc' va' co' ol' ne' P1 P' R' hT hP
      refine vs_ym ht ho (fun y => absurd (hov.mpr y) q) (fun _ st' wy' h => ⟨rfl, vs_in (by omega) (by omega) R' ?_⟩)
      refine vs_G_cm (z := fun d => vs_z (wr t) d) (x := fun d => ow (16 * t + d)) (by omega) (by omega) hP (fun d hd => ⟨fun y => (h d hd).1 ((hz d hd).mp y), fun y => (h d hd).2 (fun x => y ((hz d hd).mpr x))⟩) (vs_G_T hT gc)
theorem i_vc_abort {k : Nat} {u : SX} {v : SY} (I : i_Rel k u v) (hk : k + 4 ≤ 2048) (v1 : Int32) : wpX_abort (fun r u' => wpY_abort (fun r' v' => r' = r ∧ i_Rel (k + 4) u' v') v v1) u v1 := by
  refine vs_el (Q := fun u v => wpX_abort (fun r u' => wpY_abort (fun r' v' => r' = r ∧ i_Rel (k + 4) u' v') v v1) u v1) I ?_
  intro fv fc va co ol ne op se be wr sn ow st wy bY vi wo lo cm ym P h1 h2 R g
  rcases vs_cs op v1 with hb | ⟨t, ht, rfl, ho⟩
  · unfold wpX_abort wpY_abort
    dsimp only
    exact vs_xo0 hb (br_t rfl (vs_yo0 hb (br_f (by decide) ⟨rfl, vs_in (by omega) (by omega) R g⟩)))
  · refine vs_xab ht ho ?_
    have e : (nI t).toNatClampNeg = t := nI_clamp (by omega)
    unfold wpY_abort
    simp only [e, vs_nb0]
    exact vs_yo1 ht ho (br_t rfl ⟨vp_in_nI ht (by omega), nm_e ⟨by trivial, vs_in (by omega) (by omega) R (vs_G_cl g)⟩⟩)
theorem i_vc_might {k : Nat} {u : SX} {v : SY} (I : i_Rel k u v) (hk : k + 4 ≤ 2048) (v1 : Int32) : wpX_might (fun r => wpY_might (fun r' => r' = r ∧ i_Rel (k + 4) u v) v v1) u v1 := by
  refine vs_el (Q := fun u v => wpX_might (fun r => wpY_might (fun r' => r' = r ∧ i_Rel (k + 4) u v) v v1) u v1) I ?_
  intro fv fc va co ol ne op se be wr sn ow st wy bY vi wo lo cm ym P h1 h2 R g
  have J : i_Rel (k + 4) (fv, fc, nI cm, va, co, ol, ne, op, se, be, wr, sn, ow) (nI ym, st, wy, op, se, bY, vi, wo, ow, lo) := vs_in (by omega) (by omega) R g
  unfold wpX_might wpY_might
  dsimp only
  rcases vs_cs op v1 with hb | ⟨t, ht, rfl, ho⟩
  · exact vs_xo0 hb (br_t rfl (vs_yo0 hb (br_f (by decide) ⟨rfl, J⟩)))
  · have hov := vs_G_ov (se := se) ht ho g
    refine vs_xo1 ht ho (br_f (by decide) (vs_xm R ht (fun q => br_t rfl ?_) (fun q => br_f (by decide) ?_)))
    · exact vs_yo1 ht ho (br_t rfl (vs_yv ht (fun _ => br_f (by decide) ⟨rfl, J⟩) (fun y => absurd (hov.mp q) y)))
    · exact vs_yo1 ht ho (br_t rfl (vs_yv ht (fun y => absurd (hov.mpr y) q) (fun _ => br_t rfl ⟨rfl, J⟩)))
theorem i_vc_committed {k : Nat} {u : SX} {v : SY} (I : i_Rel k u v) (hk : k + 4 ≤ 2048) (v1 : Int32) : wpX_committed (fun r => wpY_committed (fun r' => r' = r ∧ i_Rel (k + 4) u v) v v1) u v1 := by
  refine vs_el (Q := fun u v => wpX_committed (fun r => wpY_committed (fun r' => r' = r ∧ i_Rel (k + 4) u v) v v1) u v1) I ?_
  intro fv fc va co ol ne op se be wr sn ow st wy bY vi wo lo cm ym P h1 h2 R g
  have J : i_Rel (k + 4) (fv, fc, nI cm, va, co, ol, ne, op, se, be, wr, sn, ow) (nI ym, st, wy, op, se, bY, vi, wo, ow, lo) := vs_in (by omega) (by omega) R g
  unfold wpX_committed wpY_committed
  dsimp only
  rcases vs_csc v1 with hb | ⟨c, hc, rfl⟩
  · exact vs_xc0 hb (br_t rfl (vs_yc0 hb (br_f (by decide) ⟨rfl, J⟩)))
  · have e : (nI c).toNatClampNeg = c := nI_clamp (by omega)
    refine vs_xc1 hc (br_f (by decide) (vs_xa R hc (vs_yc1 hc (br_t rfl ⟨vp_in_nI hc (by omega), ?_, J⟩))))
    rw [e]
    exact (vs_Gv_be (g.1 c hc)).1.symm
theorem i_vc_sum {k : Nat} {u : SX} {v : SY} (I : i_Rel k u v) (hk : k + 4 ≤ 2048) (v1 : Int32) (v2 : Int32) (v3 : Int32) : wpX_sum (fun r => wpY_sum (fun r' => r' = r ∧ i_Rel (k + 4) u v) v v1 v2 v3) u v1 v2 v3 := by
  refine vs_el (Q := fun u v => wpX_sum (fun r => wpY_sum (fun r' => r' = r ∧ i_Rel (k + 4) u v) v v1 v2 v3) u v1 v2 v3) I ?_
  intro fv fc va co ol ne op se be wr sn ow st wy bY vi wo lo cm ym P h1 h2 R g
  have J : i_Rel (k + 4) (fv, fc, nI cm, va, co, ol, ne, op, se, be, wr, sn, ow) (nI ym, st, wy, op, se, bY, vi, wo, ow, lo) := vs_in (by omega) (by omega) R g
  unfold wpX_sum wpY_sum
  dsimp only
  rcases vs_cs op v1 with hb | ⟨t, ht, rfl, ho⟩
  · exact vs_xo0 hb (br_t rfl (vs_yo0 hb (br_f (by decide) ⟨rfl, J⟩)))
  · obtain ⟨_, _, q⟩ := g.2 t ht ho
    obtain ⟨r, hx, hy⟩ := vs_suL (fv := fv) (fc := fc) (cm := nI cm) (ym := nI ym) (va := va) (co := co) (ol := ol) (ne := ne) (op := op) (se := se) (be := be) (wr := wr) (sn := sn) (ow := ow) (st := st) (wy := wy) (bY := bY) (vi := vi) (wo := wo) (lo := lo) (t := t) (a := v2) (b := v3) (V := fun c => if wo (16 * t + c) = 0 then vi (16 * t + c) else ow (16 * t + c)) (fun c hc post hp => by
      obtain ⟨p1, p2, _⟩ := q c hc
      refine vs_xv R ht hc (fun z => ?_) (fun z => ?_)
      · rw [if_pos (p2.mp z)] at hp
        rw [p1.1]
        exact hp
      · rw [if_neg (fun y => z (p2.mpr y))] at hp
        exact hp) (fun c hc post hp => by
      rw [vs_ix]
      refine vs_ys (by omega) (fun z => ?_) (fun z => ?_)
      · rw [if_pos z] at hp
        exact hp
      · rw [if_neg z] at hp
        exact hp) 16 0 0 rfl
    exact vs_xo1 ht ho (br_f (by decide) ⟨17, hx _ (vs_yo1 ht ho (br_t rfl ⟨17, hy _ ⟨rfl, J⟩⟩))⟩)
theorem i_vc_tidy {k : Nat} {u : SX} {v : SY} (I : i_Rel k u v) (hk : k + 4 ≤ 2048) : wpX_tidy (fun u' => wpY_tidy (fun v' => i_Rel (k + 4) u' v') v) u := by
  refine vs_el (Q := fun u v => wpX_tidy (fun u' => wpY_tidy (fun v' => i_Rel (k + 4) u' v') v) u) I ?_
  intro fv fc va co ol ne op se be wr sn ow st wy bY vi wo lo cm ym P h1 h2 R g
  refine vs_xt R ?_
  intro fv' fc' ol' P' R' T'
  exact vs_in (by omega) (by omega) R' (vs_G_T (fun d hd => Or.inr (T' d hd)) g)
theorem i_vc_open {k : Nat} {u : SX} {v : SY} (I : i_Rel k u v) (hk : k + 4 ≤ 2048) : wpX_open (fun r => wpY_open (fun r' => r' = r ∧ i_Rel (k + 4) u v) v) u := by
  refine vs_el (Q := fun u v => wpX_open (fun r => wpY_open (fun r' => r' = r ∧ i_Rel (k + 4) u v) v) u) I ?_
  intro fv fc va co ol ne op se be wr sn ow st wy bY vi wo lo cm ym P h1 h2 R g
  have J : i_Rel (k + 4) (fv, fc, nI cm, va, co, ol, ne, op, se, be, wr, sn, ow) (nI ym, st, wy, op, se, bY, vi, wo, ow, lo) := vs_in (by omega) (by omega) R g
  obtain ⟨r, hx, hy⟩ := vs_opL (fv := fv) (fc := fc) (cm := nI cm) (ym := nI ym) (va := va) (co := co) (ol := ol) (ne := ne) (op := op) (se := se) (be := be) (wr := wr) (sn := sn) (ow := ow) (st := st) (wy := wy) (bY := bY) (vi := vi) (wo := wo) (lo := lo) 6 0 0 rfl
  exact ⟨7, hx _ ⟨7, hy _ ⟨rfl, J⟩⟩⟩
end
