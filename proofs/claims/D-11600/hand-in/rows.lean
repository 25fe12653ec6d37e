section
/-! bits of an int (the family bt of the kit's BITS text, renamed and cut down) -/
def zt_b (x : Int32) (i : Nat) : Bool := x.toBitVec.getLsbD i
theorem zt_bext {x y : Int32} (h : ∀ i, i < 32 → zt_b x i = zt_b y i) : x = y := Int32.toBitVec_inj.mp (BitVec.eq_of_getLsbD_eq (fun i hi => h i hi))
theorem zt_bor (x y : Int32) (i : Nat) : zt_b (x ||| y) i = (zt_b x i || zt_b y i) := by unfold zt_b; rw [Int32.toBitVec_or, BitVec.getLsbD_or]
theorem zt_band (x y : Int32) (i : Nat) : zt_b (x &&& y) i = (zt_b x i && zt_b y i) := by unfold zt_b; rw [Int32.toBitVec_and, BitVec.getLsbD_and]
theorem zt_bxor (x y : Int32) (i : Nat) : zt_b (x ^^^ y) i = (zt_b x i ^^ zt_b y i) := by unfold zt_b; rw [Int32.toBitVec_xor, BitVec.getLsbD_xor]
theorem zt_bbig {x : Int32} {i : Nat} (h : 32 ≤ i) : zt_b x i = false := BitVec.getLsbD_of_ge _ _ h
theorem zt_bm1 : ∀ i, i < 32 → zt_b (-1) i = true := by decide +kernel
theorem zt_b0 (i : Nat) : zt_b 0 i = false := BitVec.getLsbD_zero
theorem zt_sl : ∀ n, n < 32 → ((nI n &&& 31).toBitVec.smod 32).toNat = n := by decide +kernel
theorem zt_bsshr (n : Nat) (hn : n < 32) (x : Int32) {i : Nat} (hi : i < 32) : zt_b (x >>> (nI n &&& 31)) i = if n + i < 32 then zt_b x (n + i) else zt_b x 31 := by
  unfold zt_b
  rw [Int32.toBitVec_shiftRight]
  show (x.toBitVec.sshiftRight ((nI n &&& 31).toBitVec.smod 32).toNat).getLsbD i = _
  rw [zt_sl n hn, BitVec.getLsbD_sshiftRight, BitVec.msb_eq_getLsbD_last]
  simp [hi]
theorem zt_b1 : ∀ i, i < 32 → zt_b 1 i = decide (i = 0) := by decide +kernel
theorem zt_bone : ∀ n, n < 32 → ∀ i, i < 32 → zt_b ((1 : Int32) <<< (nI n &&& 31)) i = decide (i = n) := by decide +kernel
theorem zt_ball : ∀ c, c < 31 → ∀ i, i < 32 → zt_b (((1 : Int32) <<< (nI c &&& 31)) - 1) i = decide (i < c) := by decide +kernel
theorem zt_bset (a : Int32) {n : Nat} (hn : n < 32) (i : Nat) : zt_b (a ||| ((1 : Int32) <<< (nI n &&& 31))) i = (zt_b a i || decide (i = n)) := by
  rw [zt_bor]
  rcases Nat.lt_or_ge i 32 with h | h
  · rw [zt_bone n hn i h]
  · rw [zt_bbig h, zt_bbig h, decide_eq_false (by omega)]
theorem zt_btest (a : Int32) {n : Nat} (hn : n < 32) : ((a >>> (nI n &&& 31)) &&& 1) = 0 ↔ zt_b a n = false := by
  constructor
  · intro h
    have t : zt_b ((a >>> (nI n &&& 31)) &&& 1) 0 = false := by rw [h]; exact zt_b0 0
    rw [zt_band, zt_bsshr n hn a (by omega), zt_b1 0 (by omega)] at t
    simpa [hn] using t
  · intro h
    apply zt_bext
    intro i hi
    rw [zt_band, zt_b1 i hi, zt_b0]
    by_cases e : i = 0
    · subst e
      rw [zt_bsshr n hn a (by omega)]
      simp [hn, h]
    · simp [e]
theorem zt_bsub {a w : Int32} (h : (a &&& (w ^^^ (-1))) = 0) {i : Nat} (hi : zt_b a i = true) : zt_b w i = true := by
  rcases Nat.lt_or_ge i 32 with z | z
  · have t : zt_b (a &&& (w ^^^ (-1))) i = false := by rw [h]; exact zt_b0 i
    rw [zt_band, zt_bxor, zt_bm1 i z, hi] at t
    simpa using t
  · rw [zt_bbig z] at hi
    exact absurd hi (by decide)
theorem zt_by : ∀ n, n < 128 → (nI n).toInt8.toInt32 = nI n := by decide +kernel
theorem zt_nb {n : Nat} (h : n < 128) : vp_nar .byte (nI n) = nI n := by rw [vp_nar_byte, zt_by n h]
theorem zt_ix (x q : Nat) : nI x * 31 + nI q = nI (x * 31 + q) := by
  rw [show (31 : Int32) = nI 31 from rfl, pk_mul, nI_add]
theorem zt_ic {x q : Nat} (hx : x < 3) (hq : q ≤ 30) : (nI x * 31 + nI q).toNatClampNeg = x * 31 + q := by
  rw [zt_ix]
  exact nI_clamp (by omega)
/-! counting below a bound -/
def zt_cn (p : Nat → Bool) : Nat → Nat
  | 0 => 0
  | n + 1 => zt_cn p n + (if p n = true then 1 else 0)
theorem zt_cn_congr {p q : Nat → Bool} : ∀ {n : Nat}, (∀ e, e < n → p e = q e) → zt_cn p n = zt_cn q n
  | 0, _ => rfl
  | n + 1, h => by
    show zt_cn p n + _ = zt_cn q n + _
    rw [zt_cn_congr (n := n) (fun e he => h e (by omega)), h n (by omega)]
theorem zt_cn_mono {p q : Nat → Bool} : ∀ {n : Nat}, (∀ e, e < n → p e = true → q e = true) → zt_cn p n ≤ zt_cn q n
  | 0, _ => Nat.le_refl 0
  | n + 1, h => by
    have ih := zt_cn_mono (n := n) (fun e he => h e (by omega))
    have hn := h n (by omega)
    show zt_cn p n + (if p n = true then 1 else 0) ≤ zt_cn q n + (if q n = true then 1 else 0)
    by_cases e : p n = true
    · rw [if_pos e, if_pos (hn e)]; omega
    · rw [if_neg e]; omega
theorem zt_cn_le (p : Nat → Bool) : ∀ n : Nat, zt_cn p n ≤ n
  | 0 => Nat.le_refl 0
  | n + 1 => by
    have ih := zt_cn_le p n
    show zt_cn p n + (if p n = true then 1 else 0) ≤ n + 1
    split <;> omega
theorem zt_cn_add {p q : Nat → Bool} {a : Nat} (h1 : p a = false) (h2 : q a = true) (h3 : ∀ e, e ≠ a → q e = p e) : ∀ {n : Nat}, a < n → zt_cn q n = zt_cn p n + 1
  | 0, h => absurd h (by omega)
  | n + 1, h => by
    show zt_cn q n + (if q n = true then 1 else 0) = zt_cn p n + (if p n = true then 1 else 0) + 1
    by_cases e : n = a
    · subst e
      rw [zt_cn_congr (p := q) (q := p) (fun e he => h3 e (by omega)), h1, h2]
      simp
    · rw [zt_cn_add h1 h2 h3 (n := n) (by omega), h3 n e]
      omega
theorem zt_cnt {sh : Nat → Bool} {n : Nat} : ∀ {l : List Nat}, l.Nodup → (∀ e, e ∈ l → e < n) → l.countP sh = zt_cn (fun e => decide (e ∈ l) && sh e) n
  | [], _, _ => by
    have t : zt_cn (fun e => decide (e ∈ ([] : List Nat)) && sh e) n = zt_cn (fun _ => false) n := zt_cn_congr (fun e _ => by simp)
    have t2 : ∀ m, zt_cn (fun _ => false) m = 0 := by
      intro m
      induction m with
      | zero => rfl
      | succ m ih => show zt_cn (fun _ => false) m + _ = 0; rw [ih]; simp
    rw [t, t2]
    rfl
  | a :: l, hd, hm => by
    rw [List.nodup_cons] at hd
    have ih := zt_cnt (sh := sh) (n := n) (l := l) hd.2 (fun e he => hm e (List.mem_cons_of_mem _ he))
    have ha := hm a List.mem_cons_self
    rw [List.countP_cons, ih]
    by_cases e : sh a = true
    · rw [if_pos e]
      refine (zt_cn_add (a := a) ?_ ?_ ?_ ha).symm
      · simp [hd.1]
      · simp [e]
      · intro z hz; simp [hz]
    · rw [if_neg e]
      refine zt_cn_congr (fun z _ => ?_)
      by_cases hz : z = a
      · subst hz; simp [e]
      · simp [hz]
theorem zt_len {n : Nat} {l : List Nat} (hd : l.Nodup) (hm : ∀ e, e ∈ l → e < n) : l.length ≤ n := by
  have t := zt_cnt (sh := fun _ => true) hd hm
  have t2 : l.countP (fun _ => true) = l.length := by simp
  rw [t2] at t
  rw [t]
  exact zt_cn_le _ n
end
section
/-! a chain as a list; 30 stands for its end -/
def zt_hd : List Nat → Nat
  | [] => 30
  | q :: _ => q
def zt_el (sh : Nat → Bool) : List Nat → Nat → Nat
  | [], _ => 30
  | q :: l, p => if sh q = true then (if p = 0 then q else zt_el sh l (p - 1)) else zt_el sh l p
def zt_pl (sh : Nat → Bool) (e : Nat) : List Nat → Nat
  | [] => 0
  | q :: l => if q = e then 0 else (if sh q = true then 1 else 0) + zt_pl sh e l
def zt_lk (a : Nat → Int32) (x : Nat) : List Nat → Prop
  | [] => True
  | q :: l => a (x * 31 + q) = nI (zt_hd l) ∧ zt_lk a x l
theorem zt_el_hi {sh : Nat → Bool} : ∀ {l : List Nat} {p : Nat}, l.countP sh ≤ p → zt_el sh l p = 30
  | [], _, _ => rfl
  | q :: l, p, h => by
    rw [List.countP_cons] at h
    show (if sh q = true then (if p = 0 then q else zt_el sh l (p - 1)) else zt_el sh l p) = 30
    by_cases e : sh q = true
    · rw [if_pos e] at h
      rw [if_pos e, if_neg (by omega)]
      exact zt_el_hi (by omega)
    · rw [if_neg e] at h
      rw [if_neg e]
      exact zt_el_hi (by omega)
theorem zt_el_lo {sh : Nat → Bool} : ∀ {l : List Nat} {p : Nat}, p < l.countP sh → zt_el sh l p ∈ l ∧ sh (zt_el sh l p) = true
  | [], p, h => absurd h (by simp)
  | q :: l, p, h => by
    rw [List.countP_cons] at h
    have d : zt_el sh (q :: l) p = if sh q = true then (if p = 0 then q else zt_el sh l (p - 1)) else zt_el sh l p := rfl
    rw [d]
    by_cases e : sh q = true
    · rw [if_pos e] at h
      rw [if_pos e]
      by_cases hp : p = 0
      · rw [if_pos hp]
        exact ⟨List.mem_cons_self, e⟩
      · rw [if_neg hp]
        have t := zt_el_lo (sh := sh) (l := l) (p := p - 1) (by omega)
        exact ⟨List.mem_cons_of_mem _ t.1, t.2⟩
    · rw [if_neg e] at h
      rw [if_neg e]
      have t := zt_el_lo (sh := sh) (l := l) (p := p) (by omega)
      exact ⟨List.mem_cons_of_mem _ t.1, t.2⟩
theorem zt_pl_el {sh : Nat → Bool} : ∀ {l : List Nat} {p : Nat}, l.Nodup → p < l.countP sh → zt_pl sh (zt_el sh l p) l = p
  | [], p, _, h => absurd h (by simp)
  | q :: l, p, hd, h => by
    rw [List.nodup_cons] at hd
    rw [List.countP_cons] at h
    have d : zt_el sh (q :: l) p = if sh q = true then (if p = 0 then q else zt_el sh l (p - 1)) else zt_el sh l p := rfl
    have d2 : ∀ e, zt_pl sh e (q :: l) = if q = e then 0 else (if sh q = true then 1 else 0) + zt_pl sh e l := fun _ => rfl
    rw [d2, d]
    by_cases e : sh q = true
    · rw [if_pos e] at h
      rw [if_pos e]
      by_cases hp : p = 0
      · rw [if_pos hp, if_pos rfl, hp]
      · rw [if_neg hp]
        have t := zt_el_lo (sh := sh) (l := l) (p := p - 1) (by omega)
        have t2 := zt_pl_el (sh := sh) (l := l) (p := p - 1) hd.2 (by omega)
        rw [if_neg (fun z : q = zt_el sh l (p - 1) => hd.1 (by rw [z]; exact t.1)), if_pos e, t2]
        omega
    · rw [if_neg e] at h
      rw [if_neg e]
      have t := zt_el_lo (sh := sh) (l := l) (p := p) (by omega)
      have t2 := zt_pl_el (sh := sh) (l := l) (p := p) hd.2 (by omega)
      rw [if_neg (fun z : q = zt_el sh l p => hd.1 (by rw [z]; exact t.1)), if_neg e, t2]
      omega
theorem zt_lk_fr {a a' : Nat → Int32} {x : Nat} : ∀ {l : List Nat}, (∀ q, q ∈ l → a' (x * 31 + q) = a (x * 31 + q)) → zt_lk a x l → zt_lk a' x l
  | [], _, _ => trivial
  | q :: l, h, k => ⟨(h q List.mem_cons_self).trans k.1, zt_lk_fr (fun z hz => h z (List.mem_cons_of_mem _ hz)) k.2⟩
theorem zt_lk_ins {a : Nat → Int32} {x b e : Nat} {rest : List Nat} : ∀ {pre : List Nat}, (pre ++ b :: rest).Nodup → e ∉ (pre ++ b :: rest) → zt_lk a x (pre ++ b :: rest) → zt_lk (upd (upd a (x * 31 + e) (nI (zt_hd rest))) (x * 31 + b) (nI e)) x (pre ++ b :: e :: rest)
  | [], hd, he, k => by
    have hd' : b ∉ rest ∧ rest.Nodup := by simpa using hd
    have he' : ¬ e = b ∧ e ∉ rest := by simpa using he
    refine ⟨pk_us, ?_, zt_lk_fr (fun q hq => ?_) k.2⟩
    · rw [pk_un (by omega), pk_us]
    · have n1 : q ≠ b := fun z => hd'.1 (by rw [← z]; exact hq)
      have n2 : q ≠ e := fun z => he'.2 (by rw [← z]; exact hq)
      rw [pk_un (by omega), pk_un (by omega)]
  | q :: pre, hd, he, k => by
    have hd' : q ∉ (pre ++ b :: rest) ∧ (pre ++ b :: rest).Nodup := by
      rw [List.cons_append, List.nodup_cons] at hd
      exact hd
    have he' : ¬ e = q ∧ e ∉ (pre ++ b :: rest) := by
      rw [List.cons_append, List.mem_cons, not_or] at he
      exact he
    have n1 : q ≠ b := fun z => hd'.1 (by rw [z]; simp)
    refine ⟨?_, zt_lk_ins hd'.2 he'.2 k.2⟩
    rw [pk_un (by omega), pk_un (by omega)]
    refine k.1.trans (congrArg nI ?_)
    cases pre <;> rfl
theorem zt_split {ch pre rest : List Nat} {b e : Nat} (h : 30 :: ch = pre ++ b :: rest) (hd : (30 :: ch).Nodup) (he : e ∉ 30 :: ch) :
    ∃ ch', pre ++ b :: e :: rest = 30 :: ch' ∧ (30 :: ch').Nodup ∧ (∀ z, z ∈ ch' ↔ z = e ∨ z ∈ ch) := by
  have main : ∃ ch', pre ++ b :: e :: rest = 30 :: ch' := by
    cases pre with
    | nil =>
      have h' : 30 = b ∧ ch = rest := by simpa using h
      exact ⟨e :: rest, by rw [h'.1]; rfl⟩
    | cons q pre =>
      have h' : 30 = q ∧ ch = pre ++ b :: rest := by simpa using h
      exact ⟨pre ++ b :: e :: rest, by rw [h'.1]; rfl⟩
  obtain ⟨ch', h2⟩ := main
  have nd : (30 :: ch').Nodup := by
    rw [← h2]
    rw [h] at hd he
    simp only [List.nodup_append, List.nodup_cons, List.mem_cons, List.mem_append, not_or] at hd he ⊢
    obtain ⟨d1, ⟨d2, d3⟩, d4⟩ := hd
    obtain ⟨e1, e2, e3⟩ := he
    refine ⟨d1, ⟨⟨fun z => e2 z.symm, d2⟩, e3, d3⟩, ?_⟩
    intro u hu v hv
    rcases hv with hv | hv | hv
    · exact d4 u hu v (Or.inl hv)
    · intro z
      exact e1 (by rw [← hv, ← z]; exact hu)
    · exact d4 u hu v (Or.inr hv)
  have mm : ∀ z, z ∈ 30 :: ch' ↔ z = e ∨ z ∈ 30 :: ch := by
    intro z
    rw [← h2, h]
    simp only [List.mem_append, List.mem_cons]
    constructor
    · rintro (u | u | u | u)
      · exact Or.inr (Or.inl u)
      · exact Or.inr (Or.inr (Or.inl u))
      · exact Or.inl u
      · exact Or.inr (Or.inr (Or.inr u))
    · rintro (u | u | u | u)
      · exact Or.inr (Or.inr (Or.inl u))
      · exact Or.inl u
      · exact Or.inr (Or.inl u)
      · exact Or.inr (Or.inr (Or.inr u))
  refine ⟨ch', h2, nd, fun z => ?_⟩
  have m := mm z
  rw [List.nodup_cons] at hd nd
  have he' : e ≠ 30 := fun u => he (by rw [u]; exact List.mem_cons_self)
  constructor
  · intro u
    rcases m.mp (List.mem_cons_of_mem _ u) with v | v
    · exact Or.inl v
    · rcases List.mem_cons.mp v with w | w
      · exact absurd u (by rw [w]; exact nd.1)
      · exact Or.inr w
  · intro u
    have v : z ∈ 30 :: ch' := m.mpr (u.elim Or.inl (fun w => Or.inr (List.mem_cons_of_mem _ w)))
    rcases List.mem_cons.mp v with w | w
    · rcases u with u | u
      · exact absurd (u.symm.trans w) he'
      · exact absurd u (by rw [w]; exact hd.1)
    · exact w
end
section
/-! the methods that only look -/
def zt_ins (a1 : Nat → Int32) (e : Nat) : Bool := decide (0 ≤ a1 e)
def zt_sh (a7 : Nat → Int32) (x : Nat) (e : Nat) : Bool := !zt_b (a7 x) e
theorem zt_nf {x : Bool} (h : ¬ x = false) : x = true := by cases x <;> first | rfl | exact absurd rfl h
theorem zt_ins_lt {a1 : Nat → Int32} {e : Nat} : a1 e < 0 ↔ zt_ins a1 e = false := by
  unfold zt_ins
  rw [decide_eq_false_iff_not]
  simp [Int32.lt_iff_toInt_lt, Int32.le_iff_toInt_le]
section
variable {f : Int32} {a1 a2 a3 a4 a5 a6 a7 a8 a9 : Nat → Int32}
theorem zt_isr {post : Int32 → Prop} {x : Nat} (hx : x < 3) (H : post 1) : wpX_isReplica post () (nI x) :=
  pk_lt x 0 (fun z => absurd z (by omega)) (fun _ => pk_le 3 x (fun z => absurd z (by omega)) (fun _ => H))
theorem zt_isc {post : Int32 → Prop} (p : Int32) (h0 : post 0) (h1 : ∀ x, x < 3 → p = nI x → post 1) : wpX_isReplica post () p := by
  rcases pk_ix p (n := 3) (by omega) with h | h | ⟨x, hx, rfl⟩
  · exact br_t h h0
  · exact br_c (fun _ => h0) (fun _ => br_t h h0)
  · exact zt_isr hx (h1 x hx rfl)
theorem zt_kn {post : Int32 → Prop} {x e : Nat} (hx : x < 3) (he : e < 32) (h0 : zt_b (a6 x) e = false → post 0) (h1 : zt_b (a6 x) e = true → post 1) : wpX_knows post (f, a1, a2, a3, a4, a5, a6, a7, a8, a9) (nI x) (nI e) := by
  unfold wpX_knows
  dsimp only
  rw [nI_clamp (show x < 2 ^ 31 by omega)]
  exact ⟨pk_in x 3 hx, br_c (fun z => h0 ((zt_btest _ he).mp z)) (fun z => h1 (zt_nf (fun y => z ((zt_btest _ he).mpr y))))⟩
theorem zt_shn {post : Int32 → Prop} {x e : Nat} (hx : x < 3) (he : e < 32) (h0 : zt_sh a7 x e = false → post 0) (h1 : zt_sh a7 x e = true → post 1) : wpX_isShown post (f, a1, a2, a3, a4, a5, a6, a7, a8, a9) (nI x) (nI e) := by
  unfold wpX_isShown
  dsimp only
  rw [nI_clamp (show x < 2 ^ 31 by omega)]
  refine ⟨pk_in x 3 hx, br_c (fun z => h1 ?_) (fun z => h0 ?_)⟩
  · unfold zt_sh; rw [(zt_btest _ he).mp z]; rfl
  · unfold zt_sh; rw [zt_nf (fun y => z ((zt_btest _ he).mpr y))]; rfl
theorem zt_isg {post : Int32 → Prop} {e q : Nat} (he : e < 30) (hq : q < 30) (h0 : post 0) (h1 : post 1) : wpX_isGreater post (f, a1, a2, a3, a4, a5, a6, a7, a8, a9) (nI e) (nI q) :=
  ⟨pk_in e 30 he, pk_in q 30 hq, br_c (fun _ => h1) (fun _ => ⟨pk_in e 30 he, pk_in q 30 hq, br_c (fun _ => ⟨pk_in e 30 he, pk_in q 30 hq, br_c (fun _ => h0) (fun _ => h1)⟩) (fun _ => h0)⟩)⟩
theorem zt_known {post : Int32 → Prop} {x : Nat} (hx : x < 3) (H : post (a6 x)) : wpX_known post (f, a1, a2, a3, a4, a5, a6, a7, a8, a9) (nI x) := by
  unfold wpX_known
  dsimp only
  rw [nI_clamp (show x < 2 ^ 31 by omega)]
  exact zt_isr hx (br_f (by decide) ⟨pk_in x 3 hx, H⟩)
theorem zt_clock {post : Int32 → Prop} {x : Nat} (hx : x < 3) (H : post (a8 x)) : wpX_clock post (f, a1, a2, a3, a4, a5, a6, a7, a8, a9) (nI x) := by
  unfold wpX_clock
  dsimp only
  rw [nI_clamp (show x < 2 ^ 31 by omega)]
  exact zt_isr hx (br_f (by decide) ⟨pk_in x 3 hx, H⟩)
theorem zt_len27 {post : Int32 → Prop} {x : Nat} (hx : x < 3) : ∀ (l : List Nat) (j m n : Nat), (∀ q, q ∈ l → q < 30) → zt_lk a9 x l → j + l.length ≤ 30 → l.length < n → post (nI (m + l.countP (zt_sh a7 x))) → wX_length_27 post (nI x) f a1 a2 a3 a4 a5 a6 a7 a8 a9 n (nI m) (nI (zt_hd l)) (nI j)
  | _, _, _, 0, _, _, _, h, _ => absurd h (by omega)
  | [], j, m, n + 1, _, _, h, _, H => by
    have H' : post (nI m) := H
    have hj : j ≤ 30 := by simpa using h
    exact pk_le 30 j (fun _ => H') (fun _ => pk_eq 30 30 (fun _ => H') (fun z => absurd rfl z))
  | q :: l, j, m, n + 1, hm, hk, h, hn, H => by
    have hq : q < 30 := hm q List.mem_cons_self
    have hm' : ∀ z, z ∈ l → z < 30 := fun z hz => hm z (List.mem_cons_of_mem _ hz)
    rw [List.length_cons] at h hn
    rw [List.countP_cons] at H
    have ix : a9 (nI x * 31 + nI q).toNatClampNeg = nI (zt_hd l) := by rw [zt_ic hx (by omega)]; exact hk.1
    refine pk_le 30 j (fun z => absurd z (by omega)) (fun _ => pk_eq q 30 (fun z => absurd z (by omega)) (fun _ => zt_shn (e := q) hx (by omega) (fun s => br_t rfl ?_) (fun s => br_f (by decide) ?_)))
    · rw [if_neg (by rw [s]; decide)] at H
      exact nm_r (Int32.add_zero _) ⟨pk_in (x * 31 + q) 93 (by omega) (zt_ix x q), nm_r ix (nm_r (nI_1 j) (zt_len27 hx l (j + 1) m n hm' hk.2 (by omega) (by omega) H))⟩
    · rw [if_pos s] at H
      exact nm_r (nI_1 m) ⟨pk_in (x * 31 + q) 93 (by omega) (zt_ix x q), nm_r ix (nm_r (nI_1 j) (zt_len27 hx l (j + 1) (m + 1) n hm' hk.2 (by omega) (by omega) (by rw [show m + 1 + l.countP (zt_sh a7 x) = m + (l.countP (zt_sh a7 x) + 1) by omega]; exact H)))⟩
theorem zt_ea19 {post : Int32 → Prop} {x : Nat} (hx : x < 3) : ∀ (l : List Nat) (j p n : Nat), (∀ q, q ∈ l → q < 30) → zt_lk a9 x l → j + l.length ≤ 30 → l.length < n → p < 2 ^ 31 → post (nI (zt_el (zt_sh a7 x) l p)) → wX_elementAt_19 post (nI x) f a1 a2 a3 a4 a5 a6 a7 a8 a9 n (nI (zt_hd l)) (nI p) (nI j)
  | _, _, _, 0, _, _, _, h, _, _ => absurd h (by omega)
  | [], j, p, n + 1, _, _, h, _, _, H => by
    have H' : post 30 := H
    have hj : j ≤ 30 := by simpa using h
    exact pk_le 30 j (fun _ => H') (fun _ => pk_eq 30 30 (fun _ => H') (fun z => absurd rfl z))
  | q :: l, j, p, n + 1, hm, hk, h, hn, hp, H => by
    have hq : q < 30 := hm q List.mem_cons_self
    have hm' : ∀ z, z ∈ l → z < 30 := fun z hz => hm z (List.mem_cons_of_mem _ hz)
    rw [List.length_cons] at h hn
    have d : zt_el (zt_sh a7 x) (q :: l) p = if zt_sh a7 x q = true then (if p = 0 then q else zt_el (zt_sh a7 x) l (p - 1)) else zt_el (zt_sh a7 x) l p := rfl
    rw [d] at H
    have ix : a9 (nI x * 31 + nI q).toNatClampNeg = nI (zt_hd l) := by rw [zt_ic hx (by omega)]; exact hk.1
    refine pk_le 30 j (fun z => absurd z (by omega)) (fun _ => pk_eq q 30 (fun z => absurd z (by omega)) (fun _ => zt_shn (e := q) hx (by omega) (fun s => br_t rfl ?_) (fun s => br_f (by decide) (pk_eq p 0 (fun z => ?_) (fun z => ?_)))))
    · rw [if_neg (by rw [s]; decide)] at H
      exact ⟨pk_in (x * 31 + q) 93 (by omega) (zt_ix x q), nm_r ix (nm_r (nI_1 j) (zt_ea19 hx l (j + 1) p n hm' hk.2 (by omega) (by omega) hp H))⟩
    · rw [if_pos s, if_pos z] at H
      exact H
    · rw [if_pos s, if_neg z] at H
      exact nm_r (sb_m1 (by omega)) ⟨pk_in (x * 31 + q) 93 (by omega) (zt_ix x q), nm_r ix (nm_r (nI_1 j) (zt_ea19 hx l (j + 1) (p - 1) n hm' hk.2 (by omega) (by omega) (by omega) H))⟩
theorem zt_po67 {post : Int32 → Prop} {x e : Nat} (hx : x < 3) (he : e < 30) : ∀ (l : List Nat) (j m n : Nat), (∀ q, q ∈ l → q < 30) → zt_lk a9 x l → j + l.length ≤ 30 → l.length < n → post (nI (m + zt_pl (zt_sh a7 x) e l)) → wX_placeOf_67 post (nI x) (nI e) f a1 a2 a3 a4 a5 a6 a7 a8 a9 n (nI m) (nI (zt_hd l)) (nI j)
  | _, _, _, 0, _, _, _, h, _ => absurd h (by omega)
  | [], j, m, n + 1, _, _, h, _, H => by
    have H' : post (nI m) := H
    have hj : j ≤ 30 := by simpa using h
    exact pk_le 30 j (fun _ => H') (fun _ => pk_eq 30 e (fun z => H') (fun _ => pk_eq 30 30 (fun _ => H') (fun z => absurd rfl z)))
  | q :: l, j, m, n + 1, hm, hk, h, hn, H => by
    have hq : q < 30 := hm q List.mem_cons_self
    have hm' : ∀ z, z ∈ l → z < 30 := fun z hz => hm z (List.mem_cons_of_mem _ hz)
    rw [List.length_cons] at h hn
    have d : zt_pl (zt_sh a7 x) e (q :: l) = if q = e then 0 else (if zt_sh a7 x q = true then 1 else 0) + zt_pl (zt_sh a7 x) e l := rfl
    rw [d] at H
    have ix : a9 (nI x * 31 + nI q).toNatClampNeg = nI (zt_hd l) := by rw [zt_ic hx (by omega)]; exact hk.1
    refine pk_le 30 j (fun z => absurd z (by omega)) (fun _ => pk_eq q e (fun z => ?_) (fun z => pk_eq q 30 (fun z => absurd z (by omega)) (fun _ => zt_shn (e := q) hx (by omega) (fun s => br_t rfl ?_) (fun s => br_f (by decide) ?_))))
    · rw [if_pos z] at H
      exact H
    · rw [if_neg z, if_neg (by rw [s]; decide), Nat.zero_add] at H
      exact nm_r (Int32.add_zero _) ⟨pk_in (x * 31 + q) 93 (by omega) (zt_ix x q), nm_r ix (nm_r (nI_1 j) (zt_po67 hx he l (j + 1) m n hm' hk.2 (by omega) (by omega) H))⟩
    · rw [if_neg z, if_pos s] at H
      exact nm_r (nI_1 m) ⟨pk_in (x * 31 + q) 93 (by omega) (zt_ix x q), nm_r ix (nm_r (nI_1 j) (zt_po67 hx he l (j + 1) (m + 1) n hm' hk.2 (by omega) (by omega) (by rw [show m + 1 + zt_pl (zt_sh a7 x) e l = m + (1 + zt_pl (zt_sh a7 x) e l) by omega]; exact H)))⟩
theorem zt_es13 {post : Int32 → Prop} {x c : Nat} (hx : x < 3) (hc : c ≤ 30) (H : post (nI (zt_cn (fun e => zt_b (a6 x) e && zt_ins a1 e) c))) : ∀ (d e n : Nat), e + d = c → d < n → wX_elements_13 post (nI x) (nI c) a1 a2 a3 a4 a5 a6 a7 a8 a9 n (nI (zt_cn (fun e => zt_b (a6 x) e && zt_ins a1 e) e)) (nI e)
  | _, _, 0, _, h => absurd h (by omega)
  | 0, e, n + 1, h, _ => by
    have h' : e = c := by omega
    subst h'
    exact pk_le e e (fun _ => H) (fun z => absurd z (by omega))
  | d + 1, e, n + 1, h, hn => by
    have ih := zt_es13 hx hc H d (e + 1) n (by omega) (by omega)
    have s : zt_cn (fun e => zt_b (a6 x) e && zt_ins a1 e) (e + 1) = zt_cn (fun e => zt_b (a6 x) e && zt_ins a1 e) e + (if (zt_b (a6 x) e && zt_ins a1 e) = true then 1 else 0) := rfl
    rw [s] at ih
    have cl : (nI e).toNatClampNeg = e := nI_clamp (by omega)
    refine pk_le c e (fun z => absurd z (by omega)) (fun _ => zt_kn hx (by omega) (fun k => br_t rfl ?_) (fun k => br_f (by decide) ⟨pk_in e 30 (by omega), ?_⟩))
    · rw [k, Bool.false_and, if_neg (by decide), Nat.add_zero] at ih
      exact nm_r (Int32.add_zero _) (nm_r (nI_1 e) ih)
    · rw [cl]
      refine br_c (fun z => ?_) (fun z => ?_)
      · rw [zt_ins_lt.mp z, Bool.and_false, if_neg (by decide), Nat.add_zero] at ih
        exact nm_r (Int32.add_zero _) (nm_r (nI_1 e) ih)
      · rw [k, zt_nf (fun y => z (zt_ins_lt.mpr y)), Bool.and_true, if_pos rfl] at ih
        exact nm_r (nI_1 _) (nm_r (nI_1 e) ih)
theorem zt_elements {post : Int32 → Prop} {x c : Nat} (hx : x < 3) (hc : c ≤ 30) (H : post (nI (zt_cn (fun e => zt_b (a6 x) e && zt_ins a1 e) c))) : wpX_elements post (nI c, a1, a2, a3, a4, a5, a6, a7, a8, a9) (nI x) := by
  unfold wpX_elements
  dsimp only
  exact zt_isr hx (br_f (by decide) ⟨c + 1, zt_es13 hx hc H c 0 (c + 1) (by omega) (by omega)⟩)
theorem zt_length {post : Int32 → Prop} {x : Nat} {ch : List Nat} (hx : x < 3) (hm : ∀ q, q ∈ ch → q < 30) (hl : ch.length ≤ 30) (hk : zt_lk a9 x (30 :: ch)) (H : post (nI (ch.countP (zt_sh a7 x)))) : wpX_length post (f, a1, a2, a3, a4, a5, a6, a7, a8, a9) (nI x) := by
  have ix : a9 (nI x * 31 + nI 30).toNatClampNeg = nI (zt_hd ch) := by rw [zt_ic hx (by omega)]; exact hk.1
  unfold wpX_length
  dsimp only
  exact zt_isr hx (br_f (by decide) ⟨pk_in (x * 31 + 30) 93 (by omega) (zt_ix x 30), nm_r ix ⟨ch.length + 1, zt_len27 hx ch 0 0 _ hm hk.2 (by omega) (by omega) (by rw [Nat.zero_add]; exact H)⟩⟩)
theorem zt_elementAt {post : Int32 → Prop} {x p : Nat} {ch : List Nat} (hx : x < 3) (hp : p < 2 ^ 31) (hm : ∀ q, q ∈ ch → q < 30) (hl : ch.length ≤ 30) (hk : zt_lk a9 x (30 :: ch)) (H : post (nI (zt_el (zt_sh a7 x) ch p))) : wpX_elementAt post (f, a1, a2, a3, a4, a5, a6, a7, a8, a9) (nI x) (nI p) := by
  have ix : a9 (nI x * 31 + nI 30).toNatClampNeg = nI (zt_hd ch) := by rw [zt_ic hx (by omega)]; exact hk.1
  exact ⟨pk_in (x * 31 + 30) 93 (by omega) (zt_ix x 30), nm_r ix ⟨ch.length + 1, zt_ea19 hx ch 0 p _ hm hk.2 (by omega) (by omega) hp H⟩⟩
theorem zt_madeBy {post : Int32 → Prop} {x p : Nat} {ch : List Nat} (hx : x < 3) (hp : p < 2 ^ 31) (hm : ∀ q, q ∈ ch → q < 30) (hl : ch.length ≤ 30) (hk : zt_lk a9 x (30 :: ch))
    (H0 : ch.countP (zt_sh a7 x) ≤ p → post (-1)) (H1 : p < ch.countP (zt_sh a7 x) → post (nI (zt_el (zt_sh a7 x) ch p))) : wpX_madeBy post (f, a1, a2, a3, a4, a5, a6, a7, a8, a9) (nI x) (nI p) := by
  unfold wpX_madeBy
  dsimp only
  refine zt_isr hx (br_f (by decide) (br_t (nI_pos' hp) (zt_elementAt hx hp hm hl hk ?_)))
  rcases Nat.lt_or_ge p (ch.countP (zt_sh a7 x)) with h | h
  · have t := hm _ (zt_el_lo h).1
    exact pk_eq (zt_el (zt_sh a7 x) ch p) 30 (fun z => absurd z (by omega)) (fun _ => H1 h)
  · rw [zt_el_hi h]
    exact pk_eq 30 30 (fun _ => H0 h) (fun z => absurd rfl z)
theorem zt_placeOf {post : Int32 → Prop} {x e c : Nat} {ch : List Nat} (hx : x < 3) (hc : c ≤ 30) (he : e < c) (hm : ∀ q, q ∈ ch → q < 30) (hl : ch.length ≤ 30) (hk : zt_lk a9 x (30 :: ch))
    (h1 : zt_b (a6 x) e = true) (h2 : zt_ins a1 e = true) (h3 : zt_sh a7 x e = true) (H : post (nI (zt_pl (zt_sh a7 x) e ch))) : wpX_placeOf post (nI c, a1, a2, a3, a4, a5, a6, a7, a8, a9) (nI x) (nI e) := by
  have ix : a9 (nI x * 31 + nI 30).toNatClampNeg = nI (zt_hd ch) := by rw [zt_ic hx (by omega)]; exact hk.1
  have cl : (nI e).toNatClampNeg = e := nI_clamp (by omega)
  unfold wpX_placeOf
  dsimp only
  refine zt_isr hx (br_f (by decide) (pk_lt e 0 (fun z => absurd z (by omega)) (fun _ => pk_le c e (fun z => absurd z (by omega)) (fun _ => ⟨pk_in e 30 (by omega), br_f ?_ ?_⟩))))
  · rw [cl]
    exact fun z => absurd (zt_ins_lt.mp z) (by rw [h2]; decide)
  · refine zt_kn hx (by omega) (fun z => absurd z (by rw [h1]; decide)) (fun _ => br_f (by decide) (zt_shn hx (by omega) (fun z => absurd z (by rw [h3]; decide)) (fun _ => br_f (by decide) ?_)))
    exact ⟨pk_in (x * 31 + 30) 93 (by omega) (zt_ix x 30), nm_r ix ⟨ch.length + 1, zt_po67 hx (by omega) ch 0 0 _ hm hk.2 (by omega) (by omega) (by rw [Nat.zero_add]; exact H)⟩⟩
end
end
section
/-! the table of events, and what holds of one replica -/
def zt_T (c : Nat) (o t : Nat → Nat) (a1 a2 a3 a5 : Nat → Int32) : Prop :=
  ∀ e, e < c → a2 e = nI (o e) ∧ a3 e = nI (t e) ∧ t e ≤ e + 1 ∧ ((o e = 30 ∧ zt_ins a1 e = true) ∨ (o e < e ∧ zt_ins a1 (o e) = true ∧ zt_b (a5 e) (o e) = true))
def zt_R (c : Nat) (o t : Nat → Nat) (a1 : Nat → Int32) (w d : Int32) (k : Nat) (ch : List Nat) : Prop :=
  (∀ e, zt_b w e = true → e < c ∧ (o e = 30 ∨ zt_b w (o e) = true)) ∧
  (∀ i, zt_b d i = true ↔ ∃ e, zt_b w e = true ∧ zt_ins a1 e = false ∧ o e = i) ∧
  (∀ e, zt_b w e = true → zt_ins a1 e = true → t e ≤ k) ∧
  (k = 0 ∨ ∃ e, zt_b w e = true ∧ zt_ins a1 e = true ∧ t e = k) ∧
  ch.Nodup ∧ (∀ e, e ∈ ch ↔ zt_b w e = true ∧ zt_ins a1 e = true)
def zt_P (c : Nat) (o t : Nat → Nat) (a1 a6 a7 a8 a9 : Nat → Int32) (x : Nat) : Prop :=
  ∃ k ch, a8 x = nI k ∧ zt_R c o t a1 (a6 x) (a7 x) k ch ∧ zt_lk a9 x (30 :: ch)
theorem zt_or1 {a : Bool} {p : Prop} [Decidable p] : (a || decide p) = true ↔ a = true ∨ p := by simp
theorem zt_R_lt {c : Nat} {o t : Nat → Nat} {a1 : Nat → Int32} {w d : Int32} {k : Nat} {ch : List Nat} (h : zt_R c o t a1 w d k ch) : ∀ q, q ∈ ch → q < c :=
  fun q hq => (h.1 q ((h.2.2.2.2.2 q).mp hq).1).1
theorem zt_R_len {c : Nat} {o t : Nat → Nat} {a1 : Nat → Int32} {w d : Int32} {k : Nat} {ch : List Nat} (h : zt_R c o t a1 w d k ch) : ch.length ≤ c := zt_len h.2.2.2.2.1 (zt_R_lt h)
theorem zt_R_k {c : Nat} {o t : Nat → Nat} {a1 a2 a3 a5 : Nat → Int32} {w d : Int32} {k : Nat} {ch : List Nat} (hT : zt_T c o t a1 a2 a3 a5) (h : zt_R c o t a1 w d k ch) : k ≤ c := by
  obtain ⟨r1, _, _, r4, _⟩ := h
  rcases r4 with r | ⟨e, h1, _, h3⟩
  · omega
  · have g1 := (r1 e h1).1
    have g2 := (hT e g1).2.2.1
    omega
theorem zt_R_del {c : Nat} {o t : Nat → Nat} {a1 : Nat → Int32} {w d w' d' : Int32} {k e : Nat} {ch : List Nat} (h : zt_R c o t a1 w d k ch) (he : e < c) (hi : zt_ins a1 e = false) (hp : o e = 30 ∨ zt_b w (o e) = true)
    (hw : ∀ i, zt_b w' i = (zt_b w i || decide (i = e))) (hd : ∀ i, zt_b d' i = (zt_b d i || decide (i = o e))) : zt_R c o t a1 w' d' k ch := by
  obtain ⟨r1, r2, r3, r4, r5, r6⟩ := h
  have W : ∀ i, zt_b w' i = true ↔ zt_b w i = true ∨ i = e := fun i => by rw [hw i]; exact zt_or1
  have D : ∀ i, zt_b d' i = true ↔ zt_b d i = true ∨ i = o e := fun i => by rw [hd i]; exact zt_or1
  have N : ∀ i, zt_b w' i = true → zt_ins a1 i = true → zt_b w i = true := by
    intro i h1 h2
    rcases (W i).mp h1 with h | h
    · exact h
    · rw [h, hi] at h2
      exact absurd h2 (by decide)
  refine ⟨fun i h => ?_, fun i => ⟨fun h => ?_, fun h => ?_⟩, fun i h1 h2 => r3 i (N i h1 h2) h2, ?_, r5, fun i => ⟨fun h => ?_, fun h => ?_⟩⟩
  · rcases (W i).mp h with g | g
    · exact ⟨(r1 i g).1, (r1 i g).2.elim Or.inl (fun z => Or.inr ((W _).mpr (Or.inl z)))⟩
    · rw [g]
      exact ⟨he, hp.elim Or.inl (fun z => Or.inr ((W _).mpr (Or.inl z)))⟩
  · rcases (D i).mp h with g | g
    · obtain ⟨z, z1, z2, z3⟩ := (r2 i).mp g
      exact ⟨z, (W z).mpr (Or.inl z1), z2, z3⟩
    · exact ⟨e, (W e).mpr (Or.inr rfl), hi, g.symm⟩
  · obtain ⟨z, z1, z2, z3⟩ := h
    rcases (W z).mp z1 with g | g
    · exact (D i).mpr (Or.inl ((r2 i).mpr ⟨z, g, z2, z3⟩))
    · exact (D i).mpr (Or.inr (by rw [← z3, g]))
  · rcases r4 with r | ⟨z, z1, z2, z3⟩
    · exact Or.inl r
    · exact Or.inr ⟨z, (W z).mpr (Or.inl z1), z2, z3⟩
  · have g := (r6 i).mp h
    exact ⟨(W i).mpr (Or.inl g.1), g.2⟩
  · exact (r6 i).mpr ⟨N i h.1 h.2, h.2⟩
theorem zt_R_put {c : Nat} {o t : Nat → Nat} {a1 : Nat → Int32} {w d w' : Int32} {k k' e : Nat} {ch ch' : List Nat} (h : zt_R c o t a1 w d k ch) (he : e < c) (hi : zt_ins a1 e = true) (hp : o e = 30 ∨ zt_b w (o e) = true)
    (hw : ∀ i, zt_b w' i = (zt_b w i || decide (i = e))) (k1 : k ≤ k') (k2 : t e ≤ k') (k3 : k' = k ∨ k' = t e) (c1 : ch'.Nodup) (c2 : ∀ z, z ∈ ch' ↔ z = e ∨ z ∈ ch) : zt_R c o t a1 w' d k' ch' := by
  obtain ⟨r1, r2, r3, r4, r5, r6⟩ := h
  have W : ∀ i, zt_b w' i = true ↔ zt_b w i = true ∨ i = e := fun i => by rw [hw i]; exact zt_or1
  refine ⟨fun i h => ?_, fun i => ⟨fun h => ?_, fun h => ?_⟩, fun i h1 h2 => ?_, ?_, c1, fun i => ⟨fun h => ?_, fun h => ?_⟩⟩
  · rcases (W i).mp h with g | g
    · exact ⟨(r1 i g).1, (r1 i g).2.elim Or.inl (fun z => Or.inr ((W _).mpr (Or.inl z)))⟩
    · rw [g]
      exact ⟨he, hp.elim Or.inl (fun z => Or.inr ((W _).mpr (Or.inl z)))⟩
  · obtain ⟨z, z1, z2, z3⟩ := (r2 i).mp h
    exact ⟨z, (W z).mpr (Or.inl z1), z2, z3⟩
  · obtain ⟨z, z1, z2, z3⟩ := h
    rcases (W z).mp z1 with g | g
    · exact (r2 i).mpr ⟨z, g, z2, z3⟩
    · rw [g, hi] at z2
      exact absurd z2 (by decide)
  · rcases (W i).mp h1 with g | g
    · exact Nat.le_trans (r3 i g h2) k1
    · rw [g]; exact k2
  · rcases k3 with g | g
    · rcases r4 with r | ⟨z, z1, z2, z3⟩
      · exact Or.inl (by omega)
      · exact Or.inr ⟨z, (W z).mpr (Or.inl z1), z2, by omega⟩
    · exact Or.inr ⟨e, (W e).mpr (Or.inr rfl), hi, g.symm⟩
  · rcases (c2 i).mp h with g | g
    · rw [g]; exact ⟨(W e).mpr (Or.inr rfl), hi⟩
    · have v := (r6 i).mp g
      exact ⟨(W i).mpr (Or.inl v.1), v.2⟩
  · rcases (W i).mp h.1 with g | g
    · exact (c2 i).mpr (Or.inr ((r6 i).mpr ⟨g, h.2⟩))
    · exact (c2 i).mpr (Or.inl g)
theorem zt_R_ext {c c' : Nat} {o t o' t' : Nat → Nat} {a1 a1' : Nat → Int32} {w d : Int32} {k : Nat} {ch : List Nat} (h : zt_R c o t a1 w d k ch) (hc : c ≤ c')
    (ho : ∀ e, e < c → o' e = o e) (ht : ∀ e, e < c → t' e = t e) (hi : ∀ e, e < c → zt_ins a1' e = zt_ins a1 e) : zt_R c' o' t' a1' w d k ch := by
  obtain ⟨r1, r2, r3, r4, r5, r6⟩ := h
  refine ⟨fun i h => ?_, fun i => ⟨fun h => ?_, fun h => ?_⟩, fun i h1 h2 => ?_, ?_, r5, fun i => ⟨fun h => ?_, fun h => ?_⟩⟩
  · have g := r1 i h
    rw [ho i g.1]
    exact ⟨by omega, g.2⟩
  · obtain ⟨z, z1, z2, z3⟩ := (r2 i).mp h
    have g := (r1 z z1).1
    exact ⟨z, z1, by rw [hi z g]; exact z2, by rw [ho z g]; exact z3⟩
  · obtain ⟨z, z1, z2, z3⟩ := h
    have g := (r1 z z1).1
    rw [hi z g] at z2
    rw [ho z g] at z3
    exact (r2 i).mpr ⟨z, z1, z2, z3⟩
  · have g := (r1 i h1).1
    rw [hi i g] at h2
    rw [ht i g]
    exact r3 i h1 h2
  · rcases r4 with r | ⟨z, z1, z2, z3⟩
    · exact Or.inl r
    · have g := (r1 z z1).1
      exact Or.inr ⟨z, z1, by rw [hi z g]; exact z2, by rw [ht z g]; exact z3⟩
  · have v := (r6 i).mp h
    exact ⟨v.1, by rw [hi i (r1 i v.1).1]; exact v.2⟩
  · have g := (r1 i h.1).1
    rw [hi i g] at h
    exact (r6 i).mpr h
theorem zt_P_ext {c c' : Nat} {o t o' t' : Nat → Nat} {a1 a1' a6 a7 a8 a9 : Nat → Int32} {x : Nat} (h : zt_P c o t a1 a6 a7 a8 a9 x) (hc : c ≤ c')
    (ho : ∀ e, e < c → o' e = o e) (ht : ∀ e, e < c → t' e = t e) (hi : ∀ e, e < c → zt_ins a1' e = zt_ins a1 e) : zt_P c' o' t' a1' a6 a7 a8 a9 x := by
  obtain ⟨k, ch, h1, h2, h3⟩ := h
  exact ⟨k, ch, h1, zt_R_ext h2 hc ho ht hi, h3⟩
theorem zt_P_fr {c : Nat} {o t : Nat → Nat} {a1 a6 a7 a8 a9 a6' a7' a8' a9' : Nat → Int32} {x : Nat} (hc : c ≤ 30) (h : zt_P c o t a1 a6 a7 a8 a9 x) (h6 : a6' x = a6 x) (h7 : a7' x = a7 x) (h8 : a8' x = a8 x)
    (h9 : ∀ q, q ≤ 30 → a9' (x * 31 + q) = a9 (x * 31 + q)) : zt_P c o t a1 a6' a7' a8' a9' x := by
  obtain ⟨k, ch, h1, h2, h3⟩ := h
  refine ⟨k, ch, h8.trans h1, by rw [h6, h7]; exact h2, zt_lk_fr (fun q hq => h9 q ?_) h3⟩
  rcases List.mem_cons.mp hq with z | z
  · omega
  · have g := zt_R_lt h2 q z
    omega
end
section
/-! a replica takes an event -/
section
variable {f : Int32} {a1 a2 a3 a4 a5 a6 a7 a8 a9 : Nat → Int32}
theorem zt_in47 {post : St1 → Prop} {x e b h : Nat} (hx : x < 3) (he : e < 30) (hb : b ≤ 30) (hh : h ≤ 30) (H : post (f, a1, a2, a3, a4, a5, a6, a7, a8, upd (upd a9 (x * 31 + e) (nI h)) (x * 31 + b) (nI e))) :
    wX_integrate_47 post (nI x) (nI e) (nI b) (nI h) f a1 a2 a3 a4 a5 a6 a7 a8 a9 :=
  ⟨pk_in (x * 31 + e) 93 (by omega) (zt_ix x e), nm_r (e' := upd a9 (x * 31 + e) (nI h)) (by rw [zt_ic hx (by omega), zt_by h (by omega)]) ⟨pk_in (x * 31 + b) 93 (by omega) (zt_ix x b), nm_r (e' := upd (upd a9 (x * 31 + e) (nI h)) (x * 31 + b) (nI e)) (by rw [zt_ic hx hb, zt_by e (by omega)]) H⟩⟩
theorem zt_in10 {post : St1 → Prop} {x e : Nat} {ch : List Nat} (hx : x < 3) (he : e < 30) (hd : (30 :: ch).Nodup) (hm : ∀ q, q ∈ ch → q < 30) (hk : zt_lk a9 x (30 :: ch)) (hn : e ∉ ch)
    (H : ∀ ch' a9', ch'.Nodup → (∀ z, z ∈ ch' ↔ z = e ∨ z ∈ ch) → zt_lk a9' x (30 :: ch') → (∀ y q, y ≠ x → q ≤ 30 → a9' (y * 31 + q) = a9 (y * 31 + q)) → post (f, a1, a2, a3, a4, a5, a6, a7, a8, a9')) :
    ∀ (rest pre : List Nat) (b j n : Nat), 30 :: ch = pre ++ b :: rest → j + rest.length < 30 → rest.length < n → a9 (x * 31 + b) = nI (zt_hd rest) → wX_integrate_10 post (nI x) (nI e) f a1 a2 a3 a4 a5 a6 a7 a8 a9 n (nI b) (nI j) := by
  have he' : e ∉ 30 :: ch := by
    rw [List.mem_cons, not_or]
    exact ⟨by omega, hn⟩
  have fin : ∀ (rest pre : List Nat) (b : Nat), 30 :: ch = pre ++ b :: rest → wX_integrate_47 post (nI x) (nI e) (nI b) (nI (zt_hd rest)) f a1 a2 a3 a4 a5 a6 a7 a8 a9 := by
    intro rest pre b hs
    obtain ⟨ch', s1, s2, s3⟩ := zt_split hs hd he'
    have bm : ∀ q, q ∈ 30 :: ch → q ≤ 30 := by
      intro q hq
      rcases List.mem_cons.mp hq with z | z
      · omega
      · have := hm q z; omega
    have hb : b ≤ 30 := bm b (by rw [hs]; simp)
    have hh : zt_hd rest ≤ 30 := by
      cases rest with
      | nil => exact Nat.le_refl 30
      | cons q l => exact bm q (by rw [hs]; simp)
    refine zt_in47 hx he hb hh (H ch' _ (List.nodup_cons.mp s2).2 s3 ?_ (fun y q hy hq => ?_))
    · rw [← s1]
      exact zt_lk_ins (by rw [← hs]; exact hd) (by rw [← hs]; exact he') (by rw [← hs]; exact hk)
    · rw [pk_un (by omega), pk_un (by omega)]
  intro rest
  induction rest with
  | nil =>
    intro pre b j n hs hj hn2 ha
    cases n with
    | zero => exact absurd hn2 (by omega)
    | succ n =>
      have hb : b ≤ 30 := by
        have : b ∈ 30 :: ch := by rw [hs]; simp
        rcases List.mem_cons.mp this with z | z
        · omega
        · have := hm b z; omega
      have hj' : j < 30 := by simpa using hj
      have ix : a9 (nI x * 31 + nI b).toNatClampNeg = nI 30 := by rw [zt_ic hx hb]; exact ha
      refine pk_le 30 j (fun z => absurd z (by omega)) (fun _ => ⟨pk_in (x * 31 + b) 93 (by omega) (zt_ix x b), nm_r ix ?_⟩)
      exact pk_eq 30 30 (fun _ => fin [] pre b hs) (fun z => absurd rfl z)
  | cons q l ih =>
    intro pre b j n hs hj hn2 ha
    cases n with
    | zero => exact absurd hn2 (by omega)
    | succ n =>
      have bm : ∀ q, q ∈ 30 :: ch → q ≤ 30 := by
        intro q hq
        rcases List.mem_cons.mp hq with z | z
        · omega
        · have := hm q z; omega
      have hb : b ≤ 30 := bm b (by rw [hs]; simp)
      have hq : q < 30 := by
        cases pre with
        | nil =>
          have h' : 30 = b ∧ ch = q :: l := by simpa using hs
          exact hm q (by rw [h'.2]; simp)
        | cons u pre =>
          have h' : 30 = u ∧ ch = pre ++ b :: q :: l := by simpa using hs
          exact hm q (by rw [h'.2]; simp)
      rw [List.length_cons] at hj hn2
      have hs' : 30 :: ch = (pre ++ [b]) ++ q :: l := by rw [hs]; simp
      have ha' : a9 (x * 31 + q) = nI (zt_hd l) := by
        have aux : ∀ (u v : List Nat), zt_lk a9 x (u ++ v) → zt_lk a9 x v := by
          intro u v h
          induction u with
          | nil => exact h
          | cons w u ih2 => exact ih2 h.2
        have k := hk
        rw [hs'] at k
        exact (aux _ _ k).1
      have ix : a9 (nI x * 31 + nI b).toNatClampNeg = nI q := by rw [zt_ic hx hb]; exact ha
      refine pk_le 30 j (fun z => absurd z (by omega)) (fun _ => ⟨pk_in (x * 31 + b) 93 (by omega) (zt_ix x b), nm_r ix ?_⟩)
      refine pk_eq q 30 (fun z => absurd z (by omega)) (fun _ => zt_isg he hq (br_t rfl (nm_r (nI_1 j) ?_)) (br_f (by decide) (fin (q :: l) pre b hs)))
      exact ih (pre ++ [b]) q (j + 1) n hs' (by omega) (by omega) ha'
theorem zt_integrate {post : St1 → Prop} {x e o : Nat} {ch : List Nat} (hx : x < 3) (he : e < 30) (hd : ch.Nodup) (hm : ∀ q, q ∈ ch → q < 30) (hl : ch.length < 30) (hk : zt_lk a9 x (30 :: ch)) (hn : e ∉ ch) (ho : o = 30 ∨ o ∈ ch) (h2 : a2 e = nI o)
    (H : ∀ ch' a9', ch'.Nodup → (∀ z, z ∈ ch' ↔ z = e ∨ z ∈ ch) → zt_lk a9' x (30 :: ch') → (∀ y q, y ≠ x → q ≤ 30 → a9' (y * 31 + q) = a9 (y * 31 + q)) → post (f, a1, a2, a3, a4, a5, a6, a7, a8, a9')) :
    wpX_integrate post (f, a1, a2, a3, a4, a5, a6, a7, a8, a9) (nI x) (nI e) := by
  have hd' : (30 :: ch).Nodup := List.nodup_cons.mpr ⟨fun z => absurd (hm 30 z) (by omega), hd⟩
  have ho' : o ∈ 30 :: ch := List.mem_cons.mpr ho
  obtain ⟨pre, rest, hs⟩ := List.append_of_mem ho'
  have aux : ∀ (u v : List Nat), zt_lk a9 x (u ++ v) → zt_lk a9 x v := by
    intro u v h
    induction u with
    | nil => exact h
    | cons w u ih2 => exact ih2 h.2
  have k := hk
  rw [hs] at k
  have len : rest.length ≤ ch.length := by
    have t := congrArg List.length hs
    rw [List.length_cons, List.length_append, List.length_cons] at t
    omega
  have ix : a2 (nI e).toNatClampNeg = nI o := by rw [nI_clamp (show e < 2 ^ 31 by omega)]; exact h2
  refine ⟨pk_in e 30 he, nm_r ix ⟨rest.length + 1, ?_⟩⟩
  exact zt_in10 hx he hd' hm hk hn H rest pre o 0 _ hs (by omega) (by omega) (aux _ _ k).1
theorem zt_take {post : St1 → Prop} {c x e : Nat} {o t : Nat → Nat} (hc : c ≤ 30) (hT : zt_T c o t a1 a2 a3 a5) (hP : ∀ y, y < 3 → zt_P c o t a1 a6 a7 a8 a9 y) (hx : x < 3) (he : e < c) (hk : zt_b (a6 x) e = false) (hp : o e = 30 ∨ zt_b (a6 x) (o e) = true)
    (H : ∀ a6' a7' a8' a9', (∀ y, y ≠ x → a6' y = a6 y) → (∀ i, zt_b (a6' x) i = (zt_b (a6 x) i || decide (i = e))) → (∀ y, y < 3 → zt_P c o t a1 a6' a7' a8' a9' y) → post (f, a1, a2, a3, a4, a5, a6', a7', a8', a9')) :
    wpX_take post (f, a1, a2, a3, a4, a5, a6, a7, a8, a9) (nI x) (nI e) := by
  obtain ⟨k, ch, p1, p2, p3⟩ := hP x hx
  obtain ⟨t1, t2, t3, t4⟩ := hT e he
  have cx : (nI x).toNatClampNeg = x := nI_clamp (by omega)
  have ce : (nI e).toNatClampNeg = e := nI_clamp (by omega)
  have hk30 : k ≤ 30 := Nat.le_trans (zt_R_k hT p2) hc
  have hne : e ∉ ch := fun z => absurd ((p2.2.2.2.2.2 e).mp z).1 (by rw [hk]; decide)
  have W : ∀ i, zt_b (upd a6 x (a6 x ||| ((1 : Int32) <<< (nI e &&& 31))) x) i = (zt_b (a6 x) i || decide (i = e)) := fun i => by rw [pk_us]; exact zt_bset _ (by omega) i
  have O : ∀ y, y ≠ x → upd a6 x (a6 x ||| ((1 : Int32) <<< (nI e &&& 31))) y = a6 y := fun y hy => pk_un hy
  unfold wpX_take
  dsimp only
  rw [cx, ce]
  refine ⟨pk_in x 3 hx, pk_in x 3 hx, nm_e ⟨pk_in e 30 (by omega), br_c (fun g => ?_) (fun g => ?_)⟩⟩
  · have gi : zt_ins a1 e = true := decide_eq_true g
    have ho : o e = 30 ∨ o e ∈ ch := by
      rcases t4 with z | z
      · exact Or.inl z.1
      · rcases hp with y | y
        · exact Or.inl y
        · exact Or.inr ((p2.2.2.2.2.2 _).mpr ⟨y, z.2.1⟩)
    have hl : ch.length < 30 := by
      have nd : (e :: ch).Nodup := List.nodup_cons.mpr ⟨hne, p2.2.2.2.2.1⟩
      have l := zt_len (n := c) nd (fun q hq => by
        rcases List.mem_cons.mp hq with z | z
        · omega
        · exact zt_R_lt p2 q z)
      rw [List.length_cons] at l
      omega
    have hm : ∀ q, q ∈ ch → q < 30 := fun q hq => by have := zt_R_lt p2 q hq; omega
    have go : ∀ (k' : Nat) (a8' : Nat → Int32), k ≤ k' → t e ≤ k' → (k' = k ∨ k' = t e) → a8' x = nI k' → (∀ y, y ≠ x → a8' y = a8 y) → wX_take_66 post (nI x) (nI e) f a1 a2 a3 a4 a5 (upd a6 x (a6 x ||| ((1 : Int32) <<< (nI e &&& 31)))) a7 a8' a9 := by
      intro k' a8' k1 k2 k3 k4 k5
      unfold wX_take_66
      refine zt_integrate hx (by omega) p2.2.2.2.2.1 hm hl p3 hne ho t1 (fun ch' a9' c1 c2 c3 c4 => ?_)
      refine H _ a7 a8' a9' O W (fun y hy => ?_)
      by_cases e1 : y = x
      · rw [e1]
        exact ⟨k', ch', k4, zt_R_put p2 he gi hp W k1 k2 k3 c1 c2, c3⟩
      · exact zt_P_fr hc (hP y hy) (O y e1) rfl (k5 y e1) (fun q hq => c4 y q e1 hq)
    refine ⟨pk_in e 30 (by omega), pk_in x 3 hx, ?_⟩
    rw [t2, p1]
    refine pk_le (t e) k (fun z => go k a8 (Nat.le_refl k) z (Or.inl rfl) p1 (fun _ _ => rfl)) (fun z => ⟨pk_in e 30 (by omega), pk_in x 3 hx, nm_r (e' := upd a8 x (nI (t e))) (by rw [zt_nb (show t e < 128 by omega)]) (go (t e) _ (by omega) (Nat.le_refl _) (Or.inr rfl) pk_us (fun y hy => pk_un hy))⟩)
  · have gi : zt_ins a1 e = false := decide_eq_false g
    have oe : o e < 30 := by
      rcases t4 with z | z
      · rw [gi] at z; exact absurd z.2 (by decide)
      · omega
    refine ⟨pk_in x 3 hx, pk_in e 30 (by omega), pk_in x 3 hx, nm_r (e' := upd a7 x (a7 x ||| ((1 : Int32) <<< (nI (o e) &&& 31)))) (by rw [t1]) (H _ _ a8 a9 O W (fun y hy => ?_))⟩
    by_cases e1 : y = x
    · rw [e1]
      refine ⟨k, ch, p1, zt_R_del p2 he gi hp W (fun i => ?_), p3⟩
      rw [pk_us]
      exact zt_bset _ (by omega) i
    · exact zt_P_fr hc (hP y hy) (O y e1) (pk_un e1) rfl (fun q hq => rfl)
end
end
section
/-! the four acts keep the invariant -/
def zt_I (f : Int32) (a1 a2 a3 a5 a6 a7 a8 a9 : Nat → Int32) : Prop :=
  ∃ (c : Nat) (o t : Nat → Nat), f = nI c ∧ c ≤ 30 ∧ zt_T c o t a1 a2 a3 a5 ∧ (∀ x, x < 3 → zt_P c o t a1 a6 a7 a8 a9 x) ∧ (∀ e, e < c → ∃ x, x < 3 ∧ zt_b (a6 x) e = true)
theorem zt_ins_s {a1 : Nat → Int32} {c : Nat} {v : Int32} : zt_ins (upd a1 c v) c = decide (0 ≤ v) := by unfold zt_ins; rw [pk_us]
theorem zt_ins_n {a1 : Nat → Int32} {c e : Nat} {v : Int32} (h : e ≠ c) : zt_ins (upd a1 c v) e = zt_ins a1 e := by unfold zt_ins; rw [pk_un h]
section
variable {f : Int32} {a1 a2 a3 a4 a5 a6 a7 a8 a9 : Nat → Int32}
theorem zt_mk68 {post : Int32 → St1 → Prop} {c x ot tm : Nat} {o t : Nat → Nat} {v : Int32} (hc : c < 30) (hT : zt_T c o t a1 a2 a3 a5) (hP : ∀ y, y < 3 → zt_P c o t a1 a6 a7 a8 a9 y) (hU : ∀ e, e < c → ∃ y, y < 3 ∧ zt_b (a6 y) e = true) (hx : x < 3)
    (ho : (ot = 30 ∧ 0 ≤ v) ∨ (zt_b (a6 x) ot = true ∧ zt_ins a1 ot = true)) (ht : tm ≤ c + 1)
    (H : ∀ r f a1 a2 a3 a4 a5 a6 a7 a8 a9, zt_I f a1 a2 a3 a5 a6 a7 a8 a9 → post r (f, a1, a2, a3, a4, a5, a6, a7, a8, a9)) :
    wX_make_68 post (nI x) (nI c) (nI tm) (nI c) (nI c) (upd a1 c v) (upd a2 c (nI ot)) a3 a4 (upd a5 c (a6 x)) a6 a7 a8 a9 := by
  have cc : (nI c).toNatClampNeg = c := nI_clamp (by omega)
  obtain ⟨k, ch, q1, q2, q3⟩ := hP x hx
  have kc : zt_b (a6 x) c = false := by
    cases hb : zt_b (a6 x) c
    · rfl
    · exact absurd (q2.1 c hb).1 (by omega)
  have T' : zt_T (c + 1) (fun e => if e = c then ot else o e) (fun e => if e = c then tm else t e) (upd a1 c v) (upd a2 c (nI ot)) (upd a3 c (nI tm)) (upd a5 c (a6 x)) := by
    intro e he
    dsimp only
    by_cases e1 : e = c
    · subst e1
      rw [if_pos rfl, if_pos rfl, pk_us, pk_us, pk_us]
      refine ⟨rfl, rfl, ht, ?_⟩
      rcases ho with z | z
      · exact Or.inl ⟨z.1, by rw [zt_ins_s]; exact decide_eq_true z.2⟩
      · have l := (q2.1 ot z.1).1
        exact Or.inr ⟨l, by rw [zt_ins_n (by omega)]; exact z.2, z.1⟩
    · rw [if_neg e1, if_neg e1, pk_un e1, pk_un e1, pk_un e1, zt_ins_n e1]
      obtain ⟨t1, t2, t3, t4⟩ := hT e (by omega)
      refine ⟨t1, t2, t3, t4.elim Or.inl (fun z => Or.inr ⟨z.1, ?_, z.2.2⟩)⟩
      have l := z.1
      rw [zt_ins_n (by omega)]
      exact z.2.1
  have P' : ∀ y, y < 3 → zt_P (c + 1) (fun e => if e = c then ot else o e) (fun e => if e = c then tm else t e) (upd a1 c v) a6 a7 a8 a9 y := fun y hy =>
    zt_P_ext (hP y hy) (by omega) (fun e he => if_neg (by omega)) (fun e he => if_neg (by omega)) (fun e he => zt_ins_n (by omega))
  unfold wX_make_68
  refine ⟨pk_in c 30 hc, nm_r (e' := upd a3 c (nI tm)) (by rw [cc, zt_by tm (by omega)]) (nm_r (nI_1 c) ?_)⟩
  refine zt_take (c := c + 1) (by omega) T' P' hx (by omega) kc ?_ (fun a6' a7' a8' a9' W1 W2 W3 => ?_)
  · rw [if_pos rfl]
    exact ho.elim (fun z => Or.inl z.1) (fun z => Or.inr z.1)
  · refine H _ _ _ _ _ _ _ _ _ _ _ ⟨c + 1, _, _, rfl, by omega, T', W3, fun e he => ?_⟩
    by_cases e1 : e = c
    · exact ⟨x, hx, by rw [W2, e1]; simp⟩
    · obtain ⟨y, hy, hb⟩ := hU e (by omega)
      by_cases e2 : y = x
      · rw [e2] at hb
        exact ⟨x, hx, by rw [W2, hb]; rfl⟩
      · exact ⟨y, hy, by rw [W1 y e2]; exact hb⟩
theorem zt_make {post : Int32 → St1 → Prop} {c x ot : Nat} {o t : Nat → Nat} {p : Int32} (hc : c < 30) (hT : zt_T c o t a1 a2 a3 a5) (hP : ∀ y, y < 3 → zt_P c o t a1 a6 a7 a8 a9 y) (hU : ∀ e, e < c → ∃ y, y < 3 ∧ zt_b (a6 y) e = true) (hx : x < 3)
    (ho : (ot = 30 ∧ 0 ≤ p.toInt8.toInt32) ∨ (zt_b (a6 x) ot = true ∧ zt_ins a1 ot = true))
    (H : ∀ r f a1 a2 a3 a4 a5 a6 a7 a8 a9, zt_I f a1 a2 a3 a5 a6 a7 a8 a9 → post r (f, a1, a2, a3, a4, a5, a6, a7, a8, a9)) :
    wpX_make post (nI c, a1, a2, a3, a4, a5, a6, a7, a8, a9) (nI x) p (nI ot) := by
  have cc : (nI c).toNatClampNeg = c := nI_clamp (by omega)
  have cx : (nI x).toNatClampNeg = x := nI_clamp (by omega)
  obtain ⟨k, ch, q1, q2, q3⟩ := hP x hx
  have hk := zt_R_k hT q2
  have hot : ot ≤ 30 := by
    rcases ho with z | z
    · omega
    · have l := (q2.1 ot z.1).1
      omega
  unfold wpX_make
  dsimp only
  rw [cc, cx, q1, zt_by ot (by omega), nI_1 k]
  refine ⟨pk_in c 30 hc, nm_e ⟨pk_in c 30 hc, nm_e ⟨pk_in c 30 hc, nm_e ⟨pk_in x 3 hx, pk_in c 30 hc, nm_e ?_⟩⟩⟩⟩
  exact br_c (fun _ => ⟨pk_in x 3 hx, zt_mk68 hc hT hP hU hx ho (by omega) H⟩) (fun _ => zt_mk68 (tm := 0) hc hT hP hU hx ho (by omega) H)
theorem zt_put {post : Int32 → St1 → Prop} (p0 p1 p2 : Int32) (hI : zt_I f a1 a2 a3 a5 a6 a7 a8 a9)
    (H : ∀ r f a1 a2 a3 a4 a5 a6 a7 a8 a9, zt_I f a1 a2 a3 a5 a6 a7 a8 a9 → post r (f, a1, a2, a3, a4, a5, a6, a7, a8, a9)) :
    wpX_put post (f, a1, a2, a3, a4, a5, a6, a7, a8, a9) p0 p1 p2 := by
  have Z : ∀ r, post r (f, a1, a2, a3, a4, a5, a6, a7, a8, a9) := fun r => H r _ _ _ _ _ _ _ _ _ _ hI
  obtain ⟨c, o, t, rfl, hc, hT, hP, hU⟩ := hI
  unfold wpX_put
  dsimp only
  refine zt_isc p0 (br_t rfl (Z _)) (fun x hx ex => br_f (by decide) ?_)
  subst ex
  refine br_c (fun _ => Z _) (fun h2 => br_c (fun _ => Z _) (fun h3 => br_c (fun _ => Z _) (fun h1 => ?_)))
  obtain ⟨s, hs, rfl⟩ := nI_of h2
  obtain ⟨p, hp, rfl⟩ := nI_of h1
  have hs25 : s ≤ 25 := by
    have g : ¬ nI 25 < nI s := h3
    rw [nI_ltI (by omega) hs] at g
    omega
  have v0 : (0 : Int32) ≤ (nI s).toInt8.toInt32 := by
    rw [zt_by s (by omega)]
    exact nI_pos' hs
  obtain ⟨k, ch, q1, q2, q3⟩ := hP x hx
  have hm : ∀ q, q ∈ ch → q < 30 := fun q hq => by have := zt_R_lt q2 q hq; omega
  have hl : ch.length ≤ 30 := Nat.le_trans (zt_R_len q2) hc
  have hcl : ch.countP (zt_sh a7 x) ≤ ch.length := List.countP_le_length
  refine zt_length hx hm hl q3 (pk_le p (ch.countP (zt_sh a7 x)) (fun z => pk_lt c 30 (fun hc' => pk_eq p 0 (fun z0 => ?_) (fun z0 => ?_)) (fun _ => Z _)) (fun _ => Z _))
  · unfold wX_put_61
    exact zt_make (ot := 30) hc' hT hP hU hx (Or.inl ⟨rfl, v0⟩) H
  · have e1 : nI p - 1 = nI (p - 1) := pk_sub (b := 1) (by omega)
    rw [e1]
    have w := zt_el_lo (sh := zt_sh a7 x) (l := ch) (p := p - 1) (by omega)
    refine zt_elementAt hx (by omega) hm hl q3 ?_
    unfold wX_put_61
    exact zt_make hc' hT hP hU hx (Or.inr ((q2.2.2.2.2.2 _).mp w.1)) H
theorem zt_erase {post : Int32 → St1 → Prop} (p0 p1 : Int32) (hI : zt_I f a1 a2 a3 a5 a6 a7 a8 a9)
    (H : ∀ r f a1 a2 a3 a4 a5 a6 a7 a8 a9, zt_I f a1 a2 a3 a5 a6 a7 a8 a9 → post r (f, a1, a2, a3, a4, a5, a6, a7, a8, a9)) :
    wpX_erase post (f, a1, a2, a3, a4, a5, a6, a7, a8, a9) p0 p1 := by
  have Z : ∀ r, post r (f, a1, a2, a3, a4, a5, a6, a7, a8, a9) := fun r => H r _ _ _ _ _ _ _ _ _ _ hI
  obtain ⟨c, o, t, rfl, hc, hT, hP, hU⟩ := hI
  unfold wpX_erase
  dsimp only
  refine zt_isc p0 (br_t rfl (Z _)) (fun x hx ex => br_f (by decide) ?_)
  subst ex
  refine br_c (fun _ => Z _) (fun h1 => ?_)
  obtain ⟨p, hp, rfl⟩ := nI_of h1
  obtain ⟨k, ch, q1, q2, q3⟩ := hP x hx
  have hm : ∀ q, q ∈ ch → q < 30 := fun q hq => by have := zt_R_lt q2 q hq; omega
  have hl : ch.length ≤ 30 := Nat.le_trans (zt_R_len q2) hc
  have hcl : ch.countP (zt_sh a7 x) ≤ ch.length := List.countP_le_length
  refine zt_length hx hm hl q3 (pk_lt p (ch.countP (zt_sh a7 x)) (fun z => pk_lt c 30 (fun hc' => ?_) (fun _ => Z _)) (fun _ => Z _))
  have w := zt_el_lo (sh := zt_sh a7 x) (l := ch) (p := p) z
  refine zt_elementAt hx hp hm hl q3 ?_
  exact zt_make hc' hT hP hU hx (Or.inr ((q2.2.2.2.2.2 _).mp w.1)) H
theorem zt_learn {post : Int32 → St1 → Prop} (p0 p1 p2 : Int32) (hI : zt_I f a1 a2 a3 a5 a6 a7 a8 a9)
    (H : ∀ r f a1 a2 a3 a4 a5 a6 a7 a8 a9, zt_I f a1 a2 a3 a5 a6 a7 a8 a9 → post r (f, a1, a2, a3, a4, a5, a6, a7, a8, a9)) :
    wpX_learn post (f, a1, a2, a3, a4, a5, a6, a7, a8, a9) p0 p1 p2 := by
  have Z : ∀ r, post r (f, a1, a2, a3, a4, a5, a6, a7, a8, a9) := fun r => H r _ _ _ _ _ _ _ _ _ _ hI
  obtain ⟨c, o, t, rfl, hc, hT, hP, hU⟩ := hI
  unfold wpX_learn
  dsimp only
  refine zt_isc p0 (br_t rfl (Z _)) (fun x hx ex => br_f (by decide) ?_)
  subst ex
  refine zt_isc p1 (br_t rfl (Z _)) (fun y hy ey => br_f (by decide) ?_)
  subst ey
  refine br_c (fun _ => Z _) (fun hxy => br_c (fun _ => Z _) (fun h2 => ?_))
  obtain ⟨e, he, rfl⟩ := nI_of h2
  refine pk_le c e (fun _ => Z _) (fun hec => zt_kn hy (by omega) (fun _ => br_t rfl (Z _)) (fun ky => br_f (by decide) (zt_kn hx (by omega) (fun kx => br_t rfl ⟨pk_in e 30 (by omega), pk_in x 3 hx, ?_⟩) (fun _ => br_f (by decide) (Z _)))))
  rw [nI_clamp (show e < 2 ^ 31 by omega), nI_clamp (show x < 2 ^ 31 by omega)]
  refine br_c (fun g => ?_) (fun _ => Z _)
  have hp : o e = 30 ∨ zt_b (a6 x) (o e) = true := by
    rcases (hT e hec).2.2.2 with z | z
    · exact Or.inl z.1
    · exact Or.inr (zt_bsub g z.2.2)
  refine zt_take hc hT hP hx hec kx hp (fun a6' a7' a8' a9' W1 W2 W3 => H _ (nI c) a1 a2 a3 a4 a5 a6' a7' a8' a9' ⟨c, o, t, rfl, hc, hT, W3, fun i hi => ?_⟩)
  obtain ⟨u, hu, hb⟩ := hU i hi
  by_cases e2 : u = x
  · rw [e2] at hb
    exact ⟨x, hx, by rw [W2, hb]; rfl⟩
  · exact ⟨u, hu, by rw [W1 u e2]; exact hb⟩
theorem zt_cu26 {post : Int32 → St1 → Prop} {c x y : Nat} {o t : Nat → Nat} (hc : c ≤ 30) (hT : zt_T c o t a1 a2 a3 a5) (hx : x < 3) (hy : y < 3) (hxy : y ≠ x)
    (H : ∀ r f a1 a2 a3 a4 a5 a6 a7 a8 a9, zt_I f a1 a2 a3 a5 a6 a7 a8 a9 → post r (f, a1, a2, a3, a4, a5, a6, a7, a8, a9)) :
    ∀ (d e n : Nat) (r : Int32) (a6 a7 a8 a9 : Nat → Int32), e + d = c → d < n → (∀ y, y < 3 → zt_P c o t a1 a6 a7 a8 a9 y) → (∀ e, e < c → ∃ y, y < 3 ∧ zt_b (a6 y) e = true) → (∀ i, i < e → zt_b (a6 y) i = true → zt_b (a6 x) i = true) →
      wX_catchUp_26 post (nI x) (nI y) n r (nI e) (nI c) a1 a2 a3 a4 a5 a6 a7 a8 a9
  | _, _, 0, _, _, _, _, _, _, h, _, _, _ => absurd h (by omega)
  | 0, e, n + 1, r, a6, a7, a8, a9, h, _, hP, hU, _ => by
    have h' : e = c := by omega
    subst h'
    exact pk_le e e (fun _ => H _ _ _ _ _ _ _ _ _ _ _ ⟨e, o, t, rfl, hc, hT, hP, hU⟩) (fun z => absurd z (by omega))
  | d + 1, e, n + 1, r, a6, a7, a8, a9, h, hn, hP, hU, hK => by
    refine pk_le c e (fun z => absurd z (by omega)) (fun hec => zt_kn hy (by omega) (fun ky => br_t rfl (nm_r (nI_1 e) ?_)) (fun ky => br_f (by decide) (zt_kn hx (by omega) (fun kx => br_t rfl ?_) (fun kx => br_f (by decide) (nm_r (nI_1 e) ?_)))))
    · refine zt_cu26 hc hT hx hy hxy H d (e + 1) n r a6 a7 a8 a9 (by omega) (by omega) hP hU (fun i hi hb => ?_)
      by_cases e1 : i = e
      · rw [e1, ky] at hb
        exact absurd hb (by decide)
      · exact hK i (by omega) hb
    · have hp : o e = 30 ∨ zt_b (a6 x) (o e) = true := by
        rcases (hT e hec).2.2.2 with z | z
        · exact Or.inl z.1
        · obtain ⟨k, ch, q1, q2, q3⟩ := hP y hy
          rcases (q2.1 e ky).2 with w | w
          · exact Or.inl w
          · exact Or.inr (hK _ z.1 w)
      refine zt_take hc hT hP hx hec kx hp (fun a6' a7' a8' a9' W1 W2 W3 => nm_e (nm_r (nI_1 e) ?_))
      refine zt_cu26 hc hT hx hy hxy H d (e + 1) n _ a6' a7' a8' a9' (by omega) (by omega) W3 (fun i hi => ?_) (fun i hi hb => ?_)
      · obtain ⟨u, hu, hb⟩ := hU i hi
        by_cases e2 : u = x
        · rw [e2] at hb
          exact ⟨x, hx, by rw [W2, hb]; rfl⟩
        · exact ⟨u, hu, by rw [W1 u e2]; exact hb⟩
      · rw [W1 y hxy] at hb
        rw [W2]
        by_cases e1 : i = e
        · rw [e1]; simp
        · rw [hK i (by omega) hb]; rfl
    · refine zt_cu26 hc hT hx hy hxy H d (e + 1) n r a6 a7 a8 a9 (by omega) (by omega) hP hU (fun i hi hb => ?_)
      by_cases e1 : i = e
      · rw [e1]; exact kx
      · exact hK i (by omega) hb
theorem zt_catchUp {post : Int32 → St1 → Prop} (p0 p1 : Int32) (hI : zt_I f a1 a2 a3 a5 a6 a7 a8 a9)
    (H : ∀ r f a1 a2 a3 a4 a5 a6 a7 a8 a9, zt_I f a1 a2 a3 a5 a6 a7 a8 a9 → post r (f, a1, a2, a3, a4, a5, a6, a7, a8, a9)) :
    wpX_catchUp post (f, a1, a2, a3, a4, a5, a6, a7, a8, a9) p0 p1 := by
  have Z : ∀ r, post r (f, a1, a2, a3, a4, a5, a6, a7, a8, a9) := fun r => H r _ _ _ _ _ _ _ _ _ _ hI
  obtain ⟨c, o, t, rfl, hc, hT, hP, hU⟩ := hI
  unfold wpX_catchUp
  dsimp only
  refine zt_isc p0 (br_t rfl (Z _)) (fun x hx ex => br_f (by decide) ?_)
  subst ex
  refine zt_isc p1 (br_t rfl (Z _)) (fun y hy ey => br_f (by decide) ?_)
  subst ey
  refine br_c (fun _ => Z _) (fun hxy => ⟨c + 1, ?_⟩)
  exact zt_cu26 hc hT hx hy (fun z => hxy (by rw [z])) H c 0 (c + 1) 0 a6 a7 a8 a9 (by omega) (by omega) hP hU (fun i hi => absurd hi (by omega))
end
end
section
/-! what the law checks, and the law -/
theorem zt_eqk {c : Nat} {o t : Nat → Nat} {a1 : Nat → Int32} {w d d' : Int32} {k k' : Nat} {ch ch' : List Nat} (h : zt_R c o t a1 w d k ch) (h' : zt_R c o t a1 w d' k' ch') : k = k' := by
  have main : ∀ {d d' : Int32} {k k' : Nat} {ch ch' : List Nat}, zt_R c o t a1 w d k ch → zt_R c o t a1 w d' k' ch' → k ≤ k' := by
    intro d d' k k' ch ch' h h'
    rcases h.2.2.2.1 with z | ⟨e, z1, z2, z3⟩
    · omega
    · have g := h'.2.2.1 e z1 z2
      omega
  exact Nat.le_antisymm (main h h') (main h' h)
theorem zt_beq {a b : Bool} (h : a = true ↔ b = true) : a = b := by
  cases a <;> cases b <;> simp_all
theorem zt_eql {c : Nat} {o t : Nat → Nat} {a1 : Nat → Int32} {w d d' : Int32} {k k' : Nat} {ch ch' : List Nat} (h : zt_R c o t a1 w d k ch) (h' : zt_R c o t a1 w d' k' ch') : ch.countP (fun e => !zt_b d e) = ch'.countP (fun e => !zt_b d' e) := by
  rw [zt_cnt h.2.2.2.2.1 (zt_R_lt h), zt_cnt h'.2.2.2.2.1 (zt_R_lt h')]
  refine zt_cn_congr (fun e _ => ?_)
  have m : (e ∈ ch) = (e ∈ ch') := propext ((h.2.2.2.2.2 e).trans (h'.2.2.2.2.2 e).symm)
  have b : zt_b d e = zt_b d' e := zt_beq ((h.2.1 e).trans (h'.2.1 e).symm)
  have m2 : decide (e ∈ ch) = decide (e ∈ ch') := by
    apply zt_beq
    rw [decide_eq_true_iff, decide_eq_true_iff, m]
  rw [m2, b]
theorem zt_cle {c : Nat} {o t : Nat → Nat} {a1 : Nat → Int32} {w d : Int32} {k : Nat} {ch : List Nat} (h : zt_R c o t a1 w d k ch) (sh : Nat → Bool) : ch.countP sh ≤ zt_cn (fun e => zt_b w e && zt_ins a1 e) c := by
  rw [zt_cnt h.2.2.2.2.1 (zt_R_lt h)]
  refine zt_cn_mono (fun e _ g => ?_)
  rw [Bool.and_eq_true, decide_eq_true_iff] at g
  have v := (h.2.2.2.2.2 e).mp g.1
  rw [v.1, v.2]
  rfl
section
variable {f : Int32} {a1 a2 a3 a4 a5 a6 a7 a8 a9 : Nat → Int32}
theorem zt_li15 {post : Int32 → Prop} {c x k : Nat} {o t : Nat → Nat} {ch : List Nat} (hx : x < 3) (hc : c ≤ 30) (hT : zt_T c o t a1 a2 a3 a5) (q1 : a8 x = nI k) (q2 : zt_R c o t a1 (a6 x) (a7 x) k ch) (q3 : zt_lk a9 x (30 :: ch)) (H : post 1) :
    ∀ (d p n : Nat), p + d = 30 → d < n → wL_lined_15 post (nI x) (nI (ch.countP (zt_sh a7 x))) (a6 x) (nI c) a1 a2 a3 a4 a5 a6 a7 a8 a9 n (nI p) := by
  have hm : ∀ q, q ∈ ch → q < 30 := fun q hq => by have := zt_R_lt q2 q hq; omega
  have hl : ch.length ≤ 30 := Nat.le_trans (zt_R_len q2) hc
  have hcl : ch.countP (zt_sh a7 x) ≤ ch.length := List.countP_le_length
  have hk := zt_R_k hT q2
  have he := zt_cle q2 (zt_sh a7 x)
  have he2 := zt_cn_le (fun e => zt_b (a6 x) e && zt_ins a1 e) c
  intro d
  induction d with
  | zero =>
    intro p n hp hn
    cases n with
    | zero => exact absurd hn (by omega)
    | succ n =>
      have e0 : p = 30 := by omega
      subst e0
      refine pk_le 30 30 (fun _ => zt_elements hx hc (pk_lt (zt_cn (fun e => zt_b (a6 x) e && zt_ins a1 e) c) (ch.countP (zt_sh a7 x)) (fun z => absurd z (by omega)) (fun _ => zt_clock hx ?_))) (fun z => absurd z (by omega))
      rw [q1]
      exact pk_lt c k (fun z => absurd z (by omega)) (fun _ => H)
  | succ d ih =>
    intro p n hp hn
    cases n with
    | zero => exact absurd hn (by omega)
    | succ n =>
      have J := ih (p + 1) n (by omega) (by omega)
      refine pk_le 30 p (fun z => absurd z (by omega)) (fun _ => zt_madeBy hx (by omega) hm hl q3 (fun z => ?_) (fun z => ?_))
      · exact pk_lt p (ch.countP (zt_sh a7 x)) (fun z => absurd z (by omega)) (fun _ => br_t rfl (pk_le (ch.countP (zt_sh a7 x)) p (fun _ => nm_r (nI_1 p) J) (fun z => absurd z (by omega))))
      · have w := zt_el_lo z
        have w2 := zt_pl_el q2.2.2.2.2.1 z
        have wc := zt_R_lt q2 _ w.1
        have wk := (q2.2.2.2.2.2 _).mp w.1
        have w3 := w.2
        generalize zt_el (zt_sh a7 x) ch p = e at w2 wc wk w3 ⊢
        refine pk_lt p (ch.countP (zt_sh a7 x)) (fun _ => ?_) (fun z => absurd z (by omega))
        refine pk_le (ch.countP (zt_sh a7 x)) p (fun z => absurd z (by omega)) (fun _ => pk_lt e 0 (fun z => absurd z (by omega)) (fun _ => pk_lt 29 e (fun z => absurd z (by omega)) (fun _ => br_f ?_ ?_)))
        · intro y
          have y2 := (zt_btest (a6 x) (n := e) (by omega)).mp y
          rw [wk.1] at y2
          exact absurd y2 (by decide)
        · refine zt_placeOf hx hc wc hm hl q3 wk.1 wk.2 w3 ?_
          rw [w2]
          exact br_t rfl (nm_r (nI_1 p) J)
theorem zt_lined {post : Int32 → Prop} {c x : Nat} {o t : Nat → Nat} (hx : x < 3) (hc : c ≤ 30) (hT : zt_T c o t a1 a2 a3 a5) (hP : zt_P c o t a1 a6 a7 a8 a9 x) (H : post 1) :
    wpL_lined post (nI c, a1, a2, a3, a4, a5, a6, a7, a8, a9) (nI x) := by
  obtain ⟨k, ch, q1, q2, q3⟩ := hP
  have hm : ∀ q, q ∈ ch → q < 30 := fun q hq => by have := zt_R_lt q2 q hq; omega
  have hl : ch.length ≤ 30 := Nat.le_trans (zt_R_len q2) hc
  unfold wpL_lined
  dsimp only
  exact zt_length hx hm hl q3 (zt_known hx ⟨31, zt_li15 hx hc hT q1 q2 q3 H 30 0 31 (by omega) (by omega)⟩)
theorem zt_l177 {post : Int32 → Prop} {L : Nat} {xs : Nat → Int32} {J10 : Int32 → Int32 → (Nat → Int32) → (Nat → Int32) → (Nat → Int32) → (Nat → Int32) → (Nat → Int32) → (Nat → Int32) → (Nat → Int32) → (Nat → Int32) → (Nat → Int32) → Prop} {J157 : Int32 → Prop} {x2 : Int32} {kc ks c r s : Nat} {o t : Nat → Nat}
    (hr : r < 3) (hs : s < 3) (hc : c ≤ 30) (hT : zt_T c o t a1 a2 a3 a5) (hP : ∀ x, x < 3 → zt_P c o t a1 a6 a7 a8 a9 x) (H : J157 (nI (r + 1))) :
    wL_law_177 post L xs J10 J157 x2 (nI r) (nI s) kc ks (nI c) a1 a2 a3 a4 a5 a6 a7 a8 a9 := by
  have K : wL_law_241 post L xs J10 J157 x2 (nI r) kc ks (nI c) a1 a2 a3 a4 a5 a6 a7 a8 a9 := by
    unfold wL_law_241
    exact zt_lined hr hc hT (hP r hr) (br_f (by decide) (nm_r (nI_1 r) H))
  obtain ⟨k, ch, q1, q2, q3⟩ := hP r hr
  obtain ⟨k', ch', q1', q2', q3'⟩ := hP s hs
  have hm : ∀ q, q ∈ ch → q < 30 := fun q hq => by have := zt_R_lt q2 q hq; omega
  have hl : ch.length ≤ 30 := Nat.le_trans (zt_R_len q2) hc
  have hm' : ∀ q, q ∈ ch' → q < 30 := fun q hq => by have := zt_R_lt q2' q hq; omega
  have hl' : ch'.length ≤ 30 := Nat.le_trans (zt_R_len q2') hc
  unfold wL_law_177
  refine zt_known hr (zt_known hs (br_c (fun g => zt_clock hr (zt_clock hs (br_t ?_ (zt_elements hr hc (zt_elements hs hc (br_t ?_ (zt_length hr hm hl q3 (zt_length hs hm' hl' q3' (br_t ?_ K)))))))))  (fun _ => K)))
  · rw [← g] at q2'
    rw [q1, q1', zt_eqk q2 q2']
  · rw [g]
  · rw [← g] at q2'
    exact congrArg nI (zt_eql q2 q2')
theorem zt_l157 {post : Int32 → Prop} {L : Nat} {xs : Nat → Int32} {J10 : Int32 → Int32 → (Nat → Int32) → (Nat → Int32) → (Nat → Int32) → (Nat → Int32) → (Nat → Int32) → (Nat → Int32) → (Nat → Int32) → (Nat → Int32) → (Nat → Int32) → Prop} {kc ks c j : Nat} {o t : Nat → Nat}
    (hc : c ≤ 30) (hT : zt_T c o t a1 a2 a3 a5) (hP : ∀ x, x < 3 → zt_P c o t a1 a6 a7 a8 a9 x) (H : J10 (nI (j + 4)) (nI c) a1 a2 a3 a4 a5 a6 a7 a8 a9) :
    ∀ (d r n : Nat), r + d = 3 → d < n → wL_law_157 post L xs J10 (nI j) kc ks (nI c) a1 a2 a3 a4 a5 a6 a7 a8 a9 n (nI r) := by
  intro d
  induction d with
  | zero =>
    intro r n hr hn
    cases n with
    | zero => exact absurd hn (by omega)
    | succ n => exact pk_le 3 r (fun _ => nm_r (nI_add j 4) H) (fun z => absurd z (by omega))
  | succ d ih =>
    intro r n hr hn
    cases n with
    | zero => exact absurd hn (by omega)
    | succ n =>
      have J := ih (r + 1) n (by omega) (by omega)
      refine pk_le 3 r (fun z => absurd z (by omega)) (fun _ => pk_eq r 2 (fun z => ?_) (fun z => ?_))
      · exact zt_l177 (s := 0) (by omega) (by omega) hc hT hP J
      · rw [nI_1 r]
        exact zt_l177 (by omega) (by omega) hc hT hP J
theorem zt_l108 {post : Int32 → Prop} {L : Nat} {xs : Nat → Int32} {J10 : Int32 → Int32 → (Nat → Int32) → (Nat → Int32) → (Nat → Int32) → (Nat → Int32) → (Nat → Int32) → (Nat → Int32) → (Nat → Int32) → (Nat → Int32) → (Nat → Int32) → Prop} {kc ks j : Nat}
    (hI : zt_I f a1 a2 a3 a5 a6 a7 a8 a9) (H : J10 (nI (j + 4)) f a1 a2 a3 a4 a5 a6 a7 a8 a9) : wL_law_108 post L xs J10 (nI j) kc ks f a1 a2 a3 a4 a5 a6 a7 a8 a9 := by
  obtain ⟨c, o, t, rfl, hc, hT, hP, hU⟩ := hI
  have U : ((a6 0 ||| a6 1) ||| a6 2) = ((1 : Int32) <<< (nI c &&& 31)) - 1 := by
    apply zt_bext
    intro i hi
    rw [zt_bor, zt_bor, zt_ball c (by omega) i hi]
    apply zt_beq
    rw [decide_eq_true_iff, Bool.or_eq_true, Bool.or_eq_true]
    have low : ∀ x, x < 3 → zt_b (a6 x) i = true → i < c := by
      intro x hx hb
      obtain ⟨k, ch, q1, q2, q3⟩ := hP x hx
      exact (q2.1 i hb).1
    constructor
    · rintro ((z | z) | z)
      · exact low 0 (by omega) z
      · exact low 1 (by omega) z
      · exact low 2 (by omega) z
    · intro z
      obtain ⟨x, hx, hb⟩ := hU i z
      match x, hx, hb with
      | 0, _, hb => exact Or.inl (Or.inl hb)
      | 1, _, hb => exact Or.inl (Or.inr hb)
      | 2, _, hb => exact Or.inr hb
      | x + 3, hx, _ => exact absurd hx (by omega)
  unfold wL_law_108
  exact nm_e (zt_known (x := 0) (by omega) (zt_known (x := 1) (by omega) (zt_known (x := 2) (by omega) (br_t U ⟨4, zt_l157 hc hT hP H 3 0 4 (by omega) (by omega)⟩))))
theorem zt_in75 {post : St1 → Prop} {mc ms kc ks : Nat} (H : ∀ a9', (∀ y, y < 3 → a9' (y * 31 + 30) = nI 30) → post (f, a1, a2, a3, a4, a5, a6, a7, a8, a9')) :
    ∀ (d i n : Nat) (a9 : Nat → Int32), i + d = 3 → d < n → (∀ y, y < i → a9 (y * 31 + 30) = nI 30) → wX_init_75 post mc ms kc ks f n (nI i) a1 a2 a3 a4 a5 a6 a7 a8 a9 := by
  intro d
  induction d with
  | zero =>
    intro i n a9 hi hn h9
    cases n with
    | zero => exact absurd hn (by omega)
    | succ n =>
      have e0 : i = 3 := by omega
      subst e0
      exact pk_le 3 3 (fun _ => H a9 h9) (fun z => absurd z (by omega))
  | succ d ih =>
    intro i n a9 hi hn h9
    cases n with
    | zero => exact absurd hn (by omega)
    | succ n =>
      have cl : (nI i * 31 + nI 30).toNatClampNeg = i * 31 + 30 := zt_ic (by omega) (by omega)
      refine pk_le 3 i (fun z => absurd z (by omega)) (fun _ => ⟨pk_in (i * 31 + 30) 93 (by omega) (zt_ix i 30), nm_e (nm_r (nI_1 i) (ih (i + 1) n _ (by omega) (by omega) (fun y hy => ?_)))⟩)
      show upd a9 (nI i * 31 + nI 30).toNatClampNeg (nI 30) (y * 31 + 30) = nI 30
      rw [cl]
      by_cases e1 : y = i
      · rw [e1, pk_us]
      · rw [pk_un (by omega)]
        exact h9 y (by omega)
end
end
section
theorem zt_l10 {xs : Nat → Int32} {L kc ks : Nat} (hL : L ≤ 260) :
    ∀ (m j : Nat) (f : Int32) (a1 a2 a3 a4 a5 a6 a7 a8 a9 : Nat → Int32), L ≤ j + m → j ≤ L → zt_I f a1 a2 a3 a5 a6 a7 a8 a9 → wL_law_10 (fun r => r = 1) L xs kc ks (m + 1) (nI j) f a1 a2 a3 a4 a5 a6 a7 a8 a9 := by
  intro m
  induction m using Nat.strongRecOn with
  | ind m ih =>
    intro j f a1 a2 a3 a4 a5 a6 a7 a8 a9 hm hj hI
    refine pk_le L (j + 3) (fun _ => rfl) (fun z => ?_) rfl (nI_add j 3)
    have go : ∀ (f : Int32) (a1 a2 a3 a4 a5 a6 a7 a8 a9 : Nat → Int32), zt_I f a1 a2 a3 a5 a6 a7 a8 a9 → wL_law_108 (fun r => r = 1) L xs (wL_law_10 (fun r => r = 1) L xs kc ks m) (nI j) kc ks f a1 a2 a3 a4 a5 a6 a7 a8 a9 := by
      intro f a1 a2 a3 a4 a5 a6 a7 a8 a9 hI
      cases m with
      | zero => exact absurd hm (by omega)
      | succ m => exact zt_l108 hI (ih m (by omega) (j + 4) f a1 a2 a3 a4 a5 a6 a7 a8 a9 (by omega) (by omega) hI)
    refine ⟨pk_in j L (by omega), nm_e ⟨pk_in (j + 1) L (by omega) (nI_1 j), nm_e ⟨pk_in (j + 2) L (by omega) (nI_add j 2), nm_e ⟨pk_in (j + 3) L (by omega) (nI_add j 3), nm_e ?_⟩⟩⟩⟩
    exact br_c (fun _ => zt_put _ _ _ hI (fun r f a1 a2 a3 a4 a5 a6 a7 a8 a9 h => go f a1 a2 a3 a4 a5 a6 a7 a8 a9 h))
      (fun _ => br_c (fun _ => zt_erase _ _ hI (fun r f a1 a2 a3 a4 a5 a6 a7 a8 a9 h => go f a1 a2 a3 a4 a5 a6 a7 a8 a9 h))
        (fun _ => br_c (fun _ => zt_learn _ _ _ hI (fun r f a1 a2 a3 a4 a5 a6 a7 a8 a9 h => go f a1 a2 a3 a4 a5 a6 a7 a8 a9 h))
          (fun _ => zt_catchUp _ _ hI (fun r f a1 a2 a3 a4 a5 a6 a7 a8 a9 h => go f a1 a2 a3 a4 a5 a6 a7 a8 a9 h))))
theorem zt_I0 {a9 : Nat → Int32} (h : ∀ y, y < 3 → a9 (y * 31 + 30) = nI 30) : zt_I 0 (fun _ => 0) (fun _ => 0) (fun _ => 0) (fun _ => 0) (fun _ => 0) (fun _ => 0) (fun _ => 0) a9 := by
  refine ⟨0, fun _ => 0, fun _ => 0, rfl, by omega, fun e he => absurd he (by omega), fun x hx => ⟨0, [], rfl, ?_, h x hx, trivial⟩, fun e he => absurd he (by omega)⟩
  have B : ∀ e, ¬ zt_b 0 e = true := fun e => by rw [zt_b0]; decide
  refine ⟨fun e g => absurd g (B e), fun i => ⟨fun g => absurd g (B i), fun g => ?_⟩, fun e g => absurd g (B e), Or.inl rfl, List.nodup_nil, fun e => ⟨fun g => absurd g (by simp), fun g => absurd g.1 (B e)⟩⟩
  obtain ⟨e, g, _⟩ := g
  exact absurd g (B e)
theorem i_vc (xs : Nat → Int32) (L : Nat) (hL : L ≤ 260) : wpL_law (fun r => r = 1) L xs := by
  refine ⟨9, 252, by decide, by decide, ?_⟩
  refine ⟨by decide, by decide, by decide, by decide, by decide, by decide, by decide, by decide, by decide, by decide, by decide, by decide, by decide, by decide, by decide, by decide, by decide, by decide, 4, ?_⟩
  exact zt_in75 (fun a9' h => ⟨L + 1, zt_l10 hL L 0 _ _ _ _ _ _ _ _ _ _ (by omega) (by omega) (zt_I0 h)⟩) 3 0 4 (fun _ => 0) (by omega) (by omega) (fun y hy => absurd hy (by omega))
end
