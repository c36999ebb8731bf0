section
/-- i and f agree below bit t -/
def xh_ag (f t i : Nat) : Bool := i % 2 ^ t == f % 2 ^ t
/-- i and f agree below bit j and differ at bit j -/
def xh_df (f j i : Nat) : Bool := xh_ag f j i && (i.testBit j != f.testBit j)
theorem xh_ag_mod {f t i : Nat} : xh_ag f t i = true ↔ i % 2 ^ t = f % 2 ^ t := by
  unfold xh_ag
  exact beq_iff_eq
theorem xh_ag_iff {f t i : Nat} : xh_ag f t i = true ↔ ∀ k, k < t → i.testBit k = f.testBit k := by
  rw [xh_ag_mod]
  constructor
  · intro h k hk
    have e : (i % 2 ^ t).testBit k = (f % 2 ^ t).testBit k := by rw [h]
    rw [Nat.testBit_mod_two_pow, Nat.testBit_mod_two_pow] at e
    simpa [hk] using e
  · intro h
    apply Nat.eq_of_testBit_eq
    intro k
    rw [Nat.testBit_mod_two_pow, Nat.testBit_mod_two_pow]
    by_cases hk : k < t
    · simp [hk, h k hk]
    · simp [hk]
theorem xh_ag_0 (f i : Nat) : xh_ag f 0 i = true := xh_ag_iff.mpr (fun k hk => absurd hk (by omega))
theorem xh_ag_self (f t : Nat) : xh_ag f t f = true := xh_ag_iff.mpr (fun _ _ => rfl)
theorem xh_ag_mono {f s t i : Nat} (h : s ≤ t) (h2 : xh_ag f t i = true) : xh_ag f s i = true := xh_ag_iff.mpr (fun k hk => xh_ag_iff.mp h2 k (by omega))
theorem xh_ag_succ (f t i : Nat) : xh_ag f (t + 1) i = (xh_ag f t i && (i.testBit t == f.testBit t)) := by
  rw [Bool.eq_iff_iff, Bool.and_eq_true, xh_ag_iff, xh_ag_iff, beq_iff_eq]
  constructor
  · intro h
    exact ⟨fun k hk => h k (by omega), h t (by omega)⟩
  · intro h k hk
    by_cases e : k = t
    · rw [e]
      exact h.2
    · exact h.1 k (by omega)
theorem xh_ag_md {f t i G : Nat} (h : t ≤ G) : xh_ag f t (i % 2 ^ G) = xh_ag f t i := by
  rw [Bool.eq_iff_iff, xh_ag_iff, xh_ag_iff]
  constructor
  · intro h2 k hk
    have e := h2 k hk
    rw [Nat.testBit_mod_two_pow] at e
    simpa [show k < G by omega] using e
  · intro h2 k hk
    rw [Nat.testBit_mod_two_pow]
    simpa [show k < G by omega] using h2 k hk
theorem xh_tb_md {i G t : Nat} (h : t < G) : (i % 2 ^ G).testBit t = i.testBit t := by
  rw [Nat.testBit_mod_two_pow]
  simp [h]
theorem xh_df_iff {f j i : Nat} : xh_df f j i = true ↔ xh_ag f j i = true ∧ i.testBit j ≠ f.testBit j := by
  unfold xh_df
  rw [Bool.and_eq_true, bne_iff_ne]
theorem xh_df_md {f j i G : Nat} (h : j < G) : xh_df f j (i % 2 ^ G) = xh_df f j i := by
  unfold xh_df
  rw [xh_ag_md (by omega), xh_tb_md h]
theorem xh_df_self (f j : Nat) : xh_df f j f = false := by
  unfold xh_df
  simp
theorem xh_cases (f t i : Nat) : xh_ag f t i = true ∨ ∃ j, j < t ∧ xh_df f j i = true := by
  induction t with
  | zero => exact .inl (xh_ag_0 f i)
  | succ t ih =>
    rcases ih with h | ⟨j, hj, h⟩
    · by_cases e : i.testBit t = f.testBit t
      · exact .inl (by rw [xh_ag_succ, h, e]; simp)
      · exact .inr ⟨t, by omega, xh_df_iff.mpr ⟨h, e⟩⟩
    · exact .inr ⟨j, by omega, h⟩
/-- the lowest difference is one -/
theorem xh_df_one {f i j k : Nat} (h : xh_df f j i = true) (h2 : xh_df f k i = true) : j = k := by
  have a := xh_df_iff.mp h
  have b := xh_df_iff.mp h2
  rcases Nat.lt_trichotomy j k with z | z | z
  · exact absurd (xh_ag_iff.mp b.1 j z) a.2
  · exact z
  · exact absurd (xh_ag_iff.mp a.1 k z) b.2
theorem xh_df_ag {f i j t : Nat} (h : xh_df f j i = true) (hj : j < t) : ¬ xh_ag f t i = true := fun z => (xh_df_iff.mp h).2 (xh_ag_iff.mp z j hj)
/-! lists -/
theorem xh_f1 (l : List Nat) (f t : Nat) : (l.filter (xh_ag f t)).filter (fun k => k.testBit t == f.testBit t) = l.filter (xh_ag f (t + 1)) := by
  rw [List.filter_filter]
  apply List.filter_congr
  intro k _
  rw [xh_ag_succ, Bool.and_comm]
theorem xh_f2 (l : List Nat) (f t : Nat) : (l.filter (xh_ag f t)).filter (fun k => k.testBit t != f.testBit t) = l.filter (xh_df f t) := by
  rw [List.filter_filter]
  apply List.filter_congr
  intro k _
  unfold xh_df
  rw [Bool.and_comm]
theorem xh_perm (l : List Nat) (f t : Nat) : (l.filter (xh_ag f (t + 1)) ++ l.filter (xh_df f t)).Perm (l.filter (xh_ag f t)) := by
  rw [← xh_f1, ← xh_f2]
  exact List.filter_append_perm (fun k => k.testBit t == f.testBit t) (l.filter (xh_ag f t))
/-! ints -/
theorem xh_one : ∀ G, G < 31 → (1 : Int32) <<< (nI G &&& 31) = nI (2 ^ G) := by decide +kernel
theorem xh_pw {G : Nat} (h : G < 7) : 2 ^ G ≤ 64 := Nat.pow_le_pow_right (n := 2) (j := 6) (by decide) (by omega)
theorem xh_pw0 (G : Nat) : 0 < 2 ^ G := Nat.two_pow_pos G
theorem xh_low {t : Nat} (h : t < 7) : ((1 : Int32) <<< (nI t &&& 31)) - 1 = nI (2 ^ t - 1) := by
  rw [xh_one t (by omega)]
  exact pk_sub (b := 1) (xh_pw0 t)
theorem xh_andm {i t : Nat} (hi : i < 2 ^ 31) (h : t < 7) : nI i &&& nI (2 ^ t - 1) = nI (i % 2 ^ t) :=
  pk_andN (by omega) t (pk_tn (by have := xh_pw h; omega))
theorem xh_mask {k G : Nat} (hk : k < 2 ^ 31) (h : G < 7) : nI k &&& (((1 : Int32) <<< (nI G &&& 31)) - 1) = nI (k % 2 ^ G) := by
  rw [xh_low h, xh_andm hk h]
theorem xh_lowEq {i f t : Nat} (hi : i < 2 ^ 31) (hf : f < 2 ^ 31) (h : t < 7) : (nI i &&& nI (2 ^ t - 1)) = (nI f &&& nI (2 ^ t - 1)) ↔ xh_ag f t i = true := by
  rw [xh_andm hi h, xh_andm hf h, xh_ag_mod, nI_eq (Nat.lt_of_le_of_lt (Nat.mod_le _ _) hi) (Nat.lt_of_le_of_lt (Nat.mod_le _ _) hf)]
theorem xh_sl : ∀ n, n < 32 → ((nI n &&& 31).toBitVec.smod 32).toNat = n := by decide +kernel
theorem xh_bitI {i t : Nat} (hi : i < 2 ^ 31) (h : t < 32) : (nI i >>> (nI t &&& 31)) &&& 1 = nI (i.testBit t).toNat := by
  rw [pk_shrN hi _ t (xh_sl t h), Nat.toNat_testBit]
  exact pk_andN (Nat.lt_of_le_of_lt (Nat.div_le_self _ _) (by omega)) 1 rfl
theorem xh_bit1 {i t : Nat} (hi : i < 2 ^ 31) (h : t < 32) : ((nI i >>> (nI t &&& 31)) &&& 1) = 1 ↔ i.testBit t = true := by
  rw [xh_bitI hi h]
  cases i.testBit t
  · exact ⟨fun z => absurd z (by decide), fun z => absurd z (by decide)⟩
  · exact ⟨fun _ => rfl, fun _ => rfl⟩
theorem xh_bit0 {i t : Nat} (hi : i < 2 ^ 31) (h : t < 32) : ((nI i >>> (nI t &&& 31)) &&& 1) = 0 ↔ i.testBit t = false := by
  rw [xh_bitI hi h]
  cases i.testBit t
  · exact ⟨fun _ => rfl, fun _ => rfl⟩
  · exact ⟨fun z => absurd z (by decide), fun z => absurd z (by decide)⟩
theorem xh_idx {b n : Nat} : nI b * 5 + nI n = nI (b * 5 + n) := by
  rw [show (5 : Int32) = nI 5 from rfl, pk_mul, nI_add]
theorem xh_s16 : ∀ k, k < 256 → (nI k).toInt16.toInt32 = nI k := by decide +kernel
theorem xh_i8 : ∀ k, k < 128 → (nI k).toInt8.toInt32 = nI k := by decide +kernel
theorem xh_nb {k : Nat} (h : k < 128) : vp_nar .byte (nI k) = nI k := by rw [vp_nar_byte, xh_i8 k h]
theorem xh_ns {k : Nat} (h : k < 256) : vp_nar .short (nI k) = nI k := by rw [vp_nar_short, xh_s16 k h]
theorem xh_xor (a b : Nat) : nI a ^^^ nI b = nI (a ^^^ b) := by
  apply Int32.toBitVec_inj.1
  show BitVec.ofNat 32 a ^^^ BitVec.ofNat 32 b = BitVec.ofNat 32 (a ^^^ b)
  apply BitVec.eq_of_getLsbD_eq
  intro i hi
  simp [hi]
end
section
/-- bucket b holds the keys l -/
def xh_C (a4 a5 : Nat → Int32) (b : Nat) (l : List Nat) : Prop := l.length ≤ 5 ∧ a4 b = nI l.length ∧ ∀ i k, l[i]? = some k → a5 (b * 5 + i) = nI k
theorem xh_lt {l : List Nat} {i k : Nat} (h : l[i]? = some k) : i < l.length := (List.getElem?_eq_some_iff.mp h).1
theorem xh_mem {l : List Nat} {i k : Nat} (h : l[i]? = some k) : k ∈ l := List.mem_of_getElem? h
theorem xh_C_nil {a4 a5 : Nat → Int32} {b : Nat} (h : a4 b = 0) : xh_C a4 a5 b [] :=
  ⟨Nat.zero_le 5, h, fun i k e => absurd (xh_lt e) (Nat.not_lt_zero i)⟩
theorem xh_C_fr {a4 a5 : Nat → Int32} {x z n : Nat} {m : List Nat} {v w : Int32} (h : xh_C a4 a5 x m) (hx : x ≠ z) (hn : n < 5) : xh_C (upd a4 z v) (upd a5 (z * 5 + n) w) x m := by
  refine ⟨h.1, by rw [pk_un hx]; exact h.2.1, fun i k e => ?_⟩
  have hi := xh_lt e
  have h1 := h.1
  rw [pk_un (by omega)]
  exact h.2.2 i k e
theorem xh_C_fr4 {a4 a5 : Nat → Int32} {x z : Nat} {m : List Nat} {v : Int32} (h : xh_C a4 a5 x m) (hx : x ≠ z) : xh_C (upd a4 z v) a5 x m :=
  ⟨h.1, by rw [pk_un hx]; exact h.2.1, h.2.2⟩
theorem xh_C_app {a4 a5 : Nat → Int32} {b k : Nat} {m : List Nat} (h : xh_C a4 a5 b m) (hm : m.length < 5) : xh_C (upd a4 b (nI (m.length + 1))) (upd a5 (b * 5 + m.length) (nI k)) b (m ++ [k]) := by
  refine ⟨by rw [List.length_append]; exact hm, by rw [pk_us, List.length_append]; rfl, fun i q e => ?_⟩
  rw [List.getElem?_append] at e
  by_cases hi : i < m.length
  · rw [if_pos hi] at e
    rw [pk_un (by omega)]
    exact h.2.2 i q e
  · rw [if_neg hi] at e
    have hi2 : i - m.length < 1 := xh_lt e
    have hi3 : i = m.length := by omega
    rw [hi3, Nat.sub_self] at e
    have e2 : k = q := by simpa using e
    rw [hi3, pk_us, e2]
theorem xh_append {post : St2 → Prop} {fd fb fk : Int32} {a1 a2 a3 a4 a5 a6 : Nat → Int32} {b n k : Nat} {v : Int32} (hb : b < 65) (hn : n < 5) (hk : k < 256) (h4 : a4 b = nI n)
    (H : post (fd, fb, fk, a1, a2, a3, upd a4 b (nI (n + 1)), upd a5 (b * 5 + n) (nI k), upd a6 (b * 5 + n) v)) :
    wpX_append post (fd, fb, fk, a1, a2, a3, a4, a5, a6) (nI b) (nI k) v := by
  unfold wpX_append
  have e0 : a4 (nI b).toNatClampNeg = nI n := by rw [nI_clamp (by omega)]; exact h4
  have e1 : nI b * 5 + a4 (nI b).toNatClampNeg = nI (b * 5 + n) := by rw [e0]; exact xh_idx
  have e2 : (nI b * 5 + a4 (nI b).toNatClampNeg).toNatClampNeg = b * 5 + n := by rw [e1]; exact nI_clamp (by omega)
  refine ⟨pk_in b 65 hb, pk_in (b * 5 + n) 325 (by omega) e1, nm_r (e' := upd a5 (b * 5 + n) (nI k)) ?_ ⟨pk_in b 65 hb, pk_in (b * 5 + n) 325 (by omega) e1, nm_r (e' := upd a6 (b * 5 + n) v) ?_ ⟨pk_in b 65 hb, pk_in b 65 hb, nm_r (e' := upd a4 b (nI (n + 1))) ?_ H⟩⟩⟩
  · rw [e2, xh_s16 k hk]
  · rw [e2]
  · rw [e0, nI_1, xh_i8 (n + 1) (by omega), nI_clamp (by omega)]
theorem xh_find_no {post : Int32 → Prop} {fd fb fk : Int32} {a1 a2 a3 a4 a5 a6 : Nat → Int32} {b k : Nat} {l : List Nat} (hb : b < 65) (hk : k < 256) (hl : ∀ x, x ∈ l → x < 256) (h : xh_C a4 a5 b l) (hn : k ∉ l) (H : post (-1)) :
    wpX_find post (fd, fb, fk, a1, a2, a3, a4, a5, a6) (nI b) (nI k) := by
  unfold wpX_find
  have hlen := h.1
  have e0 : a4 (nI b).toNatClampNeg = nI l.length := by rw [nI_clamp (by omega)]; exact h.2.1
  refine pk_loop (σ := Unit) (fun n i _ => wX_find_2 post (nI b) (nI k) fd fb fk a1 a2 a3 a4 a5 a6 n (nI i)) (fun _ _ => True) l.length 0 () (by omega) trivial ?_ ?_
  · intro n _ _
    exact ⟨pk_in b 65 hb, pk_le l.length l.length (fun _ => H) (fun z => absurd z (by omega)) e0⟩
  · intro n i _ hi _ hw
    have hq : l[i]? = some l[i] := List.getElem?_eq_getElem hi
    have hq2 := hl _ (xh_mem hq)
    have e1 : a5 (nI b * 5 + nI i).toNatClampNeg = nI l[i] := by rw [xh_idx, nI_clamp (by omega)]; exact h.2.2 i _ hq
    refine ⟨pk_in b 65 hb, pk_le l.length i (fun z => absurd z (by omega)) (fun _ => ⟨pk_in (b * 5 + i) 325 (by omega) xh_idx, pk_eq l[i] k (fun z => ?_) (fun _ => nm_r (nI_1 i) (hw () trivial)) e1⟩) e0⟩
    rw [← z] at hn
    exact absurd (xh_mem hq) hn
theorem xh_find_yes {post : Int32 → Prop} {fd fb fk : Int32} {a1 a2 a3 a4 a5 a6 : Nat → Int32} {b k p : Nat} {l : List Nat} (hb : b < 65) (hk : k < 256) (hl : ∀ x, x ∈ l → x < 256) (h : xh_C a4 a5 b l) (hp : l[p]? = some k) (hf : ∀ i, i < p → l[i]? ≠ some k) (H : post (nI p)) :
    wpX_find post (fd, fb, fk, a1, a2, a3, a4, a5, a6) (nI b) (nI k) := by
  unfold wpX_find
  have hlen := h.1
  have hpl := xh_lt hp
  have e0 : a4 (nI b).toNatClampNeg = nI l.length := by rw [nI_clamp (by omega)]; exact h.2.1
  refine pk_loop (σ := Unit) (fun n i _ => wX_find_2 post (nI b) (nI k) fd fb fk a1 a2 a3 a4 a5 a6 n (nI i)) (fun _ _ => True) p 0 () (by omega) trivial ?_ ?_
  · intro n _ _
    have e1 : a5 (nI b * 5 + nI p).toNatClampNeg = nI k := by rw [xh_idx, nI_clamp (by omega)]; exact h.2.2 p _ hp
    exact ⟨pk_in b 65 hb, pk_le l.length p (fun z => absurd z (by omega)) (fun _ => ⟨pk_in (b * 5 + p) 325 (by omega) xh_idx, pk_eq k k (fun _ => H) (fun z => absurd rfl z) e1⟩) e0⟩
  · intro n i _ hi _ hw
    have hil : i < l.length := by omega
    have hq : l[i]? = some l[i] := List.getElem?_eq_getElem hil
    have hq2 := hl _ (xh_mem hq)
    have e1 : a5 (nI b * 5 + nI i).toNatClampNeg = nI l[i] := by rw [xh_idx, nI_clamp (by omega)]; exact h.2.2 i _ hq
    refine ⟨pk_in b 65 hb, pk_le l.length i (fun z => absurd z (by omega)) (fun _ => ⟨pk_in (b * 5 + i) 325 (by omega) xh_idx, pk_eq l[i] k (fun z => ?_) (fun _ => nm_r (nI_1 i) (hw () trivial)) e1⟩) e0⟩
    exact absurd (by rw [hq, z]) (hf i hi)
theorem xh_bkt {post : Int32 → Prop} {fb fk : Int32} {a1 a2 a3 a4 a5 a6 : Nat → Int32} {G k y : Nat} (hG : G < 7) (hk : k < 256) (e : a1 (k % 2 ^ G) = nI y) (H : post (nI y)) :
    wpX_bucketOf post (nI G, fb, fk, a1, a2, a3, a4, a5, a6) (nI k) := by
  unfold wpX_bucketOf
  have hp := xh_pw hG
  have hm : k % 2 ^ G < 2 ^ G := Nat.mod_lt _ (xh_pw0 G)
  have e1 := xh_mask (k := k) (G := G) (by omega) hG
  refine ⟨pk_in (k % 2 ^ G) 64 (by omega) e1, ?_⟩
  rw [e1, nI_clamp (by omega), e]
  exact H
theorem xh_isKey {post : Int32 → Prop} {k : Nat} (hk : k < 256) (H : post 1) : wpX_isKey post () (nI k) :=
  pk_lt k 0 (fun z => absurd z (by omega)) (fun _ => pk_le 256 k (fun z => absurd z (by omega)) (fun _ => H))
theorem xh_newB {post : Int32 → St2 → Prop} {fd fb fk : Int32} {a1 a2 a3 a4 a5 a6 : Nat → Int32} {K : Nat} (hK : K < 65) (h0 : a2 K = 0)
    (H : ∀ c, c ≤ K → a2 c = 0 → post (nI c) (fd, fb + 1, fk, a1, upd a2 c 1, a3, upd a4 c 0, a5, a6)) :
    wpX_newBucket post (fd, fb, fk, a1, a2, a3, a4, a5, a6) := by
  unfold wpX_newBucket
  obtain ⟨c, hc, hl⟩ := pk_least (fun c => a2 c = 0) ⟨K, h0⟩
  have hcK : c ≤ K := by
    rcases Nat.lt_or_ge K c with z | z
    · exact absurd h0 (hl K z)
    · exact z
  refine pk_loop (σ := Unit) (fun n i _ => wX_newBucket_2 post fd fb fk a1 a2 a3 a4 a5 a6 n (nI i)) (fun _ _ => True) c 0 () (by omega) trivial ?_ ?_
  · intro n _ _
    have e : (nI c).toNatClampNeg = c := nI_clamp (by omega)
    exact ⟨pk_in c 65 (by omega), br_t (by rw [e]; exact hc) ⟨pk_in c 65 (by omega), nm_r (e' := upd a2 c 1) (by rw [e]) ⟨pk_in c 65 (by omega), nm_r (e' := upd a4 c 0) (by rw [e]) (nm_e (H c hcK hc))⟩⟩⟩
  · intro n i _ hi _ hw
    have e : (nI i).toNatClampNeg = i := nI_clamp (by omega)
    exact ⟨pk_in i 65 (by omega), br_f (by rw [e]; exact hl i hi) (nm_r (nI_1 i) (hw () trivial))⟩
theorem xh_deep {post : Int32 → Prop} {fd fb fk : Int32} {a1 a2 a3 a4 a5 a6 : Nat → Int32} {t : Nat} (ht : t < 7) (hu : ∀ x, x < 64 → a2 x ≠ 0 → ∃ e, e ≤ t ∧ a3 x = nI e) (hx : ∃ x, x < 64 ∧ a2 x ≠ 0 ∧ a3 x = nI t) (H : post (nI t)) :
    wpX_deepest post (fd, fb, fk, a1, a2, a3, a4, a5, a6) := by
  unfold wpX_deepest
  refine pk_loop (σ := Nat) (fun n i s => wX_deepest_4 post fd fb fk a1 a2 a3 a4 a5 a6 n (nI s) (nI i)) (fun i s => s ≤ t ∧ ∀ x, x < i → a2 x ≠ 0 → ∀ e, e ≤ t → a3 x = nI e → e ≤ s) 64 0 0 (by omega) ⟨by omega, fun x h => absurd h (by omega)⟩ ?_ ?_
  · intro n s h
    obtain ⟨x, x1, x2, x3⟩ := hx
    have hs : s = t := by
      have h1 := h.2 x x1 x2 t (Nat.le_refl t) x3
      have h2 := h.1
      omega
    exact pk_le 64 64 (fun _ => by rw [hs]; exact H) (fun z => absurd z (by omega))
  · intro n i s hi h hw
    have hs := h.1
    have e : (nI i).toNatClampNeg = i := nI_clamp (by omega)
    refine pk_le 64 i (fun z => absurd z (by omega)) (fun _ => ⟨pk_in i 65 (by omega), ?_⟩)
    by_cases hu0 : a2 i = 0
    · refine br_t (by rw [e]; exact hu0) (nm_r (nI_1 i) (hw s ⟨h.1, fun x hx' hx2 => ?_⟩))
      by_cases ex : x = i
      · rw [ex] at hx2
        exact absurd hu0 hx2
      · exact h.2 x (by omega) hx2
    · obtain ⟨q, hq, hq3⟩ := hu i hi hu0
      have e3 : a3 (nI i).toNatClampNeg = nI q := by rw [e]; exact hq3
      refine br_f (by rw [e]; exact hu0) ⟨pk_in i 65 (by omega), pk_le q s (fun z => nm_r (nI_1 i) (hw s ⟨h.1, ?_⟩)) (fun z => ⟨pk_in i 65 (by omega), nm_r e3 (nm_r (nI_1 i) (hw q ⟨hq, ?_⟩))⟩) e3⟩
      · intro x hx' hx2 w hw1 hw2
        by_cases ex : x = i
        · rw [ex, hq3, nI_eq (by omega) (by omega)] at hw2
          omega
        · exact h.2 x (by omega) hx2 w hw1 hw2
      · intro x hx' hx2 w hw1 hw2
        by_cases ex : x = i
        · rw [ex, hq3, nI_eq (by omega) (by omega)] at hw2
          omega
        · have h3 := h.2 x (by omega) hx2 w hw1 hw2
          omega
end
section
theorem xh_s18 {post : St2 → Prop} {b f t G : Nat} {fb fk : Int32} {a1 a2 a3 a4 a5 a6 : Nat → Int32} (hG : G < 6) (hd : ∀ j, j < 2 ^ G → ∃ y, y < 65 ∧ a1 j = nI y)
    (H : ∀ s, (∀ j, j < 2 ^ G → s j = a1 j ∧ s (j + 2 ^ G) = a1 j) → wX_split_66 post (nI b) (nI f) (nI t) (nI (G + 1)) fb fk s a2 a3 a4 a5 a6) :
    ∃ n, wX_split_18 post (nI b) (nI f) (nI t) (nI G) fb fk n 0 a1 a2 a3 a4 a5 a6 := by
  have hp : 2 ^ G ≤ 32 := Nat.pow_le_pow_right (n := 2) (j := 5) (by decide) (by omega)
  have e1 := xh_one G (by omega)
  refine pk_loop (fun n i s => wX_split_18 post (nI b) (nI f) (nI t) (nI G) fb fk n (nI i) s a2 a3 a4 a5 a6) (fun i s => (∀ j, j < 2 ^ G → s j = a1 j) ∧ ∀ j, j < i → s (j + 2 ^ G) = a1 j) (2 ^ G) 0 a1 (Nat.zero_le _) ⟨fun _ _ => rfl, fun j h => absurd h (by omega)⟩ ?_ ?_
  · intro n s h
    exact pk_le (2 ^ G) (2 ^ G) (fun _ => nm_r (nI_1 G) (H s (fun j hj => ⟨h.1 j hj, h.2 j hj⟩))) (fun z => absurd z (by omega)) e1
  · intro n i s hi h hw
    have e : (nI i).toNatClampNeg = i := nI_clamp (by omega)
    have e2 : nI i + ((1 : Int32) <<< (nI G &&& 31)) = nI (i + 2 ^ G) := by rw [e1, nI_add]
    have e3 : (nI (i + 2 ^ G)).toNatClampNeg = i + 2 ^ G := nI_clamp (by omega)
    refine pk_le (2 ^ G) i (fun z => absurd z (by omega)) (fun _ => ⟨pk_in i 64 (by omega), pk_in (i + 2 ^ G) 64 (by omega) e2, nm_r (e' := upd s (i + 2 ^ G) (a1 i)) ?_ (nm_r (nI_1 i) (hw _ ⟨fun j hj => ?_, fun j hj => ?_⟩))⟩) e1
    · obtain ⟨y, hy, ey⟩ := hd i hi
      rw [e2, e3, e, h.1 i hi, ey, xh_nb (by omega)]
    · rw [pk_un (by omega)]
      exact h.1 j hj
    · by_cases ej : j = i
      · rw [ej, pk_us]
      · rw [pk_un (by omega)]
        exact h.2 j (by omega)
theorem xh_s183 {post : St2 → Prop} {f t c G : Nat} {fb fk : Int32} {a1 a2 a3 a4 a5 a6 : Nat → Int32} (hf : f < 256) (ht : t < 7) (hG : G < 7) (hc : c < 65)
    (H : ∀ s, (∀ j, j < 2 ^ G → s j = if (xh_ag f t j && j.testBit t) = true then nI c else a1 j) → post (nI G, fb, fk, s, a2, a3, a4, a5, a6)) :
    ∃ n, wX_split_183 post (nI f) (nI t) (nI c) (nI (2 ^ t - 1)) (nI G) fb fk n 0 a1 a2 a3 a4 a5 a6 := by
  have hp := xh_pw hG
  have e1 := xh_one G (by omega)
  refine pk_loop (fun n i s => wX_split_183 post (nI f) (nI t) (nI c) (nI (2 ^ t - 1)) (nI G) fb fk n (nI i) s a2 a3 a4 a5 a6) (fun i s => (∀ j, j < i → s j = if (xh_ag f t j && j.testBit t) = true then nI c else a1 j) ∧ ∀ j, i ≤ j → s j = a1 j) (2 ^ G) 0 a1 (Nat.zero_le _) ⟨fun j h => absurd h (by omega), fun _ _ => rfl⟩ ?_ ?_
  · intro n s h
    exact pk_le (2 ^ G) (2 ^ G) (fun _ => H s h.1) (fun z => absurd z (by omega)) e1
  · intro n i s hi h hw
    have e : (nI i).toNatClampNeg = i := nI_clamp (by omega)
    have keep : ¬ (xh_ag f t i && i.testBit t) = true → (∀ j, j < i + 1 → s j = if (xh_ag f t j && j.testBit t) = true then nI c else a1 j) ∧ ∀ j, i + 1 ≤ j → s j = a1 j := by
      intro z
      refine ⟨fun j hj => ?_, fun j hj => h.2 j (by omega)⟩
      by_cases ej : j = i
      · rw [ej, if_neg z]
        exact h.2 i (Nat.le_refl i)
      · exact h.1 j (by omega)
    refine pk_le (2 ^ G) i (fun z => absurd z (by omega)) (fun _ => ek_if (xh_lowEq (by omega) (by omega) ht) (fun z => ek_if (xh_bit1 (by omega) (by omega)) (fun z2 => ⟨pk_in i 64 (by omega), nm_r (e' := upd s i (nI c)) ?_ (nm_r (nI_1 i) (hw _ ⟨fun j hj => ?_, fun j hj => ?_⟩))⟩) (fun z2 => nm_r (nI_1 i) (hw s (keep ?_)))) (fun z => nm_r (nI_1 i) (hw s (keep ?_)))) e1
    · rw [e, xh_i8 c (by omega)]
    · by_cases ej : j = i
      · rw [ej, pk_us, if_pos (by rw [z, z2]; rfl)]
      · rw [pk_un ej]
        exact h.1 j (by omega)
    · rw [pk_un (by omega)]
      exact h.2 j (by omega)
    · intro w
      rw [Bool.and_eq_true] at w
      exact z2 w.2
    · intro w
      rw [Bool.and_eq_true] at w
      exact z w.1
theorem xh_s111 {post : St2 → Prop} {b f t c N : Nat} {fd fb fk : Int32} {a1 a2 a3 : Nat → Int32} (hb : b < 65) (hc : c < 65) (hbc : b ≠ c) (ht : t < 7) (hN : N ≤ 5) :
    ∀ (r : List Nat) (i : Nat) (m0 m1 : List Nat) (a4 a5 a6 : Nat → Int32), (∀ k, k ∈ r → k < 256) → i + r.length = N → m0.length + m1.length = i → xh_C a4 a5 b m0 → xh_C a4 a5 c m1 → (∀ j k, r[j]? = some k → a5 (b * 5 + (i + j)) = nI k) →
      (∀ a4' a5' a6', xh_C a4' a5' b (m0 ++ r.filter (fun k => !k.testBit t)) → xh_C a4' a5' c (m1 ++ r.filter (fun k => k.testBit t)) → (∀ x m, x ≠ b → x ≠ c → xh_C a4 a5 x m → xh_C a4' a5' x m) → ∃ fu, wX_split_183 post (nI f) (nI t) (nI c) (nI (2 ^ t - 1)) fd fb fk fu 0 a1 a2 a3 a4' a5' a6') →
      wX_split_111 post (nI b) (nI f) (nI t) (nI c) (nI N) (r.length + 1) (nI i) fd fb fk a1 a2 a3 a4 a5 a6 := by
  intro r
  induction r with
  | nil =>
    intro i m0 m1 a4 a5 a6 hk hi hm h0 h1 hr H
    have hi' : i = N := hi
    exact pk_le N i (fun _ => nm_r (xh_low ht) (H a4 a5 a6 (by rw [List.filter_nil, List.append_nil]; exact h0) (by rw [List.filter_nil, List.append_nil]; exact h1) (fun x m _ _ h => h))) (fun z => absurd z (by omega))
  | cons k r ih =>
    intro i m0 m1 a4 a5 a6 hk hi hm h0 h1 hr H
    have hlen : i + (r.length + 1) = N := hi
    have hk1 : k < 256 := hk k (by simp)
    have hk2 : ∀ q, q ∈ r → q < 256 := fun q hq => hk q (by simp [hq])
    have e1 : a5 (nI b * 5 + nI i).toNatClampNeg = nI k := by
      rw [xh_idx, nI_clamp (by omega)]
      exact hr 0 k rfl
    refine pk_le N i (fun z => absurd z (by omega)) (fun _ => ⟨pk_in (b * 5 + i) 325 (by omega) xh_idx, nm_r e1 (ek_if (xh_bit0 (by omega) (by omega)) (fun z => ?_) (fun z => ?_))⟩)
    · have L0 : m0 ++ (k :: r).filter (fun k => !k.testBit t) = (m0 ++ [k]) ++ r.filter (fun k => !k.testBit t) := by simp [z]
      have L1 : m1 ++ (k :: r).filter (fun k => k.testBit t) = m1 ++ r.filter (fun k => k.testBit t) := by simp [z]
      rw [L0, L1] at H
      unfold wX_split_146
      refine ⟨pk_in (b * 5 + i) 325 (by omega) xh_idx, xh_append hb (by omega) hk1 h0.2.1 ?_⟩
      refine nm_r (nI_1 i) (ih (i + 1) (m0 ++ [k]) m1 _ _ _ hk2 (by omega) (by rw [List.length_append, List.length_singleton]; omega) (xh_C_app h0 (by omega)) (xh_C_fr h1 (Ne.symm hbc) (by omega)) (fun j q hj => ?_) (fun a4' a5' a6' g0 g1 g2 => H a4' a5' a6' g0 g1 (fun x m hx hx2 hm => g2 x m hx hx2 (xh_C_fr hm hx (by omega)))))
      have hj2 := hr (j + 1) q hj
      rw [pk_un (by omega), show i + 1 + j = i + (j + 1) by omega]
      exact hj2
    · have z' : k.testBit t = true := by
        cases h : k.testBit t
        · exact absurd h z
        · rfl
      have L0 : m0 ++ (k :: r).filter (fun k => !k.testBit t) = m0 ++ r.filter (fun k => !k.testBit t) := by simp [z']
      have L1 : m1 ++ (k :: r).filter (fun k => k.testBit t) = (m1 ++ [k]) ++ r.filter (fun k => k.testBit t) := by simp [z']
      rw [L0, L1] at H
      unfold wX_split_146
      refine ⟨pk_in (b * 5 + i) 325 (by omega) xh_idx, xh_append hc (by omega) hk1 h1.2.1 ?_⟩
      refine nm_r (nI_1 i) (ih (i + 1) m0 (m1 ++ [k]) _ _ _ hk2 (by omega) (by rw [List.length_append, List.length_singleton]; omega) (xh_C_fr h0 hbc (by omega)) (xh_C_app h1 (by omega)) (fun j q hj => ?_) (fun a4' a5' a6' g0 g1 g2 => H a4' a5' a6' g0 g1 (fun x m hx hx2 hm => g2 x m hx hx2 (xh_C_fr hm hx2 (by omega)))))
      have hj1 := xh_lt hj
      have hj2 := hr (j + 1) q hj
      rw [pk_un (by omega), show i + 1 + j = i + (j + 1) by omega]
      exact hj2
theorem xh_s66 {post : St2 → Prop} {b f t K G : Nat} {fb fk : Int32} {a1 a2 a3 a4 a5 a6 : Nat → Int32} {l : List Nat} (hb : b < 65) (hK : K < 65) (hK0 : a2 K = 0) (hb0 : a2 b ≠ 0) (ht : t < 6) (hG : G < 7) (hf : f < 256) (hl : xh_C a4 a5 b l) (hk : ∀ k, k ∈ l → k < 256)
    (H : ∀ c s a4' a5' a6', c ≤ K → a2 c = 0 → (∀ j, j < 2 ^ G → s j = if (xh_ag f t j && j.testBit t) = true then nI c else a1 j) → xh_C a4' a5' b (l.filter (fun k => !k.testBit t)) → xh_C a4' a5' c (l.filter (fun k => k.testBit t)) → (∀ x m, x ≠ b → x ≠ c → xh_C a4 a5 x m → xh_C a4' a5' x m) → post (nI G, fb + 1, fk, s, upd a2 c 1, upd (upd a3 b (nI (t + 1))) c (nI (t + 1)), a4', a5', a6')) :
    wX_split_66 post (nI b) (nI f) (nI t) (nI G) fb fk a1 a2 a3 a4 a5 a6 := by
  unfold wX_split_66
  refine xh_newB hK hK0 (fun c hc hc0 => ?_)
  have hbc : b ≠ c := by
    intro z
    rw [z] at hb0
    exact hb0 hc0
  have eb : (nI b).toNatClampNeg = b := nI_clamp (by omega)
  have ec : (nI c).toNatClampNeg = c := nI_clamp (by omega)
  have e8 : (nI t + 1).toInt8.toInt32 = nI (t + 1) := by rw [nI_1]; exact xh_i8 _ (by omega)
  have hlen := hl.1
  refine ⟨pk_in b 65 hb, nm_r (e' := upd a3 b (nI (t + 1))) (by rw [eb, e8]) ⟨pk_in c 65 (by omega), nm_r (e' := upd (upd a3 b (nI (t + 1))) c (nI (t + 1))) (by rw [ec, e8]) ⟨pk_in b 65 hb, nm_r (e' := nI l.length) (by rw [eb, pk_un hbc]; exact hl.2.1) ⟨pk_in b 65 hb, nm_r (e' := upd (upd a4 c 0) b 0) (by rw [eb]) ⟨l.length + 1, ?_⟩⟩⟩⟩⟩
  refine xh_s111 hb (by omega) hbc (by omega) hlen l 0 [] [] _ _ _ hk (by omega) rfl (xh_C_nil pk_us) (xh_C_nil (by rw [pk_un (Ne.symm hbc), pk_us])) (fun j k hj => ?_) (fun a4' a5' a6' g0 g1 g2 => xh_s183 hf (by omega) hG (by omega) (fun s hs => H c s a4' a5' a6' hc hc0 hs g0 g1 (fun x m hx hx2 hm => g2 x m hx hx2 (xh_C_fr4 (xh_C_fr4 hm hx2) hx))))
  rw [Nat.zero_add]
  exact hl.2.2 j k hj
/-- the picture: directory depth G, the bucket cur of depth t (the endings that agree with f below t), the side buckets sd j; all in use lie below K -/
def xh_K (f G t cur K : Nat) (sd : Nat → Nat) (a1 a2 a3 : Nat → Int32) : Prop :=
  (t ≤ G ∧ G < 7 ∧ K < 64 ∧ cur < K ∧ ∀ j, j < t → sd j < K) ∧
  ((∀ i, i < 2 ^ G → xh_ag f t i = true → a1 i = nI cur) ∧ ∀ i j, i < 2 ^ G → j < t → xh_df f j i = true → a1 i = nI (sd j)) ∧
  (a3 cur = nI t ∧ ∀ j, j < t → a3 (sd j) = nI (j + 1)) ∧
  (a2 cur = 1 ∧ (∀ j, j < t → a2 (sd j) = 1) ∧ ∀ x, a2 x ≠ 0 → x = cur ∨ ∃ j, j < t ∧ x = sd j) ∧
  (∀ j, j < t → sd j ≠ cur) ∧ ∀ i j, i < t → j < t → sd i = sd j → i = j
/-- what the buckets hold, as long as keys are only told apart -/
def xh_L (f t cur : Nat) (sd : Nat → Nat) (a4 a5 : Nat → Int32) (l : List Nat) : Prop :=
  xh_C a4 a5 cur (l.filter (xh_ag f t)) ∧ ∀ j, j < t → xh_C a4 a5 (sd j) (l.filter (xh_df f j))
theorem xh_K_dir {f G t cur K : Nat} {sd : Nat → Nat} {a1 a2 a3 : Nat → Int32} (k : xh_K f G t cur K sd a1 a2 a3) : ∀ i, i < 2 ^ G → ∃ y, y < K ∧ a1 i = nI y := by
  intro i hi
  rcases xh_cases f t i with h | ⟨j, hj, h⟩
  · exact ⟨cur, k.1.2.2.2.1, k.2.1.1 i hi h⟩
  · exact ⟨sd j, k.1.2.2.2.2 j hj, k.2.1.2 i j hi hj h⟩
theorem xh_K_free {f G t cur K x : Nat} {sd : Nat → Nat} {a1 a2 a3 : Nat → Int32} (k : xh_K f G t cur K sd a1 a2 a3) (hx : K ≤ x) : a2 x = 0 := by
  by_cases h : a2 x = 0
  · exact h
  · rcases k.2.2.2.1.2.2 x h with e | ⟨j, hj, e⟩
    · have := k.1.2.2.2.1
      omega
    · have := k.1.2.2.2.2 j hj
      omega
theorem xh_K_own {f G t cur K y : Nat} {sd : Nat → Nat} {a1 a2 a3 : Nat → Int32} (k : xh_K f G t cur K sd a1 a2 a3) (h : xh_ag f t y = true) : a1 (y % 2 ^ G) = nI cur :=
  k.2.1.1 _ (Nat.mod_lt _ (xh_pw0 G)) (by rw [xh_ag_md k.1.1]; exact h)
theorem xh_K_side {f G t cur K y j : Nat} {sd : Nat → Nat} {a1 a2 a3 : Nat → Int32} (k : xh_K f G t cur K sd a1 a2 a3) (hj : j < t) (h : xh_df f j y = true) : a1 (y % 2 ^ G) = nI (sd j) :=
  k.2.1.2 _ j (Nat.mod_lt _ (xh_pw0 G)) hj (by rw [xh_df_md (Nat.lt_of_lt_of_le hj k.1.1)]; exact h)
/-- one level more -/
theorem xh_K_up {f t cur o K : Nat} {sd : Nat → Nat} {a1 a2 a3 : Nat → Int32} (ht : t < 6) (hK : K < 64) (hc : cur < K) (ho : o < K) (hs : ∀ j, j < t → sd j < K)
    (d1 : ∀ i, i < 2 ^ (t + 1) → xh_ag f t i = true → i.testBit t = f.testBit t → a1 i = nI cur)
    (d2 : ∀ i, i < 2 ^ (t + 1) → xh_ag f t i = true → i.testBit t ≠ f.testBit t → a1 i = nI o)
    (d3 : ∀ i j, i < 2 ^ (t + 1) → j < t → xh_df f j i = true → a1 i = nI (sd j))
    (p1 : a3 cur = nI (t + 1)) (p2 : a3 o = nI (t + 1)) (p3 : ∀ j, j < t → a3 (sd j) = nI (j + 1))
    (u1 : a2 cur = 1) (u2 : a2 o = 1) (u3 : ∀ j, j < t → a2 (sd j) = 1) (u4 : ∀ x, a2 x ≠ 0 → x = cur ∨ x = o ∨ ∃ j, j < t ∧ x = sd j)
    (n1 : o ≠ cur) (n2 : ∀ j, j < t → sd j ≠ cur) (n3 : ∀ j, j < t → sd j ≠ o) (n4 : ∀ i j, i < t → j < t → sd i = sd j → i = j) :
    xh_K f (t + 1) (t + 1) cur K (fun j => if j = t then o else sd j) a1 a2 a3 := by
  refine ⟨⟨Nat.le_refl _, by omega, hK, hc, fun j hj => ?_⟩, ⟨fun i hi h => ?_, fun i j hi hj h => ?_⟩, ⟨p1, fun j hj => ?_⟩, ⟨u1, fun j hj => ?_, fun x hx => ?_⟩, fun j hj => ?_, fun i j hi hj h => ?_⟩
  · by_cases e : j = t
    · simp only [e, if_true]
      exact ho
    · simp only [e, if_false]
      exact hs j (by omega)
  · rw [xh_ag_succ, Bool.and_eq_true, beq_iff_eq] at h
    exact d1 i hi h.1 h.2
  · by_cases e : j = t
    · simp only [e, if_true]
      rw [e] at h
      have h2 := xh_df_iff.mp h
      exact d2 i hi h2.1 h2.2
    · simp only [e, if_false]
      exact d3 i j hi (by omega) h
  · by_cases e : j = t
    · simp only [e, if_true]
      exact p2
    · simp only [e, if_false]
      exact p3 j (by omega)
  · by_cases e : j = t
    · simp only [e, if_true]
      exact u2
    · simp only [e, if_false]
      exact u3 j (by omega)
  · rcases u4 x hx with e | e | ⟨j, hj, e⟩
    · exact .inl e
    · exact .inr ⟨t, by omega, by simp only [if_true]; exact e⟩
    · exact .inr ⟨j, by omega, by show x = if j = t then o else sd j; rw [if_neg (by omega)]; exact e⟩
  · by_cases e : j = t
    · simp only [e, if_true]
      exact n1
    · simp only [e, if_false]
      exact n2 j (by omega)
  · by_cases e : i = t
    · by_cases e2 : j = t
      · rw [e, e2]
      · simp only [e, e2, if_true, if_false] at h
        exact absurd h.symm (n3 j (by omega))
    · by_cases e2 : j = t
      · simp only [e, e2, if_true, if_false] at h
        exact absurd h (n3 i (by omega))
      · simp only [e, e2, if_false] at h
        exact n4 i j (by omega) (by omega) h
theorem xh_split {post : St2 → Prop} {f t cur K : Nat} {sd : Nat → Nat} {fb fk : Int32} {a1 a2 a3 a4 a5 a6 : Nat → Int32} {l : List Nat} (hf : f < 256) (ht : t < 6) (hKK : K + 1 < 64) (k : xh_K f t t cur K sd a1 a2 a3) (hL : xh_L f t cur sd a4 a5 l) (hk : ∀ k, k ∈ l → k < 256)
    (H : ∀ cur' sd' a1' a2' a3' a4' a5' a6', xh_K f (t + 1) (t + 1) cur' (K + 1) sd' a1' a2' a3' → xh_L f (t + 1) cur' sd' a4' a5' l → post (nI (t + 1), fb + 1, fk, a1', a2', a3', a4', a5', a6')) :
    wpX_split post (nI t, fb, fk, a1, a2, a3, a4, a5, a6) (nI cur) (nI f) := by
  have kk := k
  obtain ⟨⟨_, k2, k3, k4, k5⟩, ⟨d1, d2⟩, ⟨p1, p2⟩, ⟨u1, u2, u3⟩, n1, n2⟩ := kk
  unfold wpX_split
  refine ⟨pk_in cur 65 (by omega), nm_r (e' := nI t) (by rw [nI_clamp (by omega)]; exact p1) (br_t rfl (xh_s18 ht (fun j hj => ?_) (fun s hs => xh_s66 (K := K) (by omega) (by omega) (xh_K_free k (Nat.le_refl K)) (by rw [u1]; decide) ht (by omega) hf hL.1 (fun q hq => hk q (List.mem_filter.mp hq).1) (fun c s' a4' a5' a6' hc hc0 hs' g0 g1 g2 => ?_))))⟩
  · obtain ⟨y, hy, ey⟩ := xh_K_dir k j hj
    exact ⟨y, by omega, ey⟩
  have hcc : c ≠ cur := by
    intro z
    rw [z, u1] at hc0
    exact absurd hc0 (by decide)
  have hcs : ∀ j, j < t → sd j ≠ c := by
    intro j hj z
    rw [← z, u2 j hj] at hc0
    exact absurd hc0 (by decide)
  have hs2 : ∀ j, j < 2 ^ (t + 1) → s j = a1 (j % 2 ^ t) := by
    intro j hj
    rw [Nat.pow_succ] at hj
    rcases Nat.lt_or_ge j (2 ^ t) with z | z
    · rw [Nat.mod_eq_of_lt z]
      exact (hs j z).1
    · rw [Nat.mod_eq_sub_mod z, Nat.mod_eq_of_lt (by omega)]
      have h := (hs (j - 2 ^ t) (by omega)).2
      rw [show j - 2 ^ t + 2 ^ t = j by omega] at h
      exact h
  have hm : ∀ j, j % 2 ^ t < 2 ^ t := fun j => Nat.mod_lt _ (xh_pw0 t)
  have D1 : ∀ i, i < 2 ^ (t + 1) → xh_ag f t i = true → i.testBit t = true → s' i = nI c := by
    intro i hi h h2
    rw [hs' i hi, if_pos (by rw [h, h2]; rfl)]
  have D2 : ∀ i, i < 2 ^ (t + 1) → xh_ag f t i = true → i.testBit t = false → s' i = nI cur := by
    intro i hi h h2
    rw [hs' i hi, if_neg (by rw [h, h2]; decide), hs2 i hi]
    exact d1 _ (hm i) (by rw [xh_ag_md (Nat.le_refl t)]; exact h)
  have D3 : ∀ i j, i < 2 ^ (t + 1) → j < t → xh_df f j i = true → s' i = nI (sd j) := by
    intro i j hi hj h
    rw [hs' i hi, if_neg (by
      intro w
      rw [Bool.and_eq_true] at w
      exact xh_df_ag h hj w.1), hs2 i hi]
    exact d2 _ j (hm i) hj (by rw [xh_df_md hj]; exact h)
  have P1 : upd (upd a3 cur (nI (t + 1))) c (nI (t + 1)) cur = nI (t + 1) := by rw [pk_un (Ne.symm hcc), pk_us]
  have P2 : upd (upd a3 cur (nI (t + 1))) c (nI (t + 1)) c = nI (t + 1) := pk_us
  have P3 : ∀ j, j < t → upd (upd a3 cur (nI (t + 1))) c (nI (t + 1)) (sd j) = nI (j + 1) := by
    intro j hj
    rw [pk_un (hcs j hj), pk_un (n1 j hj)]
    exact p2 j hj
  have U1 : upd a2 c 1 cur = 1 := by rw [pk_un (Ne.symm hcc)]; exact u1
  have U2 : upd a2 c 1 c = 1 := pk_us
  have U3 : ∀ j, j < t → upd a2 c 1 (sd j) = 1 := by
    intro j hj
    rw [pk_un (hcs j hj)]
    exact u2 j hj
  have U4 : ∀ x, upd a2 c 1 x ≠ 0 → x = c ∨ x = cur ∨ ∃ j, j < t ∧ x = sd j := by
    intro x hx
    by_cases e : x = c
    · exact .inl e
    · rw [pk_un e] at hx
      exact .inr (u3 x hx)
  have LS : ∀ j, j < t → xh_C a4' a5' (sd j) (l.filter (xh_df f j)) := fun j hj => g2 _ _ (n1 j hj) (hcs j hj) (hL.2 j hj)
  cases hb : f.testBit t
  · refine H cur _ s' _ _ a4' a5' a6' (xh_K_up (o := c) (sd := sd) ht (by omega) (by omega) (by omega) (fun j hj => Nat.lt_succ_of_lt (k5 j hj)) (fun i hi h h2 => D2 i hi h (by rw [h2, hb])) (fun i hi h h2 => D1 i hi h ?_) D3 P1 P2 P3 U1 U2 U3 (fun x hx => ?_) hcc n1 hcs n2) ⟨?_, fun j hj => ?_⟩
    · rw [hb] at h2
      cases h3 : i.testBit t
      · exact absurd h3 h2
      · rfl
    · rcases U4 x hx with e | e | e
      · exact .inr (.inl e)
      · exact .inl e
      · exact .inr (.inr e)
    · rw [← xh_f1, hb]
      have e : (fun k : Nat => k.testBit t == false) = fun k => !k.testBit t := by
        funext q
        cases q.testBit t <;> rfl
      rw [e]
      exact g0
    · by_cases e : j = t
      · simp only [e, if_true]
        rw [← xh_f2, hb]
        have e : (fun k : Nat => k.testBit t != false) = fun k => k.testBit t := by
          funext q
          cases q.testBit t <;> rfl
        rw [e]
        exact g1
      · simp only [e, if_false]
        exact LS j (by omega)
  · refine H c _ s' _ _ a4' a5' a6' (xh_K_up (o := cur) (sd := sd) ht (by omega) (by omega) (by omega) (fun j hj => Nat.lt_succ_of_lt (k5 j hj)) (fun i hi h h2 => D1 i hi h (by rw [h2, hb])) (fun i hi h h2 => D2 i hi h ?_) D3 P2 P1 P3 U2 U1 U3 U4 (Ne.symm hcc) hcs n1 n2) ⟨?_, fun j hj => ?_⟩
    · rw [hb] at h2
      cases h3 : i.testBit t
      · rfl
      · exact absurd h3 h2
    · rw [← xh_f1, hb]
      have e : (fun k : Nat => k.testBit t == true) = fun k => k.testBit t := by
        funext q
        cases q.testBit t <;> rfl
      rw [e]
      exact g1
    · by_cases e : j = t
      · simp only [e, if_true]
        rw [← xh_f2, hb]
        have e : (fun k : Nat => k.testBit t != true) = fun k => !k.testBit t := by
          funext q
          cases q.testBit t <;> rfl
        rw [e]
        exact g0
      · simp only [e, if_false]
        exact LS j (by omega)
end
section
theorem xh_K_cur {f G t cur K : Nat} {sd : Nat → Nat} {a1 a2 a3 : Nat → Int32} (k : xh_K f G t cur K sd a1 a2 a3) : cur < 64 := Nat.lt_trans k.1.2.2.2.1 k.1.2.2.1
theorem xh_K_sd {f G t cur K j : Nat} {sd : Nat → Nat} {a1 a2 a3 : Nat → Int32} (k : xh_K f G t cur K sd a1 a2 a3) (hj : j < t) : sd j < 64 := Nat.lt_trans (k.1.2.2.2.2 j hj) k.1.2.2.1
theorem xh_ins26 {post : St2 → Prop} {f T K0 : Nat} {fk : Int32} {l : List Nat} (hf : f < 256) (hT : T ≤ 6) (hK0 : K0 + T < 63) (hk : ∀ k, k ∈ l → k < 256) (hfull : ∀ t, t < T → (l.filter (xh_ag f t)).length = 5) (hlast : (l.filter (xh_ag f T)).length ≤ 4)
    (H : ∀ cur sd a1 a2 a3 a4 a5 a6, xh_K f T T cur (K0 + T) sd a1 a2 a3 → xh_L f T cur sd a4 a5 l → post (nI T, nI (T + 1), fk, a1, a2, a3, a4, a5, a6)) :
    ∀ (r t cur : Nat) (sd : Nat → Nat) (a1 a2 a3 a4 a5 a6 : Nat → Int32), t + r = T → xh_K f t t cur (K0 + t) sd a1 a2 a3 → xh_L f t cur sd a4 a5 l →
      wX_insert_26 post (nI f) (r + 1) (nI cur) (nI t) (nI t) (nI (t + 1)) fk a1 a2 a3 a4 a5 a6 := by
  intro r
  induction r with
  | zero =>
    intro t cur sd a1 a2 a3 a4 a5 a6 ht k L
    have ht' : t = T := ht
    subst ht'
    have hc := xh_K_cur k
    have e0 : a4 (nI cur).toNatClampNeg = nI (l.filter (xh_ag f t)).length := by rw [nI_clamp (by omega)]; exact L.1.2.1
    exact pk_le 6 t (fun _ => H cur sd a1 a2 a3 a4 a5 a6 k L) (fun _ => ⟨pk_in cur 65 (by omega), pk_le (l.filter (xh_ag f t)).length 4 (fun _ => H cur sd a1 a2 a3 a4 a5 a6 k L) (fun z => absurd z (by omega)) e0⟩)
  | succ r ih =>
    intro t cur sd a1 a2 a3 a4 a5 a6 ht k L
    have hc := xh_K_cur k
    have e0 : a4 (nI cur).toNatClampNeg = nI 5 := by rw [nI_clamp (by omega), L.1.2.1, hfull t (by omega)]
    refine pk_le 6 t (fun z => absurd z (by omega)) (fun _ => ⟨pk_in cur 65 (by omega), pk_le 5 4 (fun z => absurd z (by omega)) (fun _ => xh_split hf (by omega) (by omega) k L hk (fun cur' sd' a1' a2' a3' a4' a5' a6' k' L' => xh_bkt (y := cur') (by omega) hf (xh_K_own k' (xh_ag_self f _)) (nm_r (nI_1 t) ?_))) e0⟩)
    have h := ih (t + 1) cur' sd' a1' a2' a3' a4' a5' a6' (by omega) k' L'
    rw [nI_succ (t + 1)] at h
    exact h
theorem xh_insert0 {post : St2 → Prop} {f k b K : Nat} {sd : Nat → Nat} {fb fk v : Int32} {a1 a2 a3 a4 a5 a6 : Nat → Int32} {m : List Nat} (hk : k < 256) (hm : m.length < 5) (kk : xh_K f 0 0 b K sd a1 a2 a3) (h : xh_C a4 a5 b m)
    (H : ∀ a4' a5' a6', xh_C a4' a5' b (m ++ [k]) → ∃ fu, wX_insert_26 post (nI k) fu (nI b) (nI 0) (nI 0) fb (fk + 1) a1 a2 a3 a4' a5' a6') :
    wpX_insert post (nI 0, fb, fk, a1, a2, a3, a4, a5, a6) (nI k) v := by
  have hb := xh_K_cur kk
  unfold wpX_insert
  exact xh_bkt (y := b) (by omega) hk (xh_K_own kk (xh_ag_0 f k)) (xh_append (by omega) hm hk h.2.1 (nm_e (H _ _ _ (xh_C_app h hm))))
theorem xh_ins_small {post : St2 → Prop} {f k b K : Nat} {sd : Nat → Nat} {fb fk v : Int32} {a1 a2 a3 a4 a5 a6 : Nat → Int32} {m : List Nat} (hk : k < 256) (hm : m.length < 4) (kk : xh_K f 0 0 b K sd a1 a2 a3) (h : xh_C a4 a5 b m)
    (H : ∀ a4' a5' a6', xh_C a4' a5' b (m ++ [k]) → post (nI 0, fb, fk + 1, a1, a2, a3, a4', a5', a6')) :
    wpX_insert post (nI 0, fb, fk, a1, a2, a3, a4, a5, a6) (nI k) v := by
  have hb := xh_K_cur kk
  refine xh_insert0 hk (by omega) kk h (fun a4' a5' a6' h' => ⟨1, ?_⟩)
  have e0 : a4' (nI b).toNatClampNeg = nI (m.length + 1) := by
    rw [nI_clamp (by omega), h'.2.1, List.length_append]
    rfl
  exact pk_le 6 0 (fun z => absurd z (by omega)) (fun _ => ⟨pk_in b 65 (by omega), pk_le (m.length + 1) 4 (fun _ => H a4' a5' a6' h') (fun z => absurd z (by omega)) e0⟩)
theorem xh_f0 (l : List Nat) (f : Nat) : l.filter (xh_ag f 0) = l := List.filter_eq_self.mpr (fun k _ => xh_ag_0 f k)
theorem xh_ins_big {post : St2 → Prop} {f b K T : Nat} {sd : Nat → Nat} {fk v : Int32} {a1 a2 a3 a4 a5 a6 : Nat → Int32} {m : List Nat} (hf : f < 256) (hm : m.length = 4) (hk : ∀ k, k ∈ m → k < 256) (kk : xh_K f 0 0 b K sd a1 a2 a3) (h : xh_C a4 a5 b m)
    (hT : T ≤ 6) (hK : K + T < 63) (hfull : ∀ t, t < T → ∀ k, k ∈ m → xh_ag f t k = true) (hlast : (m.filter (xh_ag f T)).length ≤ 3)
    (H : ∀ cur sd a1 a2 a3 a4 a5 a6, xh_K f T T cur (K + T) sd a1 a2 a3 → xh_L f T cur sd a4 a5 (m ++ [f]) → post (nI T, nI (T + 1), fk + 1, a1, a2, a3, a4, a5, a6)) :
    wpX_insert post (nI 0, nI 1, fk, a1, a2, a3, a4, a5, a6) (nI f) v := by
  refine xh_insert0 hf (by omega) kk h (fun a4' a5' a6' h' => ⟨T + 1, ?_⟩)
  have e1 : ∀ t, ((m ++ [f]).filter (xh_ag f t)) = m.filter (xh_ag f t) ++ [f] := by
    intro t
    rw [List.filter_append]
    congr 1
    simp [xh_ag_self]
  refine xh_ins26 (K0 := K) (l := m ++ [f]) hf hT hK (fun k hk' => ?_) (fun t ht => ?_) ?_ H T 0 b sd a1 a2 a3 a4' a5' a6' (by omega) kk ⟨?_, fun j hj => absurd hj (by omega)⟩
  · rcases List.mem_append.mp hk' with z | z
    · exact hk k z
    · rw [List.mem_singleton.mp z]
      exact hf
  · rw [e1, List.length_append, List.filter_eq_self.mpr (hfull t ht), hm]
    rfl
  · rw [e1, List.length_append]
    exact Nat.succ_le_succ hlast
  · rw [xh_f0]
    exact h'
end
section
theorem xh_j154 {post : Int32 → St2 → Prop} {b c G : Nat} {fb fk : Int32} {a1 a2 a3 a4 a5 a6 : Nat → Int32} (hG : G < 7) (hb : b < 65) (hd : ∀ j, j < 2 ^ G → ∃ y, y < 65 ∧ a1 j = nI y)
    (H : ∀ s, (∀ j, j < 2 ^ G → s j = if a1 j = nI c then nI b else a1 j) → post 1 (nI G, fb, fk, s, a2, a3, a4, a5, a6)) :
    ∃ n, wX_joinAt_154 post (nI b) (nI c) (nI G) fb fk n 0 a1 a2 a3 a4 a5 a6 := by
  have hp := xh_pw hG
  have e1 := xh_one G (by omega)
  refine pk_loop (fun n i s => wX_joinAt_154 post (nI b) (nI c) (nI G) fb fk n (nI i) s a2 a3 a4 a5 a6) (fun i s => (∀ j, j < i → s j = if a1 j = nI c then nI b else a1 j) ∧ ∀ j, i ≤ j → s j = a1 j) (2 ^ G) 0 a1 (Nat.zero_le _) ⟨fun j h => absurd h (by omega), fun _ _ => rfl⟩ ?_ ?_
  · intro n s h
    exact pk_le (2 ^ G) (2 ^ G) (fun _ => H s h.1) (fun z => absurd z (by omega)) e1
  · intro n i s hi h hw
    have e : (nI i).toNatClampNeg = i := nI_clamp (by omega)
    have es : s (nI i).toNatClampNeg = a1 i := by rw [e]; exact h.2 i (Nat.le_refl i)
    refine pk_le (2 ^ G) i (fun z => absurd z (by omega)) (fun _ => ⟨pk_in i 64 (by omega), br_c (fun z => ⟨pk_in i 64 (by omega), nm_r (e' := upd s i (nI b)) ?_ (nm_r (nI_1 i) (hw _ ⟨fun j hj => ?_, fun j hj => ?_⟩))⟩) (fun z => ⟨pk_in i 64 (by omega), pk_in i 64 (by omega), nm_r (e' := upd s i (a1 i)) ?_ (nm_r (nI_1 i) (hw _ ⟨fun j hj => ?_, fun j hj => ?_⟩))⟩)⟩) e1
    · rw [e, xh_i8 b (by omega)]
    · by_cases ej : j = i
      · rw [es] at z
        rw [ej, pk_us, if_pos z]
      · rw [pk_un ej]
        exact h.1 j (by omega)
    · rw [pk_un (by omega)]
      exact h.2 j (by omega)
    · obtain ⟨y, hy, ey⟩ := hd i hi
      rw [es, e, ey, xh_nb (by omega)]
    · by_cases ej : j = i
      · rw [es] at z
        rw [ej, pk_us, if_neg z]
      · rw [pk_un ej]
        exact h.1 j (by omega)
    · rw [pk_un (by omega)]
      exact h.2 j (by omega)
theorem xh_j76 {post : Int32 → St2 → Prop} {b c t : Nat} {fd fb fk : Int32} {a1 a2 a3 : Nat → Int32} {mc : List Nat} (hb : b < 65) (hc : c < 65) (hbc : b ≠ c) (ht : t < 7) (hmc : ∀ k, k ∈ mc → k < 256) :
    ∀ (r : List Nat) (i : Nat) (m : List Nat) (a4 a5 a6 : Nat → Int32), (∀ j k, r[j]? = some k → mc[i + j]? = some k) → i + r.length = mc.length → m.length + r.length ≤ 4 → xh_C a4 a5 b m → xh_C a4 a5 c mc →
      (∀ a4' a5' a6', xh_C a4' a5' b (m ++ r) → (∀ x n, x ≠ b → xh_C a4 a5 x n → xh_C a4' a5' x n) → ∃ fu, wX_joinAt_154 post (nI b) (nI c) fd (fb - 1) fk fu 0 a1 (upd a2 c 0) (upd a3 b (nI t)) a4' a5' a6') →
      wX_joinAt_76 post (nI b) (nI (t + 1)) (nI c) (r.length + 1) (nI i) fd fb fk a1 a2 a3 a4 a5 a6 := by
  have ec : (nI c).toNatClampNeg = c := nI_clamp (by omega)
  have eb : (nI b).toNatClampNeg = b := nI_clamp (by omega)
  intro r
  induction r with
  | nil =>
    intro i m a4 a5 a6 hr hi hm h0 h1 H
    have hi' : i = mc.length := hi
    have hlen := h1.1
    have e0 : a4 (nI c).toNatClampNeg = nI mc.length := by rw [ec]; exact h1.2.1
    refine ⟨pk_in c 65 hc, pk_le mc.length i (fun _ => ⟨pk_in c 65 hc, nm_r (e' := upd a2 c 0) (by rw [ec]) (nm_e ⟨pk_in b 65 hb, nm_r (e' := upd a3 b (nI t)) (by rw [eb, nI_pred, xh_i8 t (by omega)]) (H a4 a5 a6 ?_ (fun x n _ h => h))⟩)⟩) (fun z => absurd z (by omega)) e0⟩
    rw [List.append_nil]
    exact h0
  | cons k r ih =>
    intro i m a4 a5 a6 hr hi hm h0 h1 H
    have hlen := h1.1
    have hi2 : i + (r.length + 1) = mc.length := hi
    have hm2 : m.length + (r.length + 1) ≤ 4 := hm
    have hk := hr 0 k rfl
    have hk1 := hmc k (xh_mem hk)
    have e0 : a4 (nI c).toNatClampNeg = nI mc.length := by rw [ec]; exact h1.2.1
    have e1 : a5 (nI c * 5 + nI i).toNatClampNeg = nI k := by
      rw [xh_idx, nI_clamp (by omega)]
      exact h1.2.2 i k hk
    refine ⟨pk_in c 65 hc, pk_le mc.length i (fun z => absurd z (by omega)) (fun _ => ⟨pk_in (c * 5 + i) 325 (by omega) xh_idx, pk_in (c * 5 + i) 325 (by omega) xh_idx, ?_⟩) e0⟩
    rw [e1]
    refine xh_append hb (by omega) hk1 h0.2.1 (nm_r (nI_1 i) (ih (i + 1) (m ++ [k]) _ _ _ (fun j q hj => ?_) (by omega) (by rw [List.length_append, List.length_singleton]; omega) (xh_C_app h0 (by omega)) (xh_C_fr h1 (Ne.symm hbc) (by omega)) (fun a4' a5' a6' g0 g1 => H a4' a5' a6' ?_ (fun x n hx hn => g1 x n hx (xh_C_fr hn hx (by omega))))))
    · rw [show i + 1 + j = i + (j + 1) by omega]
      exact hr (j + 1) q hj
    · rw [List.append_assoc] at g0
      exact g0
theorem xh_dfx (f t : Nat) : xh_df f t (f ^^^ 2 ^ t) = true := by
  refine xh_df_iff.mpr ⟨xh_ag_iff.mpr (fun k hk => ?_), ?_⟩
  · rw [Nat.testBit_xor, Nat.testBit_two_pow_of_ne (by omega), Bool.xor_false]
  · rw [Nat.testBit_xor, Nat.testBit_two_pow_self]
    cases f.testBit t <;> decide
/-- one level less -/
theorem xh_K_down {f G t cur K : Nat} {sd : Nat → Nat} {a1 a2 a3 s : Nat → Int32} (k : xh_K f G (t + 1) cur K sd a1 a2 a3) (hs : ∀ j, j < 2 ^ G → s j = if a1 j = nI (sd t) then nI cur else a1 j) :
    xh_K f G t cur K sd s (upd a2 (sd t) 0) (upd a3 cur (nI t)) := by
  obtain ⟨⟨k1, k2, k3, k4, k5⟩, ⟨d1, d2⟩, ⟨p1, p2⟩, ⟨u1, u2, u3⟩, n1, n2⟩ := k
  have hne : ∀ j, j < t → sd j ≠ sd t := fun j hj z => absurd (n2 j t (by omega) (by omega) z) (by omega)
  refine ⟨⟨by omega, k2, k3, k4, fun j hj => k5 j (by omega)⟩, ⟨fun i hi h => ?_, fun i j hi hj h => ?_⟩, ⟨pk_us, fun j hj => ?_⟩, ⟨?_, fun j hj => ?_, fun x hx => ?_⟩, fun j hj => n1 j (by omega), fun i j hi hj h => n2 i j (by omega) (by omega) h⟩
  · rw [hs i hi]
    by_cases e : i.testBit t = f.testBit t
    · have h2 : a1 i = nI cur := d1 i hi (by rw [xh_ag_succ, h, e]; simp)
      rw [h2]
      by_cases z : nI cur = nI (sd t)
      · rw [if_pos z]
      · rw [if_neg z]
    · rw [if_pos (d2 i t hi (by omega) (xh_df_iff.mpr ⟨h, e⟩))]
  · have h2 := d2 i j hi (by omega) h
    have b1 := k5 j (by omega)
    have b2 := k5 t (by omega)
    rw [hs i hi, h2, if_neg]
    rw [nI_eq (by omega) (by omega)]
    exact hne j hj
  · rw [pk_un (n1 j (by omega))]
    exact p2 j (by omega)
  · rw [pk_un (Ne.symm (n1 t (by omega)))]
    exact u1
  · rw [pk_un (hne j hj)]
    exact u2 j (by omega)
  · by_cases e : x = sd t
    · rw [e, pk_us] at hx
      exact absurd rfl hx
    · rw [pk_un e] at hx
      rcases u3 x hx with z | ⟨j, hj, z⟩
      · exact .inl z
      · refine .inr ⟨j, ?_, z⟩
        rcases Nat.lt_or_ge j t with w | w
        · exact w
        · have hjt : j = t := by omega
          rw [hjt] at z
          exact absurd z e
theorem xh_join {post : Int32 → St2 → Prop} {f G t cur K : Nat} {sd : Nat → Nat} {fb fk : Int32} {a1 a2 a3 a4 a5 a6 : Nat → Int32} {m mc : List Nat} (hf : f < 256) (k : xh_K f G (t + 1) cur K sd a1 a2 a3) (h : xh_C a4 a5 cur m) (h2 : xh_C a4 a5 (sd t) mc) (hlen : m.length + mc.length ≤ 4) (hmc : ∀ k, k ∈ mc → k < 256)
    (H : ∀ s a2' a3' a4' a5' a6', xh_K f G t cur K sd s a2' a3' → xh_C a4' a5' cur (m ++ mc) → (∀ x n, x ≠ cur → xh_C a4 a5 x n → xh_C a4' a5' x n) → post 1 (nI G, fb - 1, fk, s, a2', a3', a4', a5', a6')) :
    wpX_joinAt post (nI G, fb, fk, a1, a2, a3, a4, a5, a6) (nI f) := by
  have hc := xh_K_cur k
  have hs := xh_K_sd k (Nat.lt_succ_self t)
  have k1 := k.1.1
  have k2 := k.1.2.1
  have hp := xh_pw k2
  have hne : sd t ≠ cur := k.2.2.2.2.1 t (by omega)
  have hx : f ^^^ 2 ^ t < 2 ^ 8 := Nat.xor_lt_two_pow (n := 8) hf (Nat.pow_lt_pow_right (by decide) (by omega))
  have hm : (f ^^^ 2 ^ t) % 2 ^ G < 2 ^ G := Nat.mod_lt _ (xh_pw0 G)
  have ei : (nI f ^^^ ((1 : Int32) <<< ((nI (t + 1) - 1) &&& 31))) &&& (((1 : Int32) <<< (nI G &&& 31)) - 1) = nI ((f ^^^ 2 ^ t) % 2 ^ G) := by
    rw [nI_pred, xh_one t (by omega), xh_xor, xh_mask (by omega) k2]
  have ec : (nI cur).toNatClampNeg = cur := nI_clamp (by omega)
  have es : (nI (sd t)).toNatClampNeg = sd t := nI_clamp (by omega)
  have e4 : a4 (nI cur).toNatClampNeg + a4 (nI (sd t)).toNatClampNeg = nI (m.length + mc.length) := by rw [ec, es, h.2.1, h2.2.1, nI_add]
  unfold wpX_joinAt
  refine xh_bkt (y := cur) k2 hf (xh_K_own k (xh_ag_self f _)) ⟨pk_in cur 65 (by omega), nm_r (e' := nI (t + 1)) (by rw [ec]; exact k.2.2.1.1) (br_f (nI_ne0 (by omega) (by omega)) ⟨pk_in ((f ^^^ 2 ^ t) % 2 ^ G) 64 (by omega) ei, nm_r (e' := nI (sd t)) (by rw [ei, nI_clamp (by omega)]; exact xh_K_side k (by omega) (xh_dfx f t)) ⟨pk_in (sd t) 65 (by omega), br_t (by rw [es]; exact k.2.2.1.2 t (by omega)) ⟨pk_in cur 65 (by omega), pk_in (sd t) 65 (by omega), pk_le (m.length + mc.length) 4 (fun _ => ⟨mc.length + 1, ?_⟩) (fun z => absurd z (by omega)) e4⟩⟩⟩)⟩
  refine xh_j76 (by omega) (by omega) (Ne.symm hne) (by omega) hmc mc 0 m a4 a5 a6 (fun j q hj => ?_) (by omega) hlen h h2 (fun a4' a5' a6' g0 g1 => xh_j154 k2 (by omega) (fun j hj => ?_) (fun s hs' => H s _ _ a4' a5' a6' (xh_K_down k hs') g0 g1))
  · rw [Nat.zero_add]
    exact hj
  · obtain ⟨y, hy, ey⟩ := xh_K_dir k j hj
    have k3 := k.1.2.2.1
    exact ⟨y, by omega, ey⟩
theorem xh_join0 {post : Int32 → St2 → Prop} {f G cur K : Nat} {sd : Nat → Nat} {fb fk : Int32} {a1 a2 a3 a4 a5 a6 : Nat → Int32} (hf : f < 256) (k : xh_K f G 0 cur K sd a1 a2 a3) (H : post 0 (nI G, fb, fk, a1, a2, a3, a4, a5, a6)) :
    wpX_joinAt post (nI G, fb, fk, a1, a2, a3, a4, a5, a6) (nI f) := by
  have hc := xh_K_cur k
  unfold wpX_joinAt
  exact xh_bkt (y := cur) k.1.2.1 hf (xh_K_own k (xh_ag_self f _)) ⟨pk_in cur 65 (by omega), nm_r (e' := nI 0) (by rw [nI_clamp (by omega)]; exact k.2.2.1.1) (br_t rfl H)⟩
theorem xh_deepK {post : Int32 → Prop} {f G t cur K : Nat} {sd : Nat → Nat} {fd fb fk : Int32} {a1 a2 a3 a4 a5 a6 : Nat → Int32} (k : xh_K f G t cur K sd a1 a2 a3) (H : post (nI t)) : wpX_deepest post (fd, fb, fk, a1, a2, a3, a4, a5, a6) := by
  have hc := xh_K_cur k
  have k1 := k.1.1
  have k2 := k.1.2.1
  refine xh_deep (t := t) (by omega) (fun x hx h => ?_) ⟨cur, hc, by rw [k.2.2.2.1.1]; decide, k.2.2.1.1⟩ H
  rcases k.2.2.2.1.2.2 x h with e | ⟨j, hj, e⟩
  · exact ⟨t, Nat.le_refl t, by rw [e]; exact k.2.2.1.1⟩
  · exact ⟨j + 1, hj, by rw [e]; exact k.2.2.1.2 j hj⟩
theorem xh_K_less {f G cur K : Nat} {sd : Nat → Nat} {a1 a2 a3 : Nat → Int32} (k : xh_K f (G + 1) 0 cur K sd a1 a2 a3) : xh_K f G 0 cur K sd a1 a2 a3 := by
  obtain ⟨⟨k1, k2, k3, k4, k5⟩, ⟨d1, d2⟩, r⟩ := k
  have hp : 2 ^ G < 2 ^ (G + 1) := Nat.pow_lt_pow_right (by decide) (by omega)
  exact ⟨⟨by omega, by omega, k3, k4, k5⟩, ⟨fun i hi => d1 i (by omega), fun i j hi => d2 i j (by omega)⟩, r⟩
theorem xh_d102 {post : St2 → Prop} {f cur K : Nat} {sd : Nat → Nat} {fb fk : Int32} {a1 a2 a3 a4 a5 a6 : Nat → Int32} (H : xh_K f 0 0 cur K sd a1 a2 a3 → post (nI 0, fb, fk, a1, a2, a3, a4, a5, a6)) :
    ∀ G, xh_K f G 0 cur K sd a1 a2 a3 → wX_delete_102 post fb fk a1 a2 a3 a4 a5 a6 (G + 1) (nI G) := by
  intro G
  induction G with
  | zero =>
    intro k
    exact pk_le 0 0 (fun _ => H k) (fun z => absurd z (by omega))
  | succ G ih =>
    intro k
    have k2 := k.1.2.1
    exact pk_le (G + 1) 0 (fun z => absurd z (by omega)) (fun _ => xh_deepK k (pk_le (G + 1) 0 (fun z => absurd z (by omega)) (fun _ => nm_r (nI_pred G) (ih (xh_K_less k)))))
theorem xh_d77 {post : St2 → Prop} {f G cur K : Nat} {sd : Nat → Nat} {fk : Int32} {l : List Nat} (hf : f < 256) (hl : l.length ≤ 4) (hk : ∀ k, k ∈ l → k < 256)
    (H : ∀ m a1 a2 a3 a4 a5 a6, xh_K f 0 0 cur K sd a1 a2 a3 → xh_C a4 a5 cur m → m.Perm l → post (nI 0, nI 1, fk, a1, a2, a3, a4, a5, a6)) :
    ∀ (t r : Nat) (m : List Nat) (a1 a2 a3 a4 a5 a6 : Nat → Int32), r + t ≤ 6 → xh_K f G t cur K sd a1 a2 a3 → xh_C a4 a5 cur m → m.Perm (l.filter (xh_ag f t)) → (∀ j, j < t → xh_C a4 a5 (sd j) (l.filter (xh_df f j))) →
      wX_delete_77 post (nI f) (t + 2) 1 (nI r) (nI G) (nI (t + 1)) fk a1 a2 a3 a4 a5 a6 := by
  intro t
  induction t with
  | zero =>
    intro r m a1 a2 a3 a4 a5 a6 hr k h hm hs
    rw [xh_f0] at hm
    have fin : ∃ fu, wX_delete_102 post (nI 1) fk a1 a2 a3 a4 a5 a6 fu (nI G) := ⟨G + 1, xh_d102 (fun k0 => H m a1 a2 a3 a4 a5 a6 k0 h hm) G k⟩
    exact pk_le 6 r (fun _ => fin) (fun _ => br_f (by decide) (xh_join0 hf k (nm_r (nI_1 r) (pk_le 6 (r + 1) (fun _ => fin) (fun _ => br_t rfl fin)))))
  | succ t ih =>
    intro r m a1 a2 a3 a4 a5 a6 hr k h hm hs
    have hlen : m.length + (l.filter (xh_df f t)).length ≤ 4 := by
      have e := (xh_perm l f t).length_eq
      rw [List.length_append, ← hm.length_eq] at e
      have e2 := List.length_filter_le (xh_ag f t) l
      omega
    refine pk_le 6 r (fun z => absurd z (by omega)) (fun _ => br_f (by decide) (xh_join hf k h (hs t (by omega)) hlen (fun q hq => hk q (List.mem_filter.mp hq).1) (fun s a2' a3' a4' a5' a6' k' g0 g1 => nm_r (nI_1 r) ?_)))
    have hh := ih (r + 1) _ s a2' a3' a4' a5' a6' (by omega) k' g0 ((hm.append_right _).trans (xh_perm l f t)) (fun j hj => g1 _ _ (k.2.2.2.2.1 j (by omega)) (hs j (by omega)))
    rw [nI_pred (t + 1)]
    exact hh
theorem xh_delete {post : St2 → Prop} {f T cur K : Nat} {sd : Nat → Nat} {fk : Int32} {a1 a2 a3 a4 a5 a6 : Nat → Int32} {l : List Nat} (hf : f < 256) (hl : l.length ≤ 4) (hk : ∀ k, k ∈ l → k < 256) (k : xh_K f T T cur K sd a1 a2 a3) (hL : xh_L f T cur sd a4 a5 (l ++ [f]))
    (H : ∀ m a1 a2 a3 a4 a5 a6, xh_K f 0 0 cur K sd a1 a2 a3 → xh_C a4 a5 cur m → m.Perm l → post (nI 0, nI 1, fk - 1, a1, a2, a3, a4, a5, a6)) :
    wpX_delete post (nI T, nI (T + 1), fk, a1, a2, a3, a4, a5, a6) (nI cur) (nI (l.filter (xh_ag f T)).length) (nI f) := by
  have hc := xh_K_cur k
  have k2 := k.1.2.1
  have q1 : (l ++ [f]).filter (xh_ag f T) = l.filter (xh_ag f T) ++ [f] := by
    rw [List.filter_append]
    congr 1
    simp [xh_ag_self]
  have q2 : ∀ j, (l ++ [f]).filter (xh_df f j) = l.filter (xh_df f j) := by
    intro j
    rw [List.filter_append]
    simp [xh_df_self]
  have hC := hL.1
  rw [q1] at hC
  have hn := List.length_filter_le (xh_ag f T) l
  generalize hq : l.filter (xh_ag f T) = q at *
  have ec : (nI cur).toNatClampNeg = cur := nI_clamp (by omega)
  have e4 : a4 cur = nI (q.length + 1) := by
    rw [hC.2.1, List.length_append]
    rfl
  have ei : nI cur * 5 + nI q.length = nI (cur * 5 + q.length) := xh_idx
  have ei2 : (nI (cur * 5 + q.length)).toNatClampNeg = cur * 5 + q.length := nI_clamp (by omega)
  have e5 : a5 (cur * 5 + q.length) = nI f := hC.2.2 q.length f List.getElem?_concat_length
  have eu : upd a4 cur (nI q.length) (nI cur).toNatClampNeg = nI q.length := by rw [ec, pk_us]
  have ej : nI cur * 5 + upd a4 cur (nI q.length) (nI cur).toNatClampNeg = nI (cur * 5 + q.length) := by rw [eu, ei]
  unfold wpX_delete
  refine ⟨pk_in cur 65 (by omega), pk_in cur 65 (by omega), nm_r (e' := upd a4 cur (nI q.length)) ?_ ⟨pk_in cur 65 (by omega), pk_in (cur * 5 + q.length) 325 (by omega) ej, pk_in (cur * 5 + q.length) 325 (by omega) ei, nm_r (e' := upd a5 (cur * 5 + q.length) (nI f)) ?_ ⟨pk_in cur 65 (by omega), pk_in (cur * 5 + q.length) 325 (by omega) ej, pk_in (cur * 5 + q.length) 325 (by omega) ei, nm_e (nm_e ⟨T + 2, ?_⟩)⟩⟩⟩
  · rw [ec, e4, nI_pred, xh_i8 q.length (by omega)]
  · rw [ej, ei, ei2, e5, xh_ns hf]
  · refine xh_d77 (l := l) hf hl hk H T 0 q _ _ _ _ _ _ (by omega) k ⟨by omega, pk_us, fun i p e => ?_⟩ (by rw [hq]) (fun j hj => ?_)
    · have hi := xh_lt e
      rw [pk_un (by omega)]
      exact hC.2.2 i p (by rw [List.getElem?_append_left hi]; exact e)
    · have h := hL.2 j hj
      rw [q2] at h
      exact xh_C_fr h (k.2.2.2.2.1 j hj) (by omega)
end
section
theorem xh_has_no {post : Int32 → Prop} {G k b : Nat} {fb fk : Int32} {a1 a2 a3 a4 a5 a6 : Nat → Int32} {l : List Nat} (hG : G < 7) (hb : b < 65) (hk : k < 256) (e : a1 (k % 2 ^ G) = nI b) (hl : ∀ x, x ∈ l → x < 256) (h : xh_C a4 a5 b l) (hn : k ∉ l) (H : post 0) :
    wpX_has post (nI G, fb, fk, a1, a2, a3, a4, a5, a6) (nI k) := by
  unfold wpX_has
  exact xh_isKey hk (br_f (by decide) (xh_bkt hG hk e (xh_find_no hb hk hl h hn (br_t (by decide) H))))
theorem xh_has_yes {post : Int32 → Prop} {G k b p : Nat} {fb fk : Int32} {a1 a2 a3 a4 a5 a6 : Nat → Int32} {l : List Nat} (hG : G < 7) (hb : b < 65) (hk : k < 256) (e : a1 (k % 2 ^ G) = nI b) (hl : ∀ x, x ∈ l → x < 256) (h : xh_C a4 a5 b l) (hp : l[p]? = some k) (hf : ∀ i, i < p → l[i]? ≠ some k) (H : post 1) :
    wpX_has post (nI G, fb, fk, a1, a2, a3, a4, a5, a6) (nI k) := by
  have h1 := xh_lt hp
  have h2 := h.1
  unfold wpX_has
  exact xh_isKey hk (br_f (by decide) (xh_bkt hG hk e (xh_find_yes hb hk hl h hp hf (br_f (nI_pos (by omega)) H))))
theorem xh_put_small {post : Int32 → St2 → Prop} {f k b K : Nat} {sd : Nat → Nat} {fb fk v : Int32} {a1 a2 a3 a4 a5 a6 : Nat → Int32} {m : List Nat} (hk : k < 256) (hm : m.length < 4) (hl : ∀ x, x ∈ m → x < 256) (hn : k ∉ m) (hfk : fk < 40) (kk : xh_K f 0 0 b K sd a1 a2 a3) (h : xh_C a4 a5 b m)
    (H : ∀ a4' a5' a6', xh_C a4' a5' b (m ++ [k]) → post fb (nI 0, fb, fk + 1, a1, a2, a3, a4', a5', a6')) :
    wpX_put post (nI 0, fb, fk, a1, a2, a3, a4, a5, a6) (nI k) v := by
  have hb := xh_K_cur kk
  unfold wpX_put
  exact xh_isKey hk (br_f (by decide) (xh_bkt (by omega) hk (xh_K_own kk (xh_ag_0 f k)) (xh_find_no (by omega) hk hl h hn (br_t (by decide) (br_t hfk (xh_ins_small hk hm kk h H))))))
theorem xh_put_big {post : Int32 → St2 → Prop} {f b K T : Nat} {sd : Nat → Nat} {fk v : Int32} {a1 a2 a3 a4 a5 a6 : Nat → Int32} {m : List Nat} (hf : f < 256) (hm : m.length = 4) (hk : ∀ k, k ∈ m → k < 256) (hn : f ∉ m) (hfk : fk < 40) (kk : xh_K f 0 0 b K sd a1 a2 a3) (h : xh_C a4 a5 b m)
    (hT : T ≤ 6) (hK : K + T < 63) (hfull : ∀ t, t < T → ∀ k, k ∈ m → xh_ag f t k = true) (hlast : (m.filter (xh_ag f T)).length ≤ 3)
    (H : ∀ cur sd a1 a2 a3 a4 a5 a6, xh_K f T T cur (K + T) sd a1 a2 a3 → xh_L f T cur sd a4 a5 (m ++ [f]) → post (nI (T + 1)) (nI T, nI (T + 1), fk + 1, a1, a2, a3, a4, a5, a6)) :
    wpX_put post (nI 0, nI 1, fk, a1, a2, a3, a4, a5, a6) (nI f) v := by
  have hb := xh_K_cur kk
  unfold wpX_put
  exact xh_isKey hf (br_f (by decide) (xh_bkt (by omega) hf (xh_K_own kk (xh_ag_0 f f)) (xh_find_no (by omega) hf hk h hn (br_t (by decide) (br_t hfk (xh_ins_big hf hm hk kk h hT hK hfull hlast H))))))
theorem xh_put_old {post : Int32 → St2 → Prop} {f k b K p : Nat} {sd : Nat → Nat} {fb fk v : Int32} {a1 a2 a3 a4 a5 a6 : Nat → Int32} {m : List Nat} (hk : k < 256) (hl : ∀ x, x ∈ m → x < 256) (hp : m[p]? = some k) (hf : ∀ i, i < p → m[i]? ≠ some k) (kk : xh_K f 0 0 b K sd a1 a2 a3) (h : xh_C a4 a5 b m)
    (H : ∀ a6', post fb (nI 0, fb, fk, a1, a2, a3, a4, a5, a6')) :
    wpX_put post (nI 0, fb, fk, a1, a2, a3, a4, a5, a6) (nI k) v := by
  have hb := xh_K_cur kk
  have h1 := xh_lt hp
  have h2 := h.1
  unfold wpX_put
  exact xh_isKey hk (br_f (by decide) (xh_bkt (by omega) hk (xh_K_own kk (xh_ag_0 f k)) (xh_find_yes (by omega) hk hl h hp hf (br_f (nI_pos (by omega)) ⟨pk_in (b * 5 + p) 325 (by omega) xh_idx, nm_e (H _)⟩))))
theorem xh_remove {post : Int32 → St2 → Prop} {f T cur K : Nat} {sd : Nat → Nat} {fk : Int32} {a1 a2 a3 a4 a5 a6 : Nat → Int32} {l : List Nat} (hf : f < 256) (hl : l.length ≤ 4) (hk : ∀ k, k ∈ l → k < 256) (hn : f ∉ l) (k : xh_K f T T cur K sd a1 a2 a3) (hL : xh_L f T cur sd a4 a5 (l ++ [f]))
    (H : ∀ m a1 a2 a3 a4 a5 a6, xh_K f 0 0 cur K sd a1 a2 a3 → xh_C a4 a5 cur m → m.Perm l → post (nI 1) (nI 0, nI 1, fk - 1, a1, a2, a3, a4, a5, a6)) :
    wpX_remove post (nI T, nI (T + 1), fk, a1, a2, a3, a4, a5, a6) (nI f) := by
  have hc := xh_K_cur k
  have k2 := k.1.2.1
  have hC := hL.1
  have q1 : (l ++ [f]).filter (xh_ag f T) = l.filter (xh_ag f T) ++ [f] := by
    rw [List.filter_append]
    congr 1
    simp [xh_ag_self]
  rw [q1] at hC
  have hq : ∀ x, x ∈ l.filter (xh_ag f T) ++ [f] → x < 256 := by
    intro x hx
    rcases List.mem_append.mp hx with z | z
    · exact hk x (List.mem_filter.mp z).1
    · rw [List.mem_singleton.mp z]
      exact hf
  have hp : (l.filter (xh_ag f T) ++ [f])[(l.filter (xh_ag f T)).length]? = some f := List.getElem?_concat_length
  have hfst : ∀ i, i < (l.filter (xh_ag f T)).length → (l.filter (xh_ag f T) ++ [f])[i]? ≠ some f := by
    intro i hi z
    rw [List.getElem?_append_left hi] at z
    exact hn (List.mem_filter.mp (xh_mem z)).1
  have e := xh_K_own k (xh_ag_self f T)
  unfold wpX_remove
  exact xh_has_yes k2 (by omega) hf e hq hC hp hfst (br_f (by decide) (xh_bkt k2 hf e (xh_find_yes (by omega) hf hq hC hp hfst (xh_delete hf hl hk k hL H))))
theorem xh_growth_new {post : Int32 → St2 → Prop} {f b K T : Nat} {sd : Nat → Nat} {fk : Int32} {a1 a2 a3 a4 a5 a6 : Nat → Int32} {m : List Nat} (hf : f < 256) (hm : m.length = 4) (hk : ∀ k, k ∈ m → k < 256) (hn : f ∉ m) (kk : xh_K f 0 0 b K sd a1 a2 a3) (h : xh_C a4 a5 b m)
    (hT : T ≤ 6) (hK : K + T < 63) (hfull : ∀ t, t < T → ∀ k, k ∈ m → xh_ag f t k = true) (hlast : (m.filter (xh_ag f T)).length ≤ 3)
    (H : ∀ cur sd m' a1 a2 a3 a4 a5 a6, xh_K f 0 0 cur (K + T) sd a1 a2 a3 → xh_C a4 a5 cur m' → m'.Perm m → post (nI T) (nI 0, nI 1, fk + 1 - 1, a1, a2, a3, a4, a5, a6)) :
    wpX_growth post (nI 0, nI 1, fk, a1, a2, a3, a4, a5, a6) (nI f) := by
  have hb := xh_K_cur kk
  unfold wpX_growth
  refine xh_isKey hf (br_f (by decide) (xh_has_no (by omega) (by omega) hf (xh_K_own kk (xh_ag_0 f f)) hk h hn (br_t rfl (xh_ins_big hf hm hk kk h hT hK hfull hlast (fun cur sd a1 a2 a3 a4 a5 a6 k' L' => xh_remove hf (by omega) hk hn k' L' (fun m' a1' a2' a3' a4' a5' a6' k2 h2 hp => ?_))))))
  have hh := H cur sd m' a1' a2' a3' a4' a5' a6' k2 h2 hp
  rw [← nI_pred T] at hh
  exact hh
theorem xh_growth_old {post : Int32 → St2 → Prop} {f b K p : Nat} {sd : Nat → Nat} {fb fk : Int32} {a1 a2 a3 a4 a5 a6 : Nat → Int32} {m : List Nat} (hf : f < 256) (hk : ∀ k, k ∈ m → k < 256) (hp : m[p]? = some f) (hfst : ∀ i, i < p → m[i]? ≠ some f) (kk : xh_K f 0 0 b K sd a1 a2 a3) (h : xh_C a4 a5 b m)
    (H : post 0 (nI 0, fb, fk, a1, a2, a3, a4, a5, a6)) :
    wpX_growth post (nI 0, fb, fk, a1, a2, a3, a4, a5, a6) (nI f) := by
  have hb := xh_K_cur kk
  unfold wpX_growth
  exact xh_isKey hf (br_f (by decide) (xh_has_yes (by omega) (by omega) hf (xh_K_own kk (xh_ag_0 f f)) hk h hp hfst (br_f (by decide) H)))
theorem xh_load {post : Int32 → Prop} {G k b : Nat} {fb fk : Int32} {a1 a2 a3 a4 a5 a6 : Nat → Int32} {l : List Nat} (hG : G < 7) (hb : b < 65) (hk : k < 256) (e : a1 (k % 2 ^ G) = nI b) (h : xh_C a4 a5 b l) (H : post (nI l.length)) :
    wpX_load post (nI G, fb, fk, a1, a2, a3, a4, a5, a6) (nI k) := by
  unfold wpX_load
  refine xh_isKey hk (br_f (by decide) (xh_bkt hG hk e ⟨pk_in b 65 hb, ?_⟩))
  rw [nI_clamp (by omega), h.2.1]
  exact H
end
section
/-! the law's low bit -/
def xh_lw (v : Int32) : Nat := if v < 16 then (if v < 4 then (if v = 1 then 0 else 1) else (if v = 4 then 2 else 3)) else (if v < 64 then (if v = 16 then 4 else 5) else (if v = 64 then 6 else 7))
theorem xh_lowWp {post : Int32 → Prop} {x : Int32} (H : post (nI (xh_lw (x &&& (-x))))) : wpL_low post () x := by
  unfold wpL_low
  refine nm_e ?_
  unfold xh_lw at H
  refine br_c (fun h1 => br_c (fun h2 => br_c (fun h3 => ?_) (fun h3 => ?_)) (fun h2 => br_c (fun h3 => ?_) (fun h3 => ?_))) (fun h1 => br_c (fun h2 => br_c (fun h3 => ?_) (fun h3 => ?_)) (fun h2 => br_c (fun h3 => ?_) (fun h3 => ?_)))
  · rw [if_pos h1, if_pos h2, if_pos h3] at H
    exact H
  · rw [if_pos h1, if_pos h2, if_neg h3] at H
    exact H
  · rw [if_pos h1, if_neg h2, if_pos h3] at H
    exact H
  · rw [if_pos h1, if_neg h2, if_neg h3] at H
    exact H
  · rw [if_neg h1, if_pos h2, if_pos h3] at H
    exact H
  · rw [if_neg h1, if_pos h2, if_neg h3] at H
    exact H
  · rw [if_neg h1, if_neg h2, if_pos h3] at H
    exact H
  · rw [if_neg h1, if_neg h2, if_neg h3] at H
    exact H
theorem xh_lwT : ∀ x, x < 256 → x ≠ 0 → x.testBit (xh_lw (nI x &&& (-nI x))) = true ∧ ∀ j, j < xh_lw (nI x &&& (-nI x)) → x.testBit j = false := by decide +kernel
/-- where the law's two keys are told apart -/
def xh_ap (f base : Nat) : Nat := xh_lw (nI (f ^^^ base) &&& (-nI (f ^^^ base)))
theorem xh_ap_df {f base : Nat} (hf : f < 256) (hb : base < 256) (hn : f ≠ base) : xh_df f (xh_ap f base) base = true := by
  have hx : f ^^^ base < 2 ^ 8 := Nat.xor_lt_two_pow (n := 8) hf hb
  have h0 : f ^^^ base ≠ 0 := by
    intro z
    apply hn
    apply Nat.eq_of_testBit_eq
    intro i
    have h := Nat.testBit_xor f base i
    rw [z, Nat.zero_testBit] at h
    revert h
    cases f.testBit i <;> cases base.testBit i <;> decide
  obtain ⟨h1, h2⟩ := xh_lwT _ hx h0
  refine xh_df_iff.mpr ⟨xh_ag_iff.mpr (fun k hk => ?_), ?_⟩
  · have h := h2 k hk
    rw [Nat.testBit_xor] at h
    revert h
    cases f.testBit k <;> cases base.testBit k <;> decide
  · have h : (f ^^^ base).testBit (xh_ap f base) = true := h1
    rw [Nat.testBit_xor] at h
    revert h
    cases f.testBit (xh_ap f base) <;> cases base.testBit (xh_ap f base) <;> decide
/-! the four keys -/
def xh_l4 (base d : Nat) : List Nat := [base, base + 2 ^ d, base + 2 * 2 ^ d, base + 3 * 2 ^ d]
theorem xh_l4b : ∀ d, d < 6 → ∀ base, base < 2 ^ d → ∀ k, k ∈ xh_l4 base d → (k < 256 ∧ ∀ j, j < d → k.testBit j = base.testBit j) := by decide +kernel
theorem xh_l4d : ∀ d, d < 6 → ∀ base, base < 2 ^ d → base.testBit d = false ∧ ∀ b : Bool, ((xh_l4 base d).filter (fun k => k.testBit d == b)).length = 2 ∧ ((xh_l4 base d).filter (fun k => k.testBit d != b)).length = 2 := by decide +kernel
theorem xh_l4ag {d base f a t : Nat} (hd : d < 6) (hb : base < 2 ^ d) (ha : xh_df f a base = true) (h1 : t ≤ a) (h2 : t ≤ d) : ∀ k, k ∈ xh_l4 base d → xh_ag f t k = true := by
  intro k hk
  refine xh_ag_iff.mpr (fun i hi => ?_)
  rw [(xh_l4b d hd base hb k hk).2 i (by omega)]
  exact xh_ag_iff.mp (xh_df_iff.mp ha).1 i (by omega)
theorem xh_l4df {d base f a : Nat} (hd : d < 6) (hb : base < 2 ^ d) (ha : xh_df f a base = true) (h : a < d) : ∀ k, k ∈ xh_l4 base d → xh_df f a k = true := by
  intro k hk
  refine xh_df_iff.mpr ⟨xh_l4ag hd hb ha (Nat.le_refl a) (by omega) k hk, ?_⟩
  rw [(xh_l4b d hd base hb k hk).2 a h]
  exact (xh_df_iff.mp ha).2
def xh_T (d a : Nat) : Nat := if a < d then a + 1 else d + 1
theorem xh_T6 {d a : Nat} (hd : d < 6) : xh_T d a ≤ 6 := by
  unfold xh_T
  split <;> omega
theorem xh_Tfull {d base f a : Nat} (hd : d < 6) (hb : base < 2 ^ d) (ha : xh_df f a base = true) : ∀ t, t < xh_T d a → ∀ k, k ∈ xh_l4 base d → xh_ag f t k = true := by
  intro t ht
  have h : t ≤ a ∧ t ≤ d := by
    unfold xh_T at ht
    split at ht <;> omega
  exact xh_l4ag hd hb ha h.1 h.2
theorem xh_nA {d base f a : Nat} (hd : d < 6) (hb : base < 2 ^ d) (ha : xh_df f a base = true) (h : a < d) : (xh_l4 base d).filter (xh_ag f (a + 1)) = [] := by
  rw [List.filter_eq_nil_iff]
  intro k hk
  exact xh_df_ag (xh_l4df hd hb ha h k hk) (Nat.lt_succ_self a)
theorem xh_nA2 {d base f a : Nat} (hd : d < 6) (hb : base < 2 ^ d) (ha : xh_df f a base = true) (h : a < d) : (xh_l4 base d).filter (xh_df f a) = xh_l4 base d := List.filter_eq_self.mpr (xh_l4df hd hb ha h)
theorem xh_nB {d base f a : Nat} (hd : d < 6) (hb : base < 2 ^ d) (ha : xh_df f a base = true) (h : d ≤ a) : ((xh_l4 base d).filter (xh_ag f (d + 1))).length = 2 ∧ ((xh_l4 base d).filter (xh_df f d)).length = 2 := by
  rw [← xh_f1, ← xh_f2, List.filter_eq_self.mpr (xh_l4ag hd hb ha h (Nat.le_refl d))]
  exact (xh_l4d d hd base hb).2 _
theorem xh_Tlast {d base f a : Nat} (hd : d < 6) (hb : base < 2 ^ d) (ha : xh_df f a base = true) : ((xh_l4 base d).filter (xh_ag f (xh_T d a))).length ≤ 3 := by
  unfold xh_T
  split
  · rename_i h
    rw [xh_nA hd hb ha h]
    exact Nat.zero_le _
  · rename_i h
    rw [(xh_nB hd hb ha (by omega)).1]
    decide
/-! one bit of the law -/
theorem xh_pwand : ∀ d, d < 6 → ∀ f, f < 256 → nI f &&& nI (2 ^ d) = if f.testBit d = true then nI (2 ^ d) else 0 := by decide +kernel
theorem xh_stepEq {d f base : Nat} (hd : d < 6) (hf : f < 256) (hb : base < 256) : (nI f &&& nI (2 ^ d)) = (nI base &&& nI (2 ^ d)) ↔ f.testBit d = base.testBit d := by
  have h0 : ¬ nI (2 ^ d) = 0 := nI_ne0 (xh_pw0 d) (by have := xh_pw (G := d) (by omega); omega)
  rw [xh_pwand d hd f hf, xh_pwand d hd base hb]
  have h1 : ¬ 0 = nI (2 ^ d) := fun z => h0 z.symm
  cases f.testBit d <;> cases base.testBit d <;> simp [h0, h1]
end
section
theorem xh_lw8 (v : Int32) : xh_lw v < 8 := by
  unfold xh_lw
  repeat' split
  all_goals decide
/-- the law's last checks, a fifth key that is new -/
theorem xh_fin {d base f a T ld mc ms kc ks : Nat} (hd : d < 6) (hb : base < 256) (hf : f < 256) (ha : xh_ap f base = a) (hT : xh_T d a = T) (hld : ld = if a < d then 4 else if f.testBit d = base.testBit d then 3 else 2) :
    wL_lawOf_163 (fun r _ => r = 1) mc ms (nI d) (nI base) (nI (2 ^ d)) (nI f) 1 (nI T) (nI (T + 1)) (nI T) (nI ld) 0 kc ks := by
  have ha8 : a < 8 := by
    rw [← ha]
    exact xh_lw8 _
  unfold wL_lawOf_163
  rw [xh_xor]
  refine xh_lowWp ?_
  have e : xh_lw (nI (f ^^^ base) &&& (-nI (f ^^^ base))) = a := ha
  rw [e]
  refine br_t rfl (pk_le d a (fun z => ?_) (fun z => ?_))
  · have hT2 : T = d + 1 := by
      rw [← hT]
      unfold xh_T
      rw [if_neg (by omega)]
    unfold wL_lawOf_202
    refine br_t rfl (br_t rfl ?_)
    unfold wL_lawOf_223
    refine br_t (by rw [hT2, nI_1]) (br_t (by rw [hT2, nI_1, nI_1]) (br_t (by rw [hT2, nI_1]) (br_t rfl (pk_le d a (fun _ => ek_if (xh_stepEq hd hf hb) (fun w => ?_) (fun w => ?_)) (fun w => absurd w (by omega))))))
    · unfold wL_lawOf_282
      refine br_t ?_ rfl
      rw [hld, if_neg (by omega), if_pos w]
      rfl
    · unfold wL_lawOf_282
      refine br_t ?_ rfl
      rw [hld, if_neg (by omega), if_neg w]
      rfl
  · have hT2 : T = a + 1 := by
      rw [← hT]
      unfold xh_T
      rw [if_pos z]
    unfold wL_lawOf_202
    refine br_t rfl (br_t rfl ?_)
    unfold wL_lawOf_223
    refine br_t (by rw [hT2, nI_1]) (br_t (by rw [hT2, nI_1, nI_1]) (br_t (by rw [hT2, nI_1]) (br_t rfl (pk_le d a (fun w => absurd w (by omega)) (fun _ => ?_)))))
    unfold wL_lawOf_282
    refine br_t ?_ rfl
    rw [hld, if_pos z]
    rfl
/-- the law's last checks, a fifth key that is there -/
theorem xh_fin0 {mc ms kc ks : Nat} {x4 x5 x6 x7 : Int32} : wL_lawOf_158 (fun r _ => r = 1) mc ms x4 x5 x6 x7 1 0 1 (nI 0) (nI 4) kc ks := by
  unfold wL_lawOf_158
  unfold wL_lawOf_163
  refine xh_lowWp (br_f (by decide) ?_)
  unfold wL_lawOf_202
  refine br_t rfl (br_f (by decide) ?_)
  unfold wL_lawOf_223
  refine br_t rfl (br_t (by decide) (br_t rfl (br_f (by decide) ?_)))
  unfold wL_lawOf_282
  exact br_t rfl rfl
theorem xh_nd {b p : Nat} (hp : 0 < p) : b + p ∉ [b] ∧ b + 2 * p ∉ [b, b + p] ∧ b + 3 * p ∉ [b, b + p, b + 2 * p] := by
  simp only [List.mem_cons, List.not_mem_nil, or_false]
  omega
theorem xh_l256 {b p : Nat} (hp : b + 3 * p < 256) : (∀ x, x ∈ [b] → x < 256) ∧ (∀ x, x ∈ [b, b + p] → x < 256) ∧ (∀ x, x ∈ [b, b + p, b + 2 * p] → x < 256) := by
  refine ⟨fun x hx => ?_, fun x hx => ?_, fun x hx => ?_⟩
  · simp only [List.mem_cons, List.not_mem_nil, or_false] at hx
    omega
  · simp only [List.mem_cons, List.not_mem_nil, or_false] at hx
    omega
  · simp only [List.mem_cons, List.not_mem_nil, or_false] at hx
    omega
theorem xh_K0 (f : Nat) : xh_K f 0 0 0 1 (fun _ => 0) (fun _ => 0) (upd (fun _ => 0) 0 1) (fun _ => 0) := by
  refine ⟨⟨by omega, by omega, by omega, by omega, fun j hj => absurd hj (by omega)⟩, ⟨fun i _ _ => rfl, fun i j _ hj => absurd hj (by omega)⟩, ⟨rfl, fun j hj => absurd hj (by omega)⟩, ⟨pk_us, fun j hj => absurd hj (by omega), fun x hx => ?_⟩, fun j hj => absurd hj (by omega), fun i j hi => absurd hi (by omega)⟩
  by_cases e : x = 0
  · exact .inl e
  · rw [pk_un e] at hx
    exact absurd rfl hx
theorem xh_cell {post : Int32 → Prop} {L i : Nat} {xs : Nat → Int32} (hL : L ≤ 3) (hi : i < 3) (H : ∀ r, post r) : wpL_cellAt post L xs () (nI i) :=
  pk_le L i (fun _ => H 0) (fun z => ⟨pk_in i L z, H _⟩)
end
section
theorem xh_lawOf (p0 p1 p2 : Int32) : wpL_lawOf (fun r _ => r = 1) 298 4768 () p0 p1 p2 := by
  obtain ⟨w, hw, ew⟩ : ∃ w, w < 2 ^ 16 ∧ p1 &&& 65535 = nI w := pk_andE p1 16 (by decide)
  have hd : w % 6 < 6 := Nat.mod_lt _ (by decide)
  have e4 : (p1 &&& 65535) - (p1 &&& 65535) / 6 * 6 = nI (w % 6) := by
    rw [ew]
    exact pk_rem (d := 6) (by omega) (by decide) (by decide)
  generalize w % 6 = d at hd e4
  have hp32 : 2 ^ d ≤ 32 := Nat.pow_le_pow_right (n := 2) (j := 5) (by decide) (by omega)
  have hp0 := xh_pw0 d
  obtain ⟨base, hb, e5⟩ : ∃ base, base < 2 ^ d ∧ p0 &&& (((1 : Int32) <<< (nI d &&& 31)) - 1) = nI base := by
    rw [xh_low (by omega)]
    exact pk_andE p0 d (pk_tn (by omega))
  obtain ⟨f, hf, e7⟩ : ∃ f, f < 2 ^ 8 ∧ p2 &&& 255 = nI f := pk_andE p2 8 (by decide)
  have hf : f < 256 := hf
  have e6 := xh_one d (by omega)
  have E1 : nI base + nI (2 ^ d) = nI (base + 2 ^ d) := nI_add _ _
  have E2 : nI base + 2 * nI (2 ^ d) = nI (base + 2 * 2 ^ d) := by rw [show (2 : Int32) = nI 2 from rfl, pk_mul, nI_add]
  have E3 : nI base + 3 * nI (2 ^ d) = nI (base + 3 * 2 ^ d) := by rw [show (3 : Int32) = nI 3 from rfl, pk_mul, nI_add]
  have hb256 : base < 256 := by omega
  have kk := xh_K0 f
  have nd := xh_nd (b := base) hp0
  have l256 := xh_l256 (b := base) (p := 2 ^ d) (by omega)
  have hk : ∀ k, k ∈ xh_l4 base d → k < 256 := fun k h => (xh_l4b d hd base hb k h).1
  unfold wpL_lawOf
  refine ⟨by decide, by decide, 6, 909, by decide, by decide, ?_⟩
  unfold wpX_init
  refine ⟨by decide, by decide, by decide, by decide, by decide, by decide, by decide, by decide, by decide, by decide, by decide, by decide, nm_e ⟨by decide, nm_r e4 (nm_r e5 (nm_r e6 (nm_r e7 ?_)))⟩⟩
  rw [E1, E2, E3]
  refine xh_put_small (f := f) (m := []) (by omega) (by decide) (fun x hx => absurd hx List.not_mem_nil) List.not_mem_nil (by decide) kk (xh_C_nil rfl) (fun a4 a5 a6 h1 => ?_)
  refine xh_put_small (f := f) (m := [base]) (by omega) (show 1 < 4 by decide) l256.1 nd.1 (by decide) kk h1 (fun a4 a5 a6 h2 => ?_)
  refine xh_put_small (f := f) (m := [base, base + 2 ^ d]) (by omega) (show 2 < 4 by decide) l256.2.1 nd.2.1 (by decide) kk h2 (fun a4 a5 a6 h3 => ?_)
  refine xh_put_small (f := f) (m := [base, base + 2 ^ d, base + 2 * 2 ^ d]) (by omega) (show 3 < 4 by decide) l256.2.2 nd.2.2 (by decide) kk h3 (fun a4 a5 a6 h4 => ?_)
  have h5 : xh_C a4 a5 0 (xh_l4 base d) := h4
  by_cases hn : f ∈ xh_l4 base d
  · obtain ⟨p, hp, hfst⟩ := pk_least (fun p => (xh_l4 base d)[p]? = some f) (List.getElem?_of_mem hn)
    refine xh_growth_old hf hk hp hfst kk h5 (xh_put_old hf hk hp hfst kk h5 (fun a6' => xh_deepK kk (xh_load (l := xh_l4 base d) (by omega) (by omega) hb256 (xh_K_own kk (xh_ag_0 f base)) h5 ?_)))
    refine pk_eq f base (fun _ => xh_fin0) (fun z1 => pk_eq f (base + 2 ^ d) (fun _ => xh_fin0) (fun z2 => pk_eq f (base + 2 * 2 ^ d) (fun _ => xh_fin0) (fun z3 => pk_eq f (base + 3 * 2 ^ d) (fun _ => xh_fin0) (fun z4 => ?_))))
    exfalso
    unfold xh_l4 at hn
    simp only [List.mem_cons, List.not_mem_nil, or_false] at hn
    omega
  · have hns : f ≠ base ∧ f ≠ base + 2 ^ d ∧ f ≠ base + 2 * 2 ^ d ∧ f ≠ base + 3 * 2 ^ d := by
      have hn2 := hn
      unfold xh_l4 at hn2
      simp only [List.mem_cons, List.not_mem_nil, or_false] at hn2
      omega
    have ha := xh_ap_df hf hb256 hns.1
    obtain ⟨a, ea⟩ : ∃ a, xh_ap f base = a := ⟨_, rfl⟩
    rw [ea] at ha
    have hT6 := xh_T6 (a := a) hd
    have hfull := xh_Tfull hd hb ha
    have hlast := xh_Tlast hd hb ha
    obtain ⟨T, eT⟩ : ∃ T, xh_T d a = T := ⟨_, rfl⟩
    rw [eT] at hT6 hfull hlast
    refine xh_growth_new (T := T) hf rfl hk hn kk h5 hT6 (by omega) hfull hlast (fun cur1 sd1 m a1 a2 a3 a4 a5 a6 k1 c1 hp1 => ?_)
    refine xh_put_big (T := T) hf hp1.length_eq (fun q hq => hk q (hp1.mem_iff.mp hq)) (fun z => hn (hp1.mem_iff.mp z)) (by decide) k1 c1 hT6 (by omega) (fun t ht q hq => hfull t ht q (hp1.mem_iff.mp hq)) (by rw [(hp1.filter _).length_eq]; exact hlast) (fun cur sd a1 a2 a3 a4 a5 a6 k2 L2 => ?_)
    refine xh_deepK k2 ?_
    have hG := k2.1.2.1
    have q1 : ((m ++ [f]).filter (xh_ag f T)).length = ((xh_l4 base d).filter (xh_ag f T)).length + 1 := by
      rw [List.filter_append, List.length_append, (hp1.filter _).length_eq]
      congr 1
      simp [xh_ag_self]
    have q2 : ∀ j, ((m ++ [f]).filter (xh_df f j)).length = ((xh_l4 base d).filter (xh_df f j)).length := by
      intro j
      rw [List.filter_append, List.length_append, (hp1.filter _).length_eq]
      simp [xh_df_self]
    by_cases had : a < d
    · have hT2 : T = a + 1 := by
        rw [← eT]
        unfold xh_T
        rw [if_pos had]
      have hs := xh_K_sd (j := a) k2 (by omega)
      refine xh_load hG (by omega) hb256 (xh_K_side k2 (by omega) ha) (L2.2 a (by omega)) ?_
      refine pk_eq f base (fun z => absurd z hns.1) (fun _ => pk_eq f (base + 2 ^ d) (fun z => absurd z hns.2.1) (fun _ => pk_eq f (base + 2 * 2 ^ d) (fun z => absurd z hns.2.2.1) (fun _ => pk_eq f (base + 3 * 2 ^ d) (fun z => absurd z hns.2.2.2) (fun _ => xh_fin hd hb256 hf ea eT ?_))))
      rw [q2, xh_nA2 hd hb ha had, if_pos had]
      rfl
    · have hT2 : T = d + 1 := by
        rw [← eT]
        unfold xh_T
        rw [if_neg had]
      have hda : d ≤ a := by omega
      have hag := xh_ag_mono hda (xh_df_iff.mp ha).1
      by_cases hbit : f.testBit d = base.testBit d
      · have hag2 : xh_ag f T base = true := by
          rw [hT2, xh_ag_succ, hag, hbit]
          simp
        have hs := xh_K_cur k2
        refine xh_load hG (by omega) hb256 (xh_K_own k2 hag2) L2.1 ?_
        refine pk_eq f base (fun z => absurd z hns.1) (fun _ => pk_eq f (base + 2 ^ d) (fun z => absurd z hns.2.1) (fun _ => pk_eq f (base + 2 * 2 ^ d) (fun z => absurd z hns.2.2.1) (fun _ => pk_eq f (base + 3 * 2 ^ d) (fun z => absurd z hns.2.2.2) (fun _ => xh_fin hd hb256 hf ea eT ?_))))
        rw [q1, hT2, (xh_nB hd hb ha hda).1, if_neg had, if_pos hbit]
      · have hdf : xh_df f d base = true := xh_df_iff.mpr ⟨hag, fun z => hbit z.symm⟩
        have hs := xh_K_sd (j := d) k2 (by omega)
        refine xh_load hG (by omega) hb256 (xh_K_side k2 (by omega) hdf) (L2.2 d (by omega)) ?_
        refine pk_eq f base (fun z => absurd z hns.1) (fun _ => pk_eq f (base + 2 ^ d) (fun z => absurd z hns.2.1) (fun _ => pk_eq f (base + 2 * 2 ^ d) (fun z => absurd z hns.2.2.1) (fun _ => pk_eq f (base + 3 * 2 ^ d) (fun z => absurd z hns.2.2.2) (fun _ => xh_fin hd hb256 hf ea eT ?_))))
        rw [q2, (xh_nB hd hb ha hda).2, if_neg had, if_neg hbit]
theorem i_vc (xs : Nat → Int32) (L : Nat) (hL : L ≤ 3) : wpL_law (fun r => r = 1) L xs := by
  unfold wpL_law
  exact xh_cell (i := 0) hL (by decide) (fun r1 => xh_cell (i := 1) hL (by decide) (fun r2 => xh_cell (i := 2) hL (by decide) (fun r3 => ⟨298, 4768, by decide, by decide, xh_lawOf r1 r2 r3⟩)))
end
