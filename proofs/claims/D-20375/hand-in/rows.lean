section
theorem sv_length {post : Int32 → Prop} {h z : Int32} {a : Nat → Int32} {n : Nat} (hp : post (nI n)) : wpJ0_length_8abf5_6a20e post (0, h, z, a, n) :=
  ⟨by decide, Eq.mpr (congrArg post (sb_shr0 (Int32.ofNat n))) hp⟩
theorem sb_copyOf {post : StJefc9b → Prop} {mc ms : Nat} {a : Nat → Int32} {m q : Nat} (h : m < q) (hq : q ≤ 65536) (hf : sb_Fit a) (hmc : 1 ≤ mc) (hms : q ≤ ms)
    (hp : post (a, m, va_cpy a (fun _ => 0) 0 0 m, q)) : wpJ7_copyOf_9075b_9260e post mc ms (a, m) (nI q) := by
  have ei : (if nI q < Int32.ofNat m then nI q else Int32.ofNat m) = nI m := if_neg (nI_nlt (by omega) (by omega))
  have ec : (nI m).toNatClampNeg = m := nI_clamp (by omega)
  refine br_f (fun z => by have := (nI_eq (by omega) (by omega)).mp (show nI q = nI m from z); omega) ⟨nI_pos (by omega), nm_r (nI_clamp (by omega)) ⟨by omega, hmc, by omega, ?_⟩⟩
  rw [ei, ec, sb_cl0]
  exact ⟨by decide, by decide, nI_pos (by omega), by omega, by omega, fun i _ => hf _, nm_e hp⟩
/-- AbstractStringBuilder.ensureCapacityInternal, of Latin-1 bytes -/
theorem sb_ensure {post : StJ4ec0e → Prop} {mc ms : Nat} {ml z : Int32} {a : Nat → Int32} {m q : Nat} (hm : m ≤ 65536) (hq : q < 2 ^ 28) (hf : sb_Fit a) (hr : sb_Room q m mc ms)
    (hp : ∀ a', sb_Fit a' → (∀ j, j < m → a' j = a j) → post (0, ml, z, a', sb_cap q m)) : wpJ5_ensureCapacityInternal_d00df_b0715 post mc ms (0, ml, z, a, m) (nI q) := by
  have e1 : (nI q - Int32.ofNat m).toInt = (q : Int) - m := pk_sub_toInt (by omega) (by omega)
  refine nm_r (sb_shr0 (Int32.ofNat m)) ?_
  by_cases h : q ≤ m
  · refine br_t (by rw [Int32.le_iff_toInt_le, e1, Int32.toInt_zero]; omega) ?_
    have h9 := hp a hf (fun _ _ => rfl)
    rw [sb_cap, if_pos h] at h9
    exact h9
  · have hr' : 1 ≤ mc ∧ sb_cap q m ≤ ms ∧ sb_cap q m ≤ 65536 := hr.resolve_left h
    have hc : sb_cap q m = m + (if q - m < m + 2 then m + 2 else q - m) := by
      unfold sb_cap
      rw [if_neg h]
      split <;> split <;> omega
    have hg := sb_cap_ge q m
    refine br_f (fun hc => h (by rw [Int32.le_iff_toInt_le, e1, Int32.toInt_zero] at hc; omega)) ?_
    have e2 : Int32.ofNat m + ((2 : Int32) <<< ((0 : Int32) &&& 31)) = nI (m + 2) := by
      rw [sb_shl0]
      exact nI_add m 2
    have e3 : Int32.ofNat m + (if nI (q - m) < nI (m + 2) then nI (m + 2) else nI (q - m)) = nI (sb_cap q m) := by
      rw [hc]
      by_cases h2 : q - m < m + 2
      · rw [if_pos h2, if_pos (nI_lt h2 (by omega))]
        exact nI_add m (m + 2)
      · rw [if_neg h2, if_neg (nI_nlt (by omega) (by omega))]
        exact nI_add m (q - m)
    refine nm_e (nm_r (sb_shl0 (nI q)) (nm_r (show nI q - nI m = nI (q - m) from pk_sub (by omega)) ?_))
    rw [e2]
    refine nm_r e3 (br_f (nI_nle (by omega) (by omega)) (br_f (show ¬ nI 2147483639 < nI (sb_cap q m) from nI_nlt (by omega) (by decide)) ?_))
    refine br_f (fun z9 => by have := (nI_eq (by omega) (by decide)).mp (show nI (sb_cap q m) = nI 2147483647 from z9); omega) ?_
    rw [sb_shr0]
    refine ⟨mc, ms, by omega, by omega, ?_⟩
    rw [sb_shl0]
    exact sb_copyOf (by omega) hr'.2.2 hf hr'.1 hr'.2.1 (hp _ (sb_fitC hf sb_fit0) (fun j hj => sb_cpy0 hj))
/-- StringBuilder.append(char), a Latin-1 letter c -/
theorem sb_appendChar {post : StJ4ec0e → Prop} {mc ms : Nat} {ml : Int32} {t : Nat → Nat} {a : Nat → Int32} {n m c : Nat} (hnm : n ≤ m) (hm : m ≤ 65536) (hL : sb_Lat t n a) (hf : sb_Fit a) (hc : c < 256) (hr : sb_Room (n + 1) m mc ms)
    (hp : ∀ a', sb_Lat (sb_cat t n (fun _ => c)) (n + 1) a' → sb_Fit a' → post (0, ml, nI (n + 1), a', sb_cap (n + 1) m)) : wpJ4_append_cf468_b0715 post mc ms (0, ml, nI n, a, m) (nI c) := by
  have hg := sb_cap_ge (n + 1) m
  have hl := sb_cap_le hm hr
  refine ⟨mc, ms, by omega, by omega, mc, ms, by omega, by omega, ?_⟩
  rw [nI_1]
  refine sb_ensure hm (by omega) hf hr (fun a' hf' hk => ?_)
  refine br_t rfl (br_f (by decide) ?_)
  refine br_f (show ¬ nI 255 < nI c from nI_nlt (by omega) (by decide)) (br_f (by decide) ?_)
  refine nm_r (nI_1 n) ⟨vp_in_nI (by omega) (by omega), nm_r (e' := upd a' n (sb_b c)) (by rw [nI_clamp (by omega), pk_vb]; rfl) ?_⟩
  refine hp _ (sb_latPut hL (fun j hj => ?_) (fun i hi => ?_)) (sb_fitU hf' (sb_fitB c))
  · rw [pk_un (by omega)]
    exact hk j (by omega)
  · obtain rfl : i = 0 := by omega
    exact ⟨hc, pk_us⟩
/-- StringBuilder.append(String), a Latin-1 text s of w letters -/
theorem sb_appendStr {post : StJ9c5ae → Prop} {mc ms : Nat} {ml h2 z2 : Int32} {t s : Nat → Nat} {a b : Nat → Int32} {n m w : Nat} (hnm : n ≤ m) (hm : m ≤ 65536) (hL : sb_Lat t n a) (hf : sb_Fit a) (hw : w ≤ 65536) (hb : sb_Lat s w b) (hfb : sb_Fit b) (hr : sb_Room (n + w) m mc ms)
    (hp : ∀ a', sb_Lat (sb_cat t n s) (n + w) a' → sb_Fit a' → post (0, ml, nI (n + w), a', sb_cap (n + w) m, 0, h2, z2, b, w)) : wpJ4_append_15ec4_b217c post mc ms (0, ml, nI n, a, m, 0, h2, z2, b, w) := by
  have hg := sb_cap_ge (n + w) m
  have hl := sb_cap_le hm hr
  refine ⟨mc, ms, by omega, by omega, ?_⟩
  rw [wpJ5_append_cf1ce_b217c]
  refine sv_length ⟨mc, ms, by omega, by omega, ?_⟩
  rw [nI_add]
  refine sb_ensure hm (by omega) hf hr (fun a' hf' hk => ?_)
  refine ⟨0, 0, by omega, by omega, 0, 0, by omega, by omega, by decide, br_t rfl ⟨by decide, br_t rfl ?_⟩⟩
  rw [sb_shl0, show (Int32.ofNat w).toNatClampNeg = w from nI_clamp (by omega), nI_clamp (n := n) (by omega), sb_cl0]
  refine ⟨by decide, nI_pos (by omega), nI_pos (by omega), by omega, by omega, fun i _ => hfb _, nm_e (nm_r (nI_add n w) ?_)⟩
  refine hp _ (sb_latPut hL (fun j hj => ?_) (fun i hi => ?_)) (sb_fitC hfb hf')
  · rw [pk_cpy_out (by omega)]
    exact hk j (by omega)
  · rw [pk_cpy_in (by omega) (by omega), show 0 + (n + i - n) = i by omega]
    exact hb i hi
theorem sb_copyRange {post : StJefc9b → Prop} {mc ms : Nat} {a : Nat → Int32} {n m : Nat} (hnm : n ≤ m) (hm : m ≤ 65536) (hf : sb_Fit a) (hmc : 1 ≤ mc) (hms : n ≤ ms)
    (hp : ∀ a', sb_Fit a' → (∀ j, j < n → a' j = a j) → post (a, m, a', n)) : wpJ7_copyOfRange_39247_f5dda post mc ms (a, m) 0 (nI n) := by
  refine br_t rfl (pk_eq n m (fun e => ?_) (fun e => ?_))
  · subst e
    exact ⟨fun i _ => hf i, hmc, by omega, hp a hf (fun _ _ => rfl)⟩
  · have ei : (if nI n < (Int32.ofNat m - 0) then nI n else (Int32.ofNat m - 0)) = nI n := by
      rw [show Int32.ofNat m - 0 = nI m from pk_sub (a := m) (b := 0) (by omega)]
      exact if_pos (nI_lt (by omega) (by omega))
    refine ⟨mc, ms, by omega, by omega, br_t (nI_pos' (by omega)) (nm_r (e' := nI n) (pk_sub (a := n) (b := 0) (by omega)) ⟨nI_pos (by omega), nm_r (nI_clamp (by omega)) ⟨by omega, hmc, by omega, ?_⟩⟩)⟩
    rw [ei, nI_clamp (n := n) (by omega), sb_cl0]
    exact ⟨by decide, by decide, nI_pos (by omega), by omega, by omega, fun i _ => hf _, nm_e (hp _ (sb_fitC hf sb_fit0) (fun j hj => sb_cpy0 hj))⟩
/-- StringBuilder.toString -/
theorem sb_toString {post : StJ9c5ae → Prop} {mc ms : Nat} {ml : Int32} {t : Nat → Nat} {a : Nat → Int32} {n m : Nat} (hnm : n ≤ m) (hm : m ≤ 65536) (hL : sb_Lat t n a) (hf : sb_Fit a) (hmc : 2 ≤ mc) (hms : n + 4 ≤ ms)
    (hp : ∀ a', sb_Lat t n a' → sb_Fit a' → post (0, ml, nI n, a, m, 0, 0, 0, a', n)) : wpJ4_toString_0e30d_76c3d post mc ms (0, ml, nI n, a, m) := by
  refine ⟨by omega, by omega, mc - 1, ms - 4, by omega, by omega, mc - 1, ms - 4, by omega, by omega, br_t rfl (br_f (by decide) ⟨mc - 1, ms - 4, by omega, by omega, ?_⟩)⟩
  exact sb_copyRange hnm hm hf (by omega) (by omega) (fun a' hf' hk => hp a' (sb_latKeep hL hk) hf')
theorem sv_check {post : Unit → Prop} {i n : Nat} (hi : i < n) (hn : n < 2 ^ 31) (hp : post ()) : wpJ0_checkIndex_df160_48e5c post () (nI i) (nI n) :=
  ⟨br_f (nI_pos (by omega)) (br_t (nI_lt hi hn) hp), br_f (nI_pos (by omega)) (br_t (nI_lt hi hn) hp)⟩
/-- String.charAt of a Latin-1 text -/
theorem sv_charAt {post : Int32 → Prop} {h z : Int32} {t : Nat → Nat} {a : Nat → Int32} {n i : Nat} (hn : n ≤ 65536) (hL : sb_Lat t n a) (hi : i < n) (hp : post (nI (t i))) : wpJ0_charAt_5068e_f8cf6 post (0, h, z, a, n) (nI i) := by
  obtain ⟨h1, h2⟩ := hL i hi
  obtain ⟨b1, b2, -⟩ := sb_byte _ h1
  have hc := (pk_charN (q := t i) (by omega)).1
  refine br_t rfl (br_f (by decide) ?_)
  rw [wpJ1_charAt_3b067_49ada]
  refine sv_check hi (by omega) ⟨vp_in_nI hi (by omega), ?_⟩
  rw [nI_clamp (by omega), h2, b1, b2]
  exact ⟨hc, hc, hp⟩
theorem sv_compress {P : Int32 → StJbedf7 → Prop} {t : Nat → Nat} {b : Nat → Int32} {n : Nat} (hn : n ≤ 65536) (ht : ∀ j, j < n → t j < 256 ∧ b j = nI (t j)) (hP : ∀ a', sb_Lat t n a' → sb_Fit a' → P (nI n) (b, n, a', n)) :
    ∀ (d k : Nat) (a : Nat → Int32), k + d = n → sb_Lat t k a → sb_Fit a → wJ2_compress_fe38e_1fd7f_3 P (nI n) n n (d + 1) (nI k) (nI k) (nI k) b a := by
  intro d
  induction d with
  | zero =>
    intro k a hk hL hf
    rw [wJ2_compress_fe38e_1fd7f_3]
    refine br_t ((nI_leI (by omega) (by omega)).mpr (by omega)) (hP a ?_ hf)
    rw [← show k = n by omega]
    exact hL
  | succ d ih =>
    intro k a hk hL hf
    obtain ⟨b1, b2⟩ := ht k (by omega)
    obtain ⟨-, -, b3⟩ := sb_byte _ b1
    rw [wJ2_compress_fe38e_1fd7f_3]
    refine br_f (nI_ge (by omega) (by omega)) ⟨vp_in_nI (by omega) (by omega), nm_r (e' := nI (t k)) (by rw [nI_clamp (by omega), b2]) (br_t b3 ⟨vp_in_nI (by omega) (by omega), ?_⟩)⟩
    refine nm_r (e' := upd a k (sb_b (t k))) (by rw [nI_clamp (by omega), pk_vb]; rfl) (nm_r (nI_1 k) (nm_r (nI_1 k) (nm_r (nI_1 k) ?_)))
    refine ih (k + 1) _ (by omega) (fun j hj => ?_) (sb_fitU hf (sb_fitB _))
    by_cases e : j = k
    · subst e
      exact ⟨b1, pk_us⟩
    · rw [pk_un e]
      exact hL j (by omega)
/-- String.equals of two Strings with the same bytes -/
theorem sv_equals {post : Int32 → Prop} {h z h' z' : Int32} {a a' : Nat → Int32} {n : Nat} (hn : n ≤ 65536) (he : ∀ j, j < n → a j = a' j) (hp : post 1) : wpJ0_equals_9ea2d_d3b40 post (0, h, z, a, n, 0, h', z', a', n) := by
  have L : ∀ (P : Int32 → Prop), P 1 → ∀ (d k : Nat), k + d = n → wJ1_equals_b5fdf_9f0d2_9 P a n a' n (d + 1) (nI k) := by
    intro P h1 d
    induction d with
    | zero =>
      intro k hk
      rw [wJ1_equals_b5fdf_9f0d2_9]
      exact br_t ((nI_leI (by omega) (by omega)).mpr (by omega)) h1
    | succ d ih =>
      intro k hk
      rw [wJ1_equals_b5fdf_9f0d2_9]
      refine br_f (nI_ge (by omega) (by omega)) ⟨vp_in_nI (by omega) (by omega), vp_in_nI (by omega) (by omega), br_t ?_ (nm_r (nI_1 k) (ih (k + 1) (by omega)))⟩
      rw [nI_clamp (by omega)]
      exact he k (by omega)
  exact br_t rfl (br_t rfl ⟨n + 1, L _ (br_f (by decide) hp) n 0 (by omega)⟩)
end
section
/-- new String(char[]) of n Latin-1 letters, n not 0 -/
theorem lr_new {post : (StJ0f59a ⊕ StJ64b40) → Prop} {mc ms : Nat} {c h z : Int32} {t : Nat → Nat} {b : Nat → Int32} {n : Nat} (h0 : 0 < n) (hn : n ≤ 65536) (ht : ∀ j, j < n → t j < 256 ∧ b j = nI (t j)) (hmc : 1 ≤ mc) (hms : n ≤ ms)
    (hp : ∀ a', sb_Lat t n a' → sb_Fit a' → post (.inl (0, h, z, a', n, b, n))) : wpJ0_init_905df_fc072 post mc ms (c, h, z, b, n) := by
  refine ⟨mc, ms, by omega, by omega, br_f (nI_ne0 h0 (by omega)) ⟨mc, ms, by omega, by omega, nI_pos (by omega), nm_r (nI_clamp (by omega)) ⟨by omega, hmc, by omega, n + 1, ?_⟩⟩⟩
  refine sv_compress hn ht (fun a' hL hf => ?_) n 0 _ (by omega) (fun j hj => absurd hj (Nat.not_lt_zero j)) sb_fit0
  refine br_t rfl ⟨pk_nb _, ?_⟩
  have e1 : (((Int32.ofNat n - Int32.ofNat n).toUInt32 >>> ((31 : Int32).toUInt32 &&& Int32.toUInt32 31)).toInt32).toInt8.toInt32 = 0 := by
    rw [Int32.sub_self]
    decide
  rw [e1]
  exact ⟨by decide, by decide, hp a' hL hf⟩
/-- new String(char[]) of no letter: the constant's bytes -/
theorem lr_new0 {post : (StJ0f59a ⊕ StJ64b40) → Prop} {mc ms : Nat} {c h z : Int32} {b : Nat → Int32} (hp : post (.inr (0, h, z, b, 0))) : wpJ0_init_905df_fc072 post mc ms (c, h, z, b, 0) :=
  ⟨0, 0, by omega, by omega, br_t rfl hp⟩
/-- letter j of text(x, ..) -/
def lr_t (x : Int32) (j : Nat) : Nat := ((x.toUInt32 >>> ((3 * nI j).toUInt32 &&& Int32.toUInt32 31)).toInt32).toBitVec.toNat % 2 ^ 8
theorem lr_tlt (x : Int32) (j : Nat) : lr_t x j < 256 := Nat.mod_lt _ (by decide)
theorem lr_tv (x : Int32) (j : Nat) : ((((x.toUInt32 >>> ((3 * nI j).toUInt32 &&& Int32.toUInt32 31)).toInt32) &&& 255).toUInt32 % 65536).toInt32 = nI (lr_t x j) :=
  (sc_c2 _).trans (pk_and _ 8 (by decide))
theorem lr_put {T : Nat → Nat} {f : Nat → Int32} {p : Nat} {x : Int32} (hm : ∀ j, j < p → f j = nI (T j)) (e : x = nI (T p)) : ∀ j, j < p + 1 → upd f p x j = nI (T j) := by
  intro j hj
  by_cases h : j = p
  · subst h
    rw [pk_us]
    exact e
  · rw [pk_un h]
    exact hm j (by omega)
theorem lr_tloop {post : (St1 ⊕ St2) → Prop} {mc ms kc ks n : Nat} {x : Int32} (hn : n ≤ 7) (hk : kc + 2 ≤ mc) (hs : ks + 4 + n ≤ ms)
    (hp : n = 0 → post (.inr (0, 0, 0))) (hq : 0 < n → ∀ a', sb_Lat (lr_t x) n a' → sb_Fit a' → post (.inl (0, 0, 0, a', n))) :
    ∀ (d k : Nat) (b : Nat → Int32), k + d = n → (∀ j, j < k → b j = nI (lr_t x j)) → wL_text_6 post mc ms x (nI n) kc ks n (d + 1) (nI k) b := by
  intro d
  induction d with
  | zero =>
    intro k b hk1 hb
    obtain rfl : k = n := by omega
    rw [wL_text_6]
    refine br_t (nI_le (by omega) (by omega)) ⟨by omega, by omega, 1, k, by omega, by omega, ?_⟩
    by_cases h0 : k = 0
    · subst h0
      exact lr_new0 (hp rfl)
    · exact lr_new (t := lr_t x) (by omega) (by omega) (fun j hj => ⟨lr_tlt x j, hb j hj⟩) (by omega) (by omega) (fun a' hL hf => hq (by omega) a' hL hf)
  | succ d ih =>
    intro k b hk1 hb
    rw [wL_text_6]
    refine br_f (nI_ge (by omega) (by omega)) ⟨vp_in_nI (by omega) (by omega), nm_r (e' := upd b k (nI (lr_t x k))) (by rw [nI_clamp (by omega), lr_tv]) (nm_r (nI_1 k) ?_)⟩
    exact ih (k + 1) _ (by omega) (lr_put hb rfl)
/-- text(x, 0) -/
theorem lr_text0 {post : (St1 ⊕ St2) → Prop} {mc ms : Nat} {x y : Int32} (hy : y = nI 0) (hmc : 3 ≤ mc) (hms : 18 ≤ ms) (hp : post (.inr (0, 0, 0))) : wpL_text post mc ms () x y := by
  subst hy
  refine ⟨nI_pos (by omega), nm_r (nI_clamp (by omega)) ⟨by omega, by omega, by omega, 1, ?_⟩⟩
  exact lr_tloop (n := 0) (by omega) (by omega) (by omega) (fun _ => hp) (fun h => absurd h (by omega)) 0 0 _ rfl (fun j hj => absurd hj (Nat.not_lt_zero j))
/-- text(x, n), n not 0 -/
theorem lr_text1 {post : (St1 ⊕ St2) → Prop} {mc ms n : Nat} {x y : Int32} (hy : y = nI n) (h0 : 0 < n) (hn : n ≤ 7) (hmc : 3 ≤ mc) (hms : 18 ≤ ms) (hp : ∀ a', sb_Lat (lr_t x) n a' → sb_Fit a' → post (.inl (0, 0, 0, a', n))) : wpL_text post mc ms () x y := by
  subst hy
  refine ⟨nI_pos (by omega), nm_r (nI_clamp (by omega)) ⟨by omega, by omega, by omega, n + 1, ?_⟩⟩
  exact lr_tloop (n := n) (by omega) (by omega) (by omega) (fun h => absurd h (by omega)) (fun _ => hp) n 0 _ (by omega) (fun j hj => absurd hj (Nat.not_lt_zero j))
end
section
theorem lr_cat0 {t s : Nat → Nat} {n : Nat} {a : Nat → Int32} (h : sb_Lat (sb_cat t 0 s) (0 + n) a) : sb_Lat s n a := by
  intro j hj
  have h1 := h j (by omega)
  have e : sb_cat t 0 s j = s j := by
    show (if j < 0 then t j else s (j - 0)) = s j
    rw [if_neg (Nat.not_lt_zero j), Nat.sub_zero]
  rw [e] at h1
  exact h1
theorem lr_cap0 {q m : Nat} (h : q ≤ m) : sb_cap q m = m := by
  rw [sb_cap, if_pos h]
/-- new StringBuilder(String), a made Latin-1 String -/
theorem lr_sb {post : StJ9c5ae → Prop} {mc ms : Nat} {h z : Int32} {t : Nat → Nat} {b : Nat → Int32} {n : Nat} (hn : n ≤ 7) (hb : sb_Lat t n b) (hf : sb_Fit b) (hmc : 1 ≤ mc) (hms : n + 16 ≤ ms)
    (hp : ∀ a', sb_Lat t n a' → sb_Fit a' → post (0, 0, nI n, a', n + 16, 0, h, z, b, n)) : wpJ4_init_a7421_2125b post mc ms (0, 0, 0, 0, h, z, b, n) := by
  have e : nI n + 16 = nI (n + 16) := nI_add n 16
  refine ⟨mc, ms, by omega, by omega, ?_⟩
  rw [wpJ5_init_a7421_2125b]
  refine sv_length (br_f (show ¬ nI 2147483631 ≤ nI n from nI_ge (by omega) (by decide)) ?_)
  rw [e]
  refine ⟨by decide, by decide, by decide, br_t rfl ⟨nI_pos (by omega), nm_r (e' := n + 16) (nI_clamp (by omega)) ⟨by omega, by omega, by omega, 0, 0, by omega, by omega, 0, 0, by omega, by omega, ?_⟩⟩⟩
  refine sb_appendStr (n := 0) (t := fun _ => 0) (by omega) (by omega) (fun j hj => absurd hj (Nat.not_lt_zero j)) sb_fit0 (by omega) hb hf (Or.inl (by omega)) (fun a' hL' hf' => ?_)
  have h9 := hp a' (lr_cat0 hL') hf'
  rw [lr_cap0 (show 0 + n ≤ n + 16 by omega), Nat.zero_add n]
  exact h9
/-- Lazy.text() for the first time, over a made String -/
theorem lr_x2 {post : St6 → Prop} {mc ms : Nat} {h z : Int32} {t : Nat → Nat} {b : Nat → Int32} {n : Nat} (hn : n ≤ 7) (hb : sb_Lat t n b) (hf : sb_Fit b) (hmc : 2 ≤ mc) (hms : n + 20 ≤ ms)
    (hp : ∀ a', sb_Lat t n a' → sb_Fit a' → post (1, 0, h, z, b, n, 0, 0, nI n, a', n + 16)) : wpX2_text post mc ms (0, 0, h, z, b, n) :=
  nm_r (e' := 1) (by decide) ⟨by omega, by omega, mc - 1, ms - 4, by omega, by omega, lr_sb hn hb hf (by omega) (by omega) hp⟩
/-- length() of the constant "" -/
theorem lr_lenC {post : Int32 → Prop} {h z : Int32} (hp : post 0) : wpJ0_length_8abf5_0516f post (0, h, z) :=
  ⟨by decide, Eq.mpr (congrArg post (show Int32.ofNat (lenJS.getD 0 0) >>> ((0 : Int32) &&& 31) = 0 by decide)) hp⟩
/-- StringBuilder.append of the constant "" -/
theorem lr_appC {post : StJe4173 → Prop} {mc ms : Nat} {ml h2 z2 : Int32} {t : Nat → Nat} {a : Nat → Int32} {n m : Nat} (hnm : n ≤ m) (hm : m ≤ 65536) (hL : sb_Lat t n a) (hf : sb_Fit a)
    (hp : ∀ a', sb_Lat t n a' → sb_Fit a' → post (0, ml, nI n, a', m, 0, h2, z2)) : wpJ4_append_15ec4_a081c post mc ms (0, ml, nI n, a, m, 0, h2, z2) := by
  refine ⟨mc, ms, by omega, by omega, ?_⟩
  rw [wpJ5_append_cf1ce_a081c]
  refine lr_lenC ⟨mc, ms, by omega, by omega, ?_⟩
  rw [Int32.add_zero (nI n)]
  refine sb_ensure hm (by omega) hf (Or.inl hnm) (fun a' hf' hk => ?_)
  rw [lr_cap0 hnm]
  refine ⟨0, 0, by omega, by omega, 0, 0, by omega, by omega, by decide, br_t rfl ⟨by decide, br_t rfl ?_⟩⟩
  have e1 : (Int32.ofNat (lenJS.getD 0 0)).toNatClampNeg = 0 := by decide
  have e2 : va_cpy (fun j => (bytJS.getD 0 []).getD j 0) a' 0 n 0 = a' := funext (fun j => pk_cpy_out (by omega))
  rw [sb_shl0, e1, nI_clamp (n := n) (by omega), sb_cl0]
  refine ⟨by decide, nI_pos (by omega), by decide, by decide, by omega, fun i hi => absurd hi (Nat.not_lt_zero i), nm_r e2 (nm_r (Int32.add_zero (nI n)) ?_)⟩
  exact hp a' (sb_latKeep hL (fun j hj => hk j (by omega))) hf'
/-- new StringBuilder(""), the constant -/
theorem lr_sbC {post : StJe4173 → Prop} {mc ms : Nat} {h z : Int32} {t : Nat → Nat} (hmc : 1 ≤ mc) (hms : 16 ≤ ms)
    (hp : ∀ a', sb_Lat t 0 a' → sb_Fit a' → post (0, 0, nI 0, a', 16, 0, h, z)) : wpJ4_init_a7421_96148 post mc ms (0, 0, 0, 0, h, z) := by
  refine ⟨mc, ms, by omega, by omega, ?_⟩
  rw [wpJ5_init_a7421_96148]
  refine lr_lenC (br_f (by decide) ?_)
  refine ⟨by decide, by decide, by decide, br_t rfl ⟨by decide, nm_r (e' := 16) (by decide) ⟨by omega, by omega, by omega, 0, 0, by omega, by omega, 0, 0, by omega, by omega, ?_⟩⟩⟩
  exact lr_appC (n := 0) (t := t) (by omega) (by omega) (fun j hj => absurd hj (Nat.not_lt_zero j)) sb_fit0 hp
/-- Lazy.text() for the first time, over the constant "" -/
theorem lr_x2C {post : St13 → Prop} {mc ms : Nat} {h z : Int32} {t : Nat → Nat} (hmc : 2 ≤ mc) (hms : 20 ≤ ms)
    (hp : ∀ a', sb_Lat t 0 a' → sb_Fit a' → post (1, 0, h, z, 0, 0, nI 0, a', 16)) : wpX2_text_3 post mc ms (0, 0, h, z) :=
  nm_r (e' := 1) (by decide) ⟨by omega, by omega, mc - 1, ms - 4, by omega, by omega, lr_sbC (t := t) (by omega) (by omega) hp⟩
end
section
/-- the picture: the seed's n letters, then s's w letters again and again -/
def lr_T (t s : Nat → Nat) (n w : Nat) : Nat → Nat := fun j => if j < n then t j else s ((j - n) % w)
theorem lr_T0 {t s : Nat → Nat} {n w : Nat} {a : Nat → Int32} (h : sb_Lat t n a) : sb_Lat (lr_T t s n w) n a := by
  intro j hj
  have e : lr_T t s n w j = t j := if_pos hj
  rw [e]
  exact h j hj
theorem lr_Tv {t s : Nat → Nat} {n w i k : Nat} (hk : k < w) : lr_T t s n w (n + i * w + k) = s k := by
  have e : lr_T t s n w (n + i * w + k) = s ((n + i * w + k - n) % w) := if_neg (by omega)
  rw [e, show n + i * w + k - n = k + i * w by omega, Nat.add_mul_mod_self_right, Nat.mod_eq_of_lt hk]
theorem lr_Tg {T u : Nat → Nat} {p q : Nat} {a : Nat → Int32} (h : sb_Lat (sb_cat T p u) (p + q) a) (hu : ∀ k, k < q → T (p + k) = u k) : sb_Lat T (p + q) a := by
  intro j hj
  have h1 := h j hj
  by_cases g : j < p
  · rw [sb_cat_lo g] at h1
    exact h1
  · have e : j = p + (j - p) := by omega
    have e2 : sb_cat T p u j = T j := by
      rw [e, sb_cat_hi, hu (j - p) (by omega)]
    rw [e2] at h1
    exact h1
/-- append(s) as a whole -/
theorem lr_Ts {t s : Nat → Nat} {n w i : Nat} {a : Nat → Int32} (h : sb_Lat (sb_cat (lr_T t s n w) (n + i * w) s) (n + i * w + w) a) : sb_Lat (lr_T t s n w) (n + i * w + w) a :=
  lr_Tg h (fun _ hk => lr_Tv hk)
/-- append(s.charAt(k)) -/
theorem lr_Tc {t s : Nat → Nat} {n w i k : Nat} {a : Nat → Int32} (hk : k < w) (h : sb_Lat (sb_cat (lr_T t s n w) (n + i * w + k) (fun _ => s k)) (n + i * w + k + 1) a) : sb_Lat (lr_T t s n w) (n + i * w + k + 1) a :=
  lr_Tg h (fun q hq => by
    obtain rfl : q = 0 := by omega
    exact lr_Tv hk)
/-- what is left of the budget, at capacity m: one growth, or m is enough for good -/
def lr_B (mc ms kc ks m : Nat) : Prop := kc ≤ mc ∧ ks ≤ ms ∧ m ≤ 48 ∧ (25 ≤ m ∨ (16 ≤ m ∧ m ≤ 23 ∧ kc + 1 ≤ mc ∧ ks + 48 ≤ ms))
theorem lr_room {mc ms kc ks m q : Nat} (h : lr_B mc ms kc ks m) (hq : q ≤ 25) : ∃ c s : Nat, kc + c ≤ mc ∧ ks + s ≤ ms ∧ sb_Room q m c s ∧ lr_B mc ms (kc + c) (ks + s) (sb_cap q m) := by
  obtain ⟨h1, h2, h3, h4⟩ := h
  by_cases g : q ≤ m
  · rw [lr_cap0 g]
    exact ⟨0, 0, h1, h2, Or.inl g, h1, h2, h3, h4⟩
  · have hc : sb_cap q m = 2 * m + 2 := by
      rw [sb_cap, if_neg g, if_neg (by omega)]
    rcases h4 with h4 | ⟨g1, g2, g3, g4⟩
    · omega
    · rw [hc]
      refine ⟨1, 48, g3, g4, Or.inr ⟨by omega, ?_, ?_⟩, g3, g4, by omega, Or.inl (by omega)⟩
      · rw [hc]
        omega
      · rw [hc]
        omega
/-- the law's number of times: k - 1, as the loops' tests see it -/
theorem lr_hx : ∀ k, k < 8 → ∀ i, i < 7 → (nI k - 1 ≤ nI i ↔ k - 1 ≤ i) := by decide +kernel
end
section
/-- LinkedRecords.appendTimes, world 1: the loop behind its first turn -/
theorem lr_5l1 {post : Int32 → St7 → Prop} {mc ms K : Nat} {x2 ml h z h2 z2 : Int32} {t : Nat → Nat} {s : Nat → Nat} {b2 : Nat → Int32} {w : Nat} {b : Nat → Int32} {n : Nat} (hK : K ≤ 6) (hx : ∀ i, i < 7 → (x2 ≤ nI i ↔ K ≤ i)) (hN : n + K * w ≤ 25) (hw : w ≤ 3) (hs : sb_Lat s w b2) (hfs : sb_Fit b2)
    (hp : ∀ (a : Nat → Int32) (m : Nat), n + K * w ≤ m → m ≤ 48 → sb_Lat (lr_T t s n w) (n + K * w) a → sb_Fit a → post (nI (n + K * w) * 10 + 1) (1, 0, h, z, b, n, 0, ml, nI (n + K * w), a, m, 0, h2, z2, b2, w)) :
    ∀ (d i m kc ks : Nat) (a : Nat → Int32), i + d = K → n + i * w ≤ m → lr_B mc ms kc ks m → sb_Lat (lr_T t s n w) (n + i * w) a → sb_Fit a → wX5_appendTimes_2 post mc ms (d + 1) (.inr (x2, nI i, kc, ks, 1, 0, h, z, b, n, 0, ml, nI (n + i * w), a, m, 0, h2, z2, b2, w)) := by
  intro d
  induction d with
  | zero =>
    intro i m kc ks a hi hm hB hL hf
    obtain rfl : i = K := by omega
    obtain ⟨g1, g2, g3, _⟩ := hB
    rw [wX5_appendTimes_2]
    exact br_t ((hx i (by omega)).mpr (Nat.le_refl i)) ⟨0, 0, by omega, by omega, hp a m hm g3 hL hf⟩
  | succ d ih =>
    intro i m kc ks a hi hm hB hL hf
    have hiK : (i + 1) * w ≤ K * w := Nat.mul_le_mul_right w (by omega)
    have e : n + (i + 1) * w = n + i * w + w := by
      rw [Nat.succ_mul]
      omega
    obtain ⟨c, g, hc, hg, hr, hB2⟩ := lr_room (q := n + i * w + w) hB (by omega)
    have hcap := sb_cap_ge (n + i * w + w) m
    have h48 : m ≤ 48 := hB.2.2.1
    rw [wX5_appendTimes_2]
    refine br_f (fun y => absurd ((hx i (by omega)).mp y) (by omega)) ⟨0, 0, by omega, by omega, c, g, by omega, by omega, ?_⟩
    refine sb_appendStr hm (by omega) hL hf (by omega) hs hfs hr (fun a2 hL2 hf2 => nm_r (nI_1 i) ?_)
    have h9 := ih (i + 1) _ (kc + c) (ks + g) a2 (by omega) (by rw [e]; exact hcap) hB2 (by rw [e]; exact lr_Ts hL2) hf2
    rw [e] at h9
    exact h9
/-- LinkedRecords.appendTimes, world 1 -/
theorem lr_51 {post : Int32 → St7 → Prop} {mc ms K : Nat} {x2 h z h2 z2 : Int32} {t : Nat → Nat} {s : Nat → Nat} {b2 : Nat → Int32} {w : Nat} {b : Nat → Int32} {n : Nat} (hK : K ≤ 6) (hx : ∀ i, i < 7 → (x2 ≤ nI i ↔ K ≤ i)) (hN : n + K * w ≤ 25) (hw : w ≤ 3) (hs : sb_Lat s w b2) (hfs : sb_Fit b2) (hn : n ≤ 7) (hb : sb_Lat t n b) (hfb : sb_Fit b) (hmc : 3 ≤ mc) (hms : 75 ≤ ms)
    (hp : ∀ (a : Nat → Int32) (m : Nat), n + K * w ≤ m → m ≤ 48 → sb_Lat (lr_T t s n w) (n + K * w) a → sb_Fit a → post (nI (n + K * w) * 10 + 1) (1, 0, h, z, b, n, 0, 0, nI (n + K * w), a, m, 0, h2, z2, b2, w)) : wpX5_appendTimes post mc ms (0, 0, h, z, b, n, 0, h2, z2, b2, w) x2 := by
  refine ⟨K + 1, ?_⟩
  rw [wX5_appendTimes_2]
  rcases Nat.eq_zero_or_pos K with h0 | h0
  · subst h0
    refine br_t ((hx 0 (by omega)).mpr (Nat.le_refl 0)) ⟨2, n + 20, by omega, by omega, lr_x2 hn hb hfb (by omega) (by omega) (fun a1 hL1 hf1 => ?_)⟩
    have h9 := hp a1 (n + 16) (by omega) (by omega) (by rw [show n + 0 * w = n by omega]; exact lr_T0 hL1) hf1
    rw [show n + 0 * w = n by omega] at h9
    exact h9
  · obtain ⟨d, rfl⟩ : ∃ d, K = d + 1 := ⟨K - 1, by omega⟩
    refine br_f (fun y => absurd ((hx 0 (by omega)).mp y) (by omega)) ⟨2, n + 20, by omega, by omega, lr_x2 hn hb hfb (by omega) (by omega) (fun a1 hL1 hf1 => ?_)⟩
    have hB : lr_B mc ms (0 + 2) (0 + (n + 20)) (n + 16) := ⟨by omega, by omega, by omega, Or.inr ⟨by omega, by omega, by omega, by omega⟩⟩
    have hiK : 1 * w ≤ (d + 1) * w := Nat.mul_le_mul_right w (by omega)
    have e0 : n + 0 * w = n := by omega
    have e1 : n + 1 * w = n + w := by omega
    obtain ⟨c, g, hc, hg, hr, hB2⟩ := lr_room (q := n + w) hB (by omega)
    have hcap := sb_cap_ge (n + w) (n + 16)
    have hL0 : sb_Lat (lr_T t s n w) n a1 := lr_T0 hL1
    refine ⟨c, g, by omega, by omega, ?_⟩
    refine sb_appendStr (n := n) (t := (lr_T t s n w)) (by omega) (by omega) hL0 hf1 (by omega) hs hfs hr (fun a2 hL2 hf2 => nm_r (e' := nI 1) (by decide) ?_)
    have hL3 : sb_Lat (lr_T t s n w) (n + 1 * w) a2 := by
      have h8 : sb_Lat (sb_cat (lr_T t s n w) (n + 0 * w) s) (n + 0 * w + w) a2 := by
        rw [e0]
        exact hL2
      have h7 := lr_Ts h8
      rw [e0, ← e1] at h7
      exact h7
    have h9 := lr_5l1 hK hx hN hw hs hfs hp d 1 _ _ _ a2 (by omega) (by rw [e1]; exact hcap) hB2 hL3 hf2
    rw [e1] at h9
    exact h9
/-- LinkedRecords.appendTimes, world 2: the loop behind its first turn -/
theorem lr_5l2 {post : Int32 → St9 → Prop} {mc ms K : Nat} {x2 ml h z h2 z2 : Int32} {t : Nat → Nat} {b : Nat → Int32} {n : Nat} (hK : K ≤ 6) (hx : ∀ i, i < 7 → (x2 ≤ nI i ↔ K ≤ i)) (hN : n ≤ 25) 
    (hp : ∀ (a : Nat → Int32) (m : Nat), n ≤ m → m ≤ 48 → sb_Lat t n a → sb_Fit a → post (nI n * 10 + 1) (1, 0, h, z, b, n, 0, ml, nI n, a, m, 0, h2, z2)) :
    ∀ (d i m kc ks : Nat) (a : Nat → Int32), i + d = K → n ≤ m → lr_B mc ms kc ks m → sb_Lat t n a → sb_Fit a → wX5_appendTimes_2_2 post mc ms (d + 1) (.inr (x2, nI i, kc, ks, 1, 0, h, z, b, n, 0, ml, nI n, a, m, 0, h2, z2)) := by
  intro d
  induction d with
  | zero =>
    intro i m kc ks a hi hm hB hL hf
    obtain rfl : i = K := by omega
    obtain ⟨g1, g2, g3, _⟩ := hB
    rw [wX5_appendTimes_2_2]
    exact br_t ((hx i (by omega)).mpr (Nat.le_refl i)) ⟨0, 0, by omega, by omega, hp a m hm g3 hL hf⟩
  | succ d ih =>
    intro i m kc ks a hi hm hB hL hf
    obtain ⟨g1, g2, g3, g4⟩ := hB
    rw [wX5_appendTimes_2_2]
    refine br_f (fun y => absurd ((hx i (by omega)).mp y) (by omega)) ⟨0, 0, by omega, by omega, 0, 0, by omega, by omega, ?_⟩
    refine lr_appC hm (by omega) hL hf (fun a2 hL2 hf2 => nm_r (nI_1 i) ?_)
    exact ih (i + 1) m kc ks a2 (by omega) hm ⟨g1, g2, g3, g4⟩ hL2 hf2
/-- LinkedRecords.appendTimes, world 2 -/
theorem lr_52 {post : Int32 → St9 → Prop} {mc ms K : Nat} {x2 h z h2 z2 : Int32} {t : Nat → Nat} {b : Nat → Int32} {n : Nat} (hK : K ≤ 6) (hx : ∀ i, i < 7 → (x2 ≤ nI i ↔ K ≤ i)) (hN : n ≤ 25) (hn : n ≤ 7) (hb : sb_Lat t n b) (hfb : sb_Fit b) (hmc : 3 ≤ mc) (hms : 75 ≤ ms)
    (hp : ∀ (a : Nat → Int32) (m : Nat), n ≤ m → m ≤ 48 → sb_Lat t n a → sb_Fit a → post (nI n * 10 + 1) (1, 0, h, z, b, n, 0, 0, nI n, a, m, 0, h2, z2)) : wpX5_appendTimes_2 post mc ms (0, 0, h, z, b, n, 0, h2, z2) x2 := by
  refine ⟨K + 1, ?_⟩
  rw [wX5_appendTimes_2_2]
  rcases Nat.eq_zero_or_pos K with h0 | h0
  · subst h0
    refine br_t ((hx 0 (by omega)).mpr (Nat.le_refl 0)) ⟨2, n + 20, by omega, by omega, lr_x2 hn hb hfb (by omega) (by omega) (fun a1 hL1 hf1 => ?_)⟩
    exact hp a1 (n + 16) (by omega) (by omega) hL1 hf1
  · obtain ⟨d, rfl⟩ : ∃ d, K = d + 1 := ⟨K - 1, by omega⟩
    refine br_f (fun y => absurd ((hx 0 (by omega)).mp y) (by omega)) ⟨2, n + 20, by omega, by omega, lr_x2 hn hb hfb (by omega) (by omega) (fun a1 hL1 hf1 => ?_)⟩
    have hB : lr_B mc ms (0 + 2) (0 + (n + 20)) (n + 16) := ⟨by omega, by omega, by omega, Or.inr ⟨by omega, by omega, by omega, by omega⟩⟩
    refine ⟨0, 0, by omega, by omega, ?_⟩
    refine lr_appC (n := n) (by omega) (by omega) hL1 hf1 (fun a2 hL2 hf2 => nm_r (e' := nI 1) (by decide) ?_)
    exact lr_5l2 hK hx hN hp d 1 _ _ _ a2 (by omega) (by omega) hB hL2 hf2
/-- LinkedRecords.appendTimes, world 3: the loop behind its first turn -/
theorem lr_5l3 {post : Int32 → St14 → Prop} {mc ms K : Nat} {x2 ml h z h2 z2 : Int32} {t : Nat → Nat} {s : Nat → Nat} {b2 : Nat → Int32} {w : Nat} (hK : K ≤ 6) (hx : ∀ i, i < 7 → (x2 ≤ nI i ↔ K ≤ i)) (hN : 0 + K * w ≤ 25) (hw : w ≤ 3) (hs : sb_Lat s w b2) (hfs : sb_Fit b2)
    (hp : ∀ (a : Nat → Int32) (m : Nat), 0 + K * w ≤ m → m ≤ 48 → sb_Lat (lr_T t s 0 w) (0 + K * w) a → sb_Fit a → post (nI (0 + K * w) * 10 + 1) (1, 0, h, z, 0, ml, nI (0 + K * w), a, m, 0, h2, z2, b2, w)) :
    ∀ (d i m kc ks : Nat) (a : Nat → Int32), i + d = K → 0 + i * w ≤ m → lr_B mc ms kc ks m → sb_Lat (lr_T t s 0 w) (0 + i * w) a → sb_Fit a → wX5_appendTimes_3_2 post mc ms (d + 1) (.inr (x2, nI i, kc, ks, 1, 0, h, z, 0, ml, nI (0 + i * w), a, m, 0, h2, z2, b2, w)) := by
  intro d
  induction d with
  | zero =>
    intro i m kc ks a hi hm hB hL hf
    obtain rfl : i = K := by omega
    obtain ⟨g1, g2, g3, _⟩ := hB
    rw [wX5_appendTimes_3_2]
    exact br_t ((hx i (by omega)).mpr (Nat.le_refl i)) ⟨0, 0, by omega, by omega, hp a m hm g3 hL hf⟩
  | succ d ih =>
    intro i m kc ks a hi hm hB hL hf
    have hiK : (i + 1) * w ≤ K * w := Nat.mul_le_mul_right w (by omega)
    have e : 0 + (i + 1) * w = 0 + i * w + w := by
      rw [Nat.succ_mul]
      omega
    obtain ⟨c, g, hc, hg, hr, hB2⟩ := lr_room (q := 0 + i * w + w) hB (by omega)
    have hcap := sb_cap_ge (0 + i * w + w) m
    have h48 : m ≤ 48 := hB.2.2.1
    rw [wX5_appendTimes_3_2]
    refine br_f (fun y => absurd ((hx i (by omega)).mp y) (by omega)) ⟨0, 0, by omega, by omega, c, g, by omega, by omega, ?_⟩
    refine sb_appendStr hm (by omega) hL hf (by omega) hs hfs hr (fun a2 hL2 hf2 => nm_r (nI_1 i) ?_)
    have h9 := ih (i + 1) _ (kc + c) (ks + g) a2 (by omega) (by rw [e]; exact hcap) hB2 (by rw [e]; exact lr_Ts hL2) hf2
    rw [e] at h9
    exact h9
/-- LinkedRecords.appendTimes, world 3 -/
theorem lr_53 {post : Int32 → St14 → Prop} {mc ms K : Nat} {x2 h z h2 z2 : Int32} {t : Nat → Nat} {s : Nat → Nat} {b2 : Nat → Int32} {w : Nat} (hK : K ≤ 6) (hx : ∀ i, i < 7 → (x2 ≤ nI i ↔ K ≤ i)) (hN : 0 + K * w ≤ 25) (hw : w ≤ 3) (hs : sb_Lat s w b2) (hfs : sb_Fit b2) (hmc : 3 ≤ mc) (hms : 75 ≤ ms)
    (hp : ∀ (a : Nat → Int32) (m : Nat), 0 + K * w ≤ m → m ≤ 48 → sb_Lat (lr_T t s 0 w) (0 + K * w) a → sb_Fit a → post (nI (0 + K * w) * 10 + 1) (1, 0, h, z, 0, 0, nI (0 + K * w), a, m, 0, h2, z2, b2, w)) : wpX5_appendTimes_3 post mc ms (0, 0, h, z, 0, h2, z2, b2, w) x2 := by
  refine ⟨K + 1, ?_⟩
  rw [wX5_appendTimes_3_2]
  rcases Nat.eq_zero_or_pos K with h0 | h0
  · subst h0
    refine br_t ((hx 0 (by omega)).mpr (Nat.le_refl 0)) ⟨2, 20, by omega, by omega, lr_x2C (t := t) (by omega) (by omega) (fun a1 hL1 hf1 => ?_)⟩
    have h9 := hp a1 16 (by omega) (by omega) (by rw [show 0 + 0 * w = 0 by omega]; exact lr_T0 hL1) hf1
    rw [show 0 + 0 * w = 0 by omega] at h9
    exact h9
  · obtain ⟨d, rfl⟩ : ∃ d, K = d + 1 := ⟨K - 1, by omega⟩
    refine br_f (fun y => absurd ((hx 0 (by omega)).mp y) (by omega)) ⟨2, 20, by omega, by omega, lr_x2C (t := t) (by omega) (by omega) (fun a1 hL1 hf1 => ?_)⟩
    have hB : lr_B mc ms (0 + 2) (0 + (20)) 16 := ⟨by omega, by omega, by omega, Or.inr ⟨by omega, by omega, by omega, by omega⟩⟩
    have hiK : 1 * w ≤ (d + 1) * w := Nat.mul_le_mul_right w (by omega)
    have e0 : 0 + 0 * w = 0 := by omega
    have e1 : 0 + 1 * w = 0 + w := by omega
    obtain ⟨c, g, hc, hg, hr, hB2⟩ := lr_room (q := 0 + w) hB (by omega)
    have hcap := sb_cap_ge (0 + w) 16
    have hL0 : sb_Lat (lr_T t s 0 w) 0 a1 := lr_T0 hL1
    refine ⟨c, g, by omega, by omega, ?_⟩
    refine sb_appendStr (n := 0) (t := (lr_T t s 0 w)) (by omega) (by omega) hL0 hf1 (by omega) hs hfs hr (fun a2 hL2 hf2 => nm_r (e' := nI 1) (by decide) ?_)
    have hL3 : sb_Lat (lr_T t s 0 w) (0 + 1 * w) a2 := by
      have h8 : sb_Lat (sb_cat (lr_T t s 0 w) (0 + 0 * w) s) (0 + 0 * w + w) a2 := by
        rw [e0]
        exact hL2
      have h7 := lr_Ts h8
      rw [e0, ← e1] at h7
      exact h7
    have h9 := lr_5l3 hK hx hN hw hs hfs hp d 1 _ _ _ a2 (by omega) (by rw [e1]; exact hcap) hB2 hL3 hf2
    rw [e1] at h9
    exact h9
/-- LinkedRecords.appendTimes, world 4: the loop behind its first turn -/
theorem lr_5l4 {post : Int32 → St16 → Prop} {mc ms K : Nat} {x2 ml h z h2 z2 : Int32} {t : Nat → Nat} (hK : K ≤ 6) (hx : ∀ i, i < 7 → (x2 ≤ nI i ↔ K ≤ i))  
    (hp : ∀ (a : Nat → Int32) (m : Nat), 0 ≤ m → m ≤ 48 → sb_Lat t 0 a → sb_Fit a → post (nI 0 * 10 + 1) (1, 0, h, z, 0, ml, nI 0, a, m, 0, h2, z2)) :
    ∀ (d i m kc ks : Nat) (a : Nat → Int32), i + d = K → 0 ≤ m → lr_B mc ms kc ks m → sb_Lat t 0 a → sb_Fit a → wX5_appendTimes_4_2 post mc ms (d + 1) (.inr (x2, nI i, kc, ks, 1, 0, h, z, 0, ml, nI 0, a, m, 0, h2, z2)) := by
  intro d
  induction d with
  | zero =>
    intro i m kc ks a hi hm hB hL hf
    obtain rfl : i = K := by omega
    obtain ⟨g1, g2, g3, _⟩ := hB
    rw [wX5_appendTimes_4_2]
    exact br_t ((hx i (by omega)).mpr (Nat.le_refl i)) ⟨0, 0, by omega, by omega, hp a m hm g3 hL hf⟩
  | succ d ih =>
    intro i m kc ks a hi hm hB hL hf
    obtain ⟨g1, g2, g3, g4⟩ := hB
    rw [wX5_appendTimes_4_2]
    refine br_f (fun y => absurd ((hx i (by omega)).mp y) (by omega)) ⟨0, 0, by omega, by omega, 0, 0, by omega, by omega, ?_⟩
    refine lr_appC hm (by omega) hL hf (fun a2 hL2 hf2 => nm_r (nI_1 i) ?_)
    exact ih (i + 1) m kc ks a2 (by omega) hm ⟨g1, g2, g3, g4⟩ hL2 hf2
/-- LinkedRecords.appendTimes, world 4 -/
theorem lr_54 {post : Int32 → St16 → Prop} {mc ms K : Nat} {x2 h z h2 z2 : Int32} {t : Nat → Nat} (hK : K ≤ 6) (hx : ∀ i, i < 7 → (x2 ≤ nI i ↔ K ≤ i))   (hmc : 3 ≤ mc) (hms : 75 ≤ ms)
    (hp : ∀ (a : Nat → Int32) (m : Nat), 0 ≤ m → m ≤ 48 → sb_Lat t 0 a → sb_Fit a → post (nI 0 * 10 + 1) (1, 0, h, z, 0, 0, nI 0, a, m, 0, h2, z2)) : wpX5_appendTimes_4 post mc ms (0, 0, h, z, 0, h2, z2) x2 := by
  refine ⟨K + 1, ?_⟩
  rw [wX5_appendTimes_4_2]
  rcases Nat.eq_zero_or_pos K with h0 | h0
  · subst h0
    refine br_t ((hx 0 (by omega)).mpr (Nat.le_refl 0)) ⟨2, 20, by omega, by omega, lr_x2C (t := t) (by omega) (by omega) (fun a1 hL1 hf1 => ?_)⟩
    exact hp a1 16 (by omega) (by omega) hL1 hf1
  · obtain ⟨d, rfl⟩ : ∃ d, K = d + 1 := ⟨K - 1, by omega⟩
    refine br_f (fun y => absurd ((hx 0 (by omega)).mp y) (by omega)) ⟨2, 20, by omega, by omega, lr_x2C (t := t) (by omega) (by omega) (fun a1 hL1 hf1 => ?_)⟩
    have hB : lr_B mc ms (0 + 2) (0 + (20)) 16 := ⟨by omega, by omega, by omega, Or.inr ⟨by omega, by omega, by omega, by omega⟩⟩
    refine ⟨0, 0, by omega, by omega, ?_⟩
    refine lr_appC (n := 0) (by omega) (by omega) hL1 hf1 (fun a2 hL2 hf2 => nm_r (e' := nI 1) (by decide) ?_)
    exact lr_5l4 hK hx  hp d 1 _ _ _ a2 (by omega) (by omega) hB hL2 hf2
end
section
/-- LinkedRecordsPlain.appendTimes, world 1: the loop over s -/
theorem lr_6i1 {post : Int32 → St7 → Prop} {mc ms i : Nat} {x2 x5 ml h z h2 z2 : Int32} {t : Nat → Nat} {s : Nat → Nat} {b2 : Nat → Int32} {w : Nat} {b : Nat → Int32} {n : Nat} {J : Int32 → Int32 → Nat → Nat → Int32 → Int32 → Int32 → Int32 → (Nat → Int32) → Nat → Int32 → Int32 → Int32 → (Nat → Int32) → Nat → Int32 → Int32 → Int32 → (Nat → Int32) → Nat → Prop} (hN : n + i * w + w ≤ 25) (hw : w ≤ 3) (hs : sb_Lat s w b2)
    (hJ : ∀ (kc ks m : Nat) (a : Nat → Int32), n + i * w + w ≤ m → lr_B mc ms kc ks m → sb_Lat (lr_T t s n w) (n + i * w + w) a → sb_Fit a → J (nI (n + i * w + w)) (x5 + 1) kc ks 1 0 h z b n 0 ml (nI (n + i * w + w)) a m 0 h2 z2 b2 w) :
    ∀ (d k m kc ks : Nat) (a : Nat → Int32), k + d = w → n + i * w + k ≤ m → lr_B mc ms kc ks m → sb_Lat (lr_T t s n w) (n + i * w + k) a → sb_Fit a → wX6_appendTimes_23 post mc ms J x2 x5 (d + 1) (nI (n + i * w + k)) (nI k) kc ks 1 0 h z b n 0 ml (nI (n + i * w + k)) a m 0 h2 z2 b2 w := by
  intro d
  induction d with
  | zero =>
    intro k m kc ks a hk hm hB hL hf
    obtain rfl : k = w := by omega
    rw [wX6_appendTimes_23]
    exact sv_length (br_t (nI_le (by omega) (by omega)) (nm_e (hJ kc ks m a hm hB hL hf)))
  | succ d ih =>
    intro k m kc ks a hk hm hB hL hf
    obtain ⟨c, g, hc, hg, hr, hB2⟩ := lr_room (q := n + i * w + k + 1) hB (by omega)
    have hcap := sb_cap_ge (n + i * w + k + 1) m
    have h48 : m ≤ 48 := hB.2.2.1
    rw [wX6_appendTimes_23]
    refine sv_length (br_f (nI_ge (by omega) (by omega)) (sv_charAt (by omega) hs (by omega) ⟨c, g, by omega, by omega, ?_⟩))
    refine sb_appendChar hm (by omega) hL hf (hs k (by omega)).1 hr (fun a2 hL2 hf2 => nm_r (nI_1 _) (nm_r (nI_1 k) ?_))
    exact ih (k + 1) _ (kc + c) (ks + g) a2 (by omega) hcap hB2 (lr_Tc (by omega) hL2) hf2
/-- LinkedRecordsPlain.appendTimes, world 1: the loop over the times -/
theorem lr_6l1 {post : Int32 → St7 → Prop} {mc ms K : Nat} {x2 ml h z h2 z2 : Int32} {t : Nat → Nat} {s : Nat → Nat} {b2 : Nat → Int32} {w : Nat} {b : Nat → Int32} {n : Nat} (hK : K ≤ 6) (hx : ∀ i, i < 7 → (x2 ≤ nI i ↔ K ≤ i)) (hN : n + K * w ≤ 25) (hw : w ≤ 3) (hs : sb_Lat s w b2)
    (hp : ∀ (a : Nat → Int32) (m : Nat), n + K * w ≤ m → m ≤ 48 → sb_Lat (lr_T t s n w) (n + K * w) a → sb_Fit a → post (nI (n + K * w) * 10 + 1) (1, 0, h, z, b, n, 0, ml, nI (n + K * w), a, m, 0, h2, z2, b2, w)) :
    ∀ (d i m kc ks : Nat) (a : Nat → Int32), i + d = K → n + i * w ≤ m → lr_B mc ms kc ks m → sb_Lat (lr_T t s n w) (n + i * w) a → sb_Fit a → wX6_appendTimes_14 post mc ms x2 (d + 1) (nI (n + i * w)) (nI i) kc ks 1 0 h z b n 0 ml (nI (n + i * w)) a m 0 h2 z2 b2 w := by
  intro d
  induction d with
  | zero =>
    intro i m kc ks a hi hm hB hL hf
    obtain rfl : i = K := by omega
    obtain ⟨g1, g2, g3, _⟩ := hB
    rw [wX6_appendTimes_14]
    exact br_t ((hx i (by omega)).mpr (Nat.le_refl i)) (hp a m hm g3 hL hf)
  | succ d ih =>
    intro i m kc ks a hi hm hB hL hf
    rw [wX6_appendTimes_14]
    have hiK : (i + 1) * w ≤ K * w := Nat.mul_le_mul_right w (by omega)
    have e : n + (i + 1) * w = n + i * w + w := by
      rw [Nat.succ_mul]
      omega
    refine br_f (fun y => absurd ((hx i (by omega)).mp y) (by omega)) ⟨w + 1, ?_⟩
    refine lr_6i1 (i := i) (t := t) (s := s) (by omega) hw hs (fun kc2 ks2 m2 a2 hm2 hB2 hL2 hf2 => ?_) w 0 m kc ks a (by omega) hm hB hL hf
    have h9 := ih (i + 1) m2 kc2 ks2 a2 (by omega) (by rw [e]; exact hm2) hB2 (by rw [e]; exact hL2) hf2
    rw [e] at h9
    rw [nI_1]
    exact h9
/-- LinkedRecordsPlain.appendTimes, world 1 -/
theorem lr_61 {post : Int32 → St7 → Prop} {mc ms K : Nat} {x2 h z h2 z2 : Int32} {t : Nat → Nat} {s : Nat → Nat} {b2 : Nat → Int32} {w : Nat} {b : Nat → Int32} {n : Nat} (hK : K ≤ 6) (hx : ∀ i, i < 7 → (x2 ≤ nI i ↔ K ≤ i)) (hN : n + K * w ≤ 25) (hw : w ≤ 3) (hs : sb_Lat s w b2) (hn : n ≤ 7) (hb : sb_Lat t n b) (hfb : sb_Fit b) (hmc : 3 ≤ mc) (hms : 75 ≤ ms)
    (hp : ∀ (a : Nat → Int32) (m : Nat), n + K * w ≤ m → m ≤ 48 → sb_Lat (lr_T t s n w) (n + K * w) a → sb_Fit a → post (nI (n + K * w) * 10 + 1) (1, 0, h, z, b, n, 0, 0, nI (n + K * w), a, m, 0, h2, z2, b2, w)) : wpX6_appendTimes post mc ms (0, 0, h, z, b, n, 0, h2, z2, b2, w) x2 := by
  refine ⟨2, n + 20, by omega, by omega, lr_x2 hn hb hfb (by omega) (by omega) (fun a1 hL1 hf1 => ⟨K + 1, ?_⟩)⟩
  have hB : lr_B mc ms (0 + 2) (0 + (n + 20)) (n + 16) := ⟨by omega, by omega, by omega, Or.inr ⟨by omega, by omega, by omega, by omega⟩⟩
  have e0 : n + 0 * w = n := by omega
  have h9 := lr_6l1 hK hx hN hw hs hp K 0 (n + 16) (0 + 2) (0 + (n + 20)) a1 (by omega) (by omega) hB (by rw [e0]; exact lr_T0 hL1) hf1
  rw [e0] at h9
  exact h9
/-- LinkedRecordsPlain.appendTimes, world 2: the loop over the times -/
theorem lr_6l2 {post : Int32 → St9 → Prop} {mc ms K : Nat} {x2 ml h z h2 z2 : Int32} {t : Nat → Nat} {b : Nat → Int32} {n : Nat} (hK : K ≤ 6) (hx : ∀ i, i < 7 → (x2 ≤ nI i ↔ K ≤ i)) (hN : n ≤ 25) 
    (hp : ∀ (a : Nat → Int32) (m : Nat), n ≤ m → m ≤ 48 → sb_Lat t n a → sb_Fit a → post (nI n * 10 + 1) (1, 0, h, z, b, n, 0, ml, nI n, a, m, 0, h2, z2)) :
    ∀ (d i m kc ks : Nat) (a : Nat → Int32), i + d = K → n ≤ m → lr_B mc ms kc ks m → sb_Lat t n a → sb_Fit a → wX6_appendTimes_2_14 post mc ms x2 (d + 1) (nI n) (nI i) kc ks 1 0 h z b n 0 ml (nI n) a m 0 h2 z2 := by
  intro d
  induction d with
  | zero =>
    intro i m kc ks a hi hm hB hL hf
    obtain rfl : i = K := by omega
    obtain ⟨g1, g2, g3, _⟩ := hB
    rw [wX6_appendTimes_2_14]
    exact br_t ((hx i (by omega)).mpr (Nat.le_refl i)) (hp a m hm g3 hL hf)
  | succ d ih =>
    intro i m kc ks a hi hm hB hL hf
    rw [wX6_appendTimes_2_14]
    refine br_f (fun y => absurd ((hx i (by omega)).mp y) (by omega)) ⟨1, ?_⟩
    rw [wX6_appendTimes_2_23]
    refine lr_lenC (br_t (by decide) (nm_r (nI_1 i) ?_))
    exact ih (i + 1) m kc ks a (by omega) hm hB hL hf
/-- LinkedRecordsPlain.appendTimes, world 2 -/
theorem lr_62 {post : Int32 → St9 → Prop} {mc ms K : Nat} {x2 h z h2 z2 : Int32} {t : Nat → Nat} {b : Nat → Int32} {n : Nat} (hK : K ≤ 6) (hx : ∀ i, i < 7 → (x2 ≤ nI i ↔ K ≤ i)) (hN : n ≤ 25) (hn : n ≤ 7) (hb : sb_Lat t n b) (hfb : sb_Fit b) (hmc : 3 ≤ mc) (hms : 75 ≤ ms)
    (hp : ∀ (a : Nat → Int32) (m : Nat), n ≤ m → m ≤ 48 → sb_Lat t n a → sb_Fit a → post (nI n * 10 + 1) (1, 0, h, z, b, n, 0, 0, nI n, a, m, 0, h2, z2)) : wpX6_appendTimes_2 post mc ms (0, 0, h, z, b, n, 0, h2, z2) x2 := by
  refine ⟨2, n + 20, by omega, by omega, lr_x2 hn hb hfb (by omega) (by omega) (fun a1 hL1 hf1 => ⟨K + 1, ?_⟩)⟩
  have hB : lr_B mc ms (0 + 2) (0 + (n + 20)) (n + 16) := ⟨by omega, by omega, by omega, Or.inr ⟨by omega, by omega, by omega, by omega⟩⟩
  exact lr_6l2 hK hx hN hp K 0 (n + 16) (0 + 2) (0 + (n + 20)) a1 (by omega) (by omega) hB hL1 hf1
/-- LinkedRecordsPlain.appendTimes, world 3: the loop over s -/
theorem lr_6i3 {post : Int32 → St14 → Prop} {mc ms i : Nat} {x2 x5 ml h z h2 z2 : Int32} {t : Nat → Nat} {s : Nat → Nat} {b2 : Nat → Int32} {w : Nat} {J : Int32 → Int32 → Nat → Nat → Int32 → Int32 → Int32 → Int32 → Int32 → Int32 → Int32 → (Nat → Int32) → Nat → Int32 → Int32 → Int32 → (Nat → Int32) → Nat → Prop} (hN : 0 + i * w + w ≤ 25) (hw : w ≤ 3) (hs : sb_Lat s w b2)
    (hJ : ∀ (kc ks m : Nat) (a : Nat → Int32), 0 + i * w + w ≤ m → lr_B mc ms kc ks m → sb_Lat (lr_T t s 0 w) (0 + i * w + w) a → sb_Fit a → J (nI (0 + i * w + w)) (x5 + 1) kc ks 1 0 h z 0 ml (nI (0 + i * w + w)) a m 0 h2 z2 b2 w) :
    ∀ (d k m kc ks : Nat) (a : Nat → Int32), k + d = w → 0 + i * w + k ≤ m → lr_B mc ms kc ks m → sb_Lat (lr_T t s 0 w) (0 + i * w + k) a → sb_Fit a → wX6_appendTimes_3_23 post mc ms J x2 x5 (d + 1) (nI (0 + i * w + k)) (nI k) kc ks 1 0 h z 0 ml (nI (0 + i * w + k)) a m 0 h2 z2 b2 w := by
  intro d
  induction d with
  | zero =>
    intro k m kc ks a hk hm hB hL hf
    obtain rfl : k = w := by omega
    rw [wX6_appendTimes_3_23]
    exact sv_length (br_t (nI_le (by omega) (by omega)) (nm_e (hJ kc ks m a hm hB hL hf)))
  | succ d ih =>
    intro k m kc ks a hk hm hB hL hf
    obtain ⟨c, g, hc, hg, hr, hB2⟩ := lr_room (q := 0 + i * w + k + 1) hB (by omega)
    have hcap := sb_cap_ge (0 + i * w + k + 1) m
    have h48 : m ≤ 48 := hB.2.2.1
    rw [wX6_appendTimes_3_23]
    refine sv_length (br_f (nI_ge (by omega) (by omega)) (sv_charAt (by omega) hs (by omega) ⟨c, g, by omega, by omega, ?_⟩))
    refine sb_appendChar hm (by omega) hL hf (hs k (by omega)).1 hr (fun a2 hL2 hf2 => nm_r (nI_1 _) (nm_r (nI_1 k) ?_))
    exact ih (k + 1) _ (kc + c) (ks + g) a2 (by omega) hcap hB2 (lr_Tc (by omega) hL2) hf2
/-- LinkedRecordsPlain.appendTimes, world 3: the loop over the times -/
theorem lr_6l3 {post : Int32 → St14 → Prop} {mc ms K : Nat} {x2 ml h z h2 z2 : Int32} {t : Nat → Nat} {s : Nat → Nat} {b2 : Nat → Int32} {w : Nat} (hK : K ≤ 6) (hx : ∀ i, i < 7 → (x2 ≤ nI i ↔ K ≤ i)) (hN : 0 + K * w ≤ 25) (hw : w ≤ 3) (hs : sb_Lat s w b2)
    (hp : ∀ (a : Nat → Int32) (m : Nat), 0 + K * w ≤ m → m ≤ 48 → sb_Lat (lr_T t s 0 w) (0 + K * w) a → sb_Fit a → post (nI (0 + K * w) * 10 + 1) (1, 0, h, z, 0, ml, nI (0 + K * w), a, m, 0, h2, z2, b2, w)) :
    ∀ (d i m kc ks : Nat) (a : Nat → Int32), i + d = K → 0 + i * w ≤ m → lr_B mc ms kc ks m → sb_Lat (lr_T t s 0 w) (0 + i * w) a → sb_Fit a → wX6_appendTimes_3_14 post mc ms x2 (d + 1) (nI (0 + i * w)) (nI i) kc ks 1 0 h z 0 ml (nI (0 + i * w)) a m 0 h2 z2 b2 w := by
  intro d
  induction d with
  | zero =>
    intro i m kc ks a hi hm hB hL hf
    obtain rfl : i = K := by omega
    obtain ⟨g1, g2, g3, _⟩ := hB
    rw [wX6_appendTimes_3_14]
    exact br_t ((hx i (by omega)).mpr (Nat.le_refl i)) (hp a m hm g3 hL hf)
  | succ d ih =>
    intro i m kc ks a hi hm hB hL hf
    rw [wX6_appendTimes_3_14]
    have hiK : (i + 1) * w ≤ K * w := Nat.mul_le_mul_right w (by omega)
    have e : 0 + (i + 1) * w = 0 + i * w + w := by
      rw [Nat.succ_mul]
      omega
    refine br_f (fun y => absurd ((hx i (by omega)).mp y) (by omega)) ⟨w + 1, ?_⟩
    refine lr_6i3 (i := i) (t := t) (s := s) (by omega) hw hs (fun kc2 ks2 m2 a2 hm2 hB2 hL2 hf2 => ?_) w 0 m kc ks a (by omega) hm hB hL hf
    have h9 := ih (i + 1) m2 kc2 ks2 a2 (by omega) (by rw [e]; exact hm2) hB2 (by rw [e]; exact hL2) hf2
    rw [e] at h9
    rw [nI_1]
    exact h9
/-- LinkedRecordsPlain.appendTimes, world 3 -/
theorem lr_63 {post : Int32 → St14 → Prop} {mc ms K : Nat} {x2 h z h2 z2 : Int32} {t : Nat → Nat} {s : Nat → Nat} {b2 : Nat → Int32} {w : Nat} (hK : K ≤ 6) (hx : ∀ i, i < 7 → (x2 ≤ nI i ↔ K ≤ i)) (hN : 0 + K * w ≤ 25) (hw : w ≤ 3) (hs : sb_Lat s w b2) (hmc : 3 ≤ mc) (hms : 75 ≤ ms)
    (hp : ∀ (a : Nat → Int32) (m : Nat), 0 + K * w ≤ m → m ≤ 48 → sb_Lat (lr_T t s 0 w) (0 + K * w) a → sb_Fit a → post (nI (0 + K * w) * 10 + 1) (1, 0, h, z, 0, 0, nI (0 + K * w), a, m, 0, h2, z2, b2, w)) : wpX6_appendTimes_3 post mc ms (0, 0, h, z, 0, h2, z2, b2, w) x2 := by
  refine ⟨2, 20, by omega, by omega, lr_x2C (t := t) (by omega) (by omega) (fun a1 hL1 hf1 => ⟨K + 1, ?_⟩)⟩
  have hB : lr_B mc ms (0 + 2) (0 + (20)) 16 := ⟨by omega, by omega, by omega, Or.inr ⟨by omega, by omega, by omega, by omega⟩⟩
  have e0 : 0 + 0 * w = 0 := by omega
  have h9 := lr_6l3 hK hx hN hw hs hp K 0 16 (0 + 2) (0 + (20)) a1 (by omega) (by omega) hB (by rw [e0]; exact lr_T0 hL1) hf1
  rw [e0] at h9
  exact h9
/-- LinkedRecordsPlain.appendTimes, world 4: the loop over the times -/
theorem lr_6l4 {post : Int32 → St16 → Prop} {mc ms K : Nat} {x2 ml h z h2 z2 : Int32} {t : Nat → Nat} (hK : K ≤ 6) (hx : ∀ i, i < 7 → (x2 ≤ nI i ↔ K ≤ i))  
    (hp : ∀ (a : Nat → Int32) (m : Nat), 0 ≤ m → m ≤ 48 → sb_Lat t 0 a → sb_Fit a → post (nI 0 * 10 + 1) (1, 0, h, z, 0, ml, nI 0, a, m, 0, h2, z2)) :
    ∀ (d i m kc ks : Nat) (a : Nat → Int32), i + d = K → 0 ≤ m → lr_B mc ms kc ks m → sb_Lat t 0 a → sb_Fit a → wX6_appendTimes_4_14 post mc ms x2 (d + 1) (nI 0) (nI i) kc ks 1 0 h z 0 ml (nI 0) a m 0 h2 z2 := by
  intro d
  induction d with
  | zero =>
    intro i m kc ks a hi hm hB hL hf
    obtain rfl : i = K := by omega
    obtain ⟨g1, g2, g3, _⟩ := hB
    rw [wX6_appendTimes_4_14]
    exact br_t ((hx i (by omega)).mpr (Nat.le_refl i)) (hp a m hm g3 hL hf)
  | succ d ih =>
    intro i m kc ks a hi hm hB hL hf
    rw [wX6_appendTimes_4_14]
    refine br_f (fun y => absurd ((hx i (by omega)).mp y) (by omega)) ⟨1, ?_⟩
    rw [wX6_appendTimes_4_23]
    refine lr_lenC (br_t (by decide) (nm_r (nI_1 i) ?_))
    exact ih (i + 1) m kc ks a (by omega) hm hB hL hf
/-- LinkedRecordsPlain.appendTimes, world 4 -/
theorem lr_64 {post : Int32 → St16 → Prop} {mc ms K : Nat} {x2 h z h2 z2 : Int32} {t : Nat → Nat} (hK : K ≤ 6) (hx : ∀ i, i < 7 → (x2 ≤ nI i ↔ K ≤ i))   (hmc : 3 ≤ mc) (hms : 75 ≤ ms)
    (hp : ∀ (a : Nat → Int32) (m : Nat), 0 ≤ m → m ≤ 48 → sb_Lat t 0 a → sb_Fit a → post (nI 0 * 10 + 1) (1, 0, h, z, 0, 0, nI 0, a, m, 0, h2, z2)) : wpX6_appendTimes_4 post mc ms (0, 0, h, z, 0, h2, z2) x2 := by
  refine ⟨2, 20, by omega, by omega, lr_x2C (t := t) (by omega) (by omega) (fun a1 hL1 hf1 => ⟨K + 1, ?_⟩)⟩
  have hB : lr_B mc ms (0 + 2) (0 + (20)) 16 := ⟨by omega, by omega, by omega, Or.inr ⟨by omega, by omega, by omega, by omega⟩⟩
  exact lr_6l4 hK hx hp K 0 16 (0 + 2) (0 + (20)) a1 (by omega) (by omega) hB hL1 hf1
end
section
/-- the law, world 1 -/
theorem lr_w1 {post : Int32 → St0 → Prop} {p0 p1 p2 x2 : Int32} {K n w : Nat} (hP : post 1 ()) (hK : K ≤ 6) (hx : ∀ i, i < 7 → (x2 ≤ nI i ↔ K ≤ i)) (ex : (((p2.toUInt32 >>> ((5 : Int32).toUInt32 &&& Int32.toUInt32 31)).toInt32) &&& 7) - 1 = x2) (en : p2 &&& 7 = nI n) (h0 : 0 < n) (hn : n ≤ 7) (ew : ((p2.toUInt32 >>> ((3 : Int32).toUInt32 &&& Int32.toUInt32 31)).toInt32) &&& 3 = nI w) (w0 : 0 < w) (hw : w ≤ 3) : wpL_lawOf post 43 680 () p0 p1 p2 := by
  have hKw : K * w ≤ 6 * 3 := Nat.mul_le_mul hK hw
  refine ⟨by omega, by omega, 3, 18, by omega, by omega, lr_text1 en h0 (by omega) (by omega) (by omega) (fun b hb hfb => ?_)⟩
  refine ⟨by omega, by omega, 3, 18, by omega, by omega, lr_text1 en h0 (by omega) (by omega) (by omega) (fun b1 hb1 hfb1 => ?_)⟩
  refine ⟨3, 18, by omega, by omega, lr_text1 ew w0 (by omega) (by omega) (by omega) (fun b2 hs hfs => ?_)⟩
  refine nm_r ex ⟨3, 75, by omega, by omega, lr_51 hK hx (by omega) hw hs hfs hn hb hfb (by omega) (by omega) (fun a m hm h48 hL hf => ?_)⟩
  refine ⟨3, 75, by omega, by omega, lr_61 hK hx (by omega) hw hs hn hb1 hfb1 (by omega) (by omega) (fun a2 m2 hm2 h482 hL2 hf2 => ?_)⟩
  refine br_t rfl (br_t rfl ⟨0, 0, by omega, by omega, 2, 29, by omega, by omega, ?_⟩)
  refine sb_toString hm (by omega) hL hf (by omega) (by omega) (fun c hLc hfc => ⟨0, 0, by omega, by omega, 2, 29, by omega, by omega, ?_⟩)
  refine sb_toString hm2 (by omega) hL2 hf2 (by omega) (by omega) (fun c2 hLc2 hfc2 => ?_)
  exact sv_equals (by omega) (fun j hj => (hLc j hj).2.trans (hLc2 j hj).2.symm) (br_f (by decide) hP)
/-- the law, world 2 -/
theorem lr_w2 {post : Int32 → St0 → Prop} {p0 p1 p2 x2 : Int32} {K n : Nat} (hP : post 1 ()) (hK : K ≤ 6) (hx : ∀ i, i < 7 → (x2 ≤ nI i ↔ K ≤ i)) (ex : (((p2.toUInt32 >>> ((5 : Int32).toUInt32 &&& Int32.toUInt32 31)).toInt32) &&& 7) - 1 = x2) (en : p2 &&& 7 = nI n) (h0 : 0 < n) (hn : n ≤ 7) (ew : ((p2.toUInt32 >>> ((3 : Int32).toUInt32 &&& Int32.toUInt32 31)).toInt32) &&& 3 = nI 0) : wpL_lawOf post 43 680 () p0 p1 p2 := by
  refine ⟨by omega, by omega, 3, 18, by omega, by omega, lr_text1 en h0 (by omega) (by omega) (by omega) (fun b hb hfb => ?_)⟩
  refine ⟨by omega, by omega, 3, 18, by omega, by omega, lr_text1 en h0 (by omega) (by omega) (by omega) (fun b1 hb1 hfb1 => ?_)⟩
  refine ⟨3, 18, by omega, by omega, lr_text0 ew (by omega) (by omega) ?_⟩
  refine nm_r ex ⟨3, 75, by omega, by omega, lr_52 hK hx (by omega) hn hb hfb (by omega) (by omega) (fun a m hm h48 hL hf => ?_)⟩
  refine ⟨3, 75, by omega, by omega, lr_62 hK hx (by omega) hn hb1 hfb1 (by omega) (by omega) (fun a2 m2 hm2 h482 hL2 hf2 => ?_)⟩
  refine br_t rfl (br_t rfl ⟨0, 0, by omega, by omega, 2, 29, by omega, by omega, ?_⟩)
  refine sb_toString hm (by omega) hL hf (by omega) (by omega) (fun c hLc hfc => ⟨0, 0, by omega, by omega, 2, 29, by omega, by omega, ?_⟩)
  refine sb_toString hm2 (by omega) hL2 hf2 (by omega) (by omega) (fun c2 hLc2 hfc2 => ?_)
  exact sv_equals (by omega) (fun j hj => (hLc j hj).2.trans (hLc2 j hj).2.symm) (br_f (by decide) hP)
/-- the law, world 3 -/
theorem lr_w3 {post : Int32 → St0 → Prop} {p0 p1 p2 x2 : Int32} {K w : Nat} (hP : post 1 ()) (hK : K ≤ 6) (hx : ∀ i, i < 7 → (x2 ≤ nI i ↔ K ≤ i)) (ex : (((p2.toUInt32 >>> ((5 : Int32).toUInt32 &&& Int32.toUInt32 31)).toInt32) &&& 7) - 1 = x2) (en : p2 &&& 7 = nI 0) (ew : ((p2.toUInt32 >>> ((3 : Int32).toUInt32 &&& Int32.toUInt32 31)).toInt32) &&& 3 = nI w) (w0 : 0 < w) (hw : w ≤ 3) : wpL_lawOf post 43 680 () p0 p1 p2 := by
  have hKw : K * w ≤ 6 * 3 := Nat.mul_le_mul hK hw
  refine ⟨by omega, by omega, 3, 18, by omega, by omega, lr_text0 en (by omega) (by omega) ?_⟩
  refine ⟨by omega, by omega, 3, 18, by omega, by omega, lr_text0 en (by omega) (by omega) ?_⟩
  refine ⟨3, 18, by omega, by omega, lr_text1 ew w0 (by omega) (by omega) (by omega) (fun b2 hs hfs => ?_)⟩
  refine nm_r ex ⟨3, 75, by omega, by omega, lr_53 (t := fun _ => 0) hK hx (by omega) hw hs hfs (by omega) (by omega) (fun a m hm h48 hL hf => ?_)⟩
  refine ⟨3, 75, by omega, by omega, lr_63 (t := fun _ => 0) hK hx (by omega) hw hs (by omega) (by omega) (fun a2 m2 hm2 h482 hL2 hf2 => ?_)⟩
  refine br_t rfl (br_t rfl ⟨0, 0, by omega, by omega, 2, 29, by omega, by omega, ?_⟩)
  refine sb_toString hm (by omega) hL hf (by omega) (by omega) (fun c hLc hfc => ⟨0, 0, by omega, by omega, 2, 29, by omega, by omega, ?_⟩)
  refine sb_toString hm2 (by omega) hL2 hf2 (by omega) (by omega) (fun c2 hLc2 hfc2 => ?_)
  exact sv_equals (by omega) (fun j hj => (hLc j hj).2.trans (hLc2 j hj).2.symm) (br_f (by decide) hP)
/-- the law, world 4 -/
theorem lr_w4 {post : Int32 → St0 → Prop} {p0 p1 p2 x2 : Int32} {K : Nat} (hP : post 1 ()) (hK : K ≤ 6) (hx : ∀ i, i < 7 → (x2 ≤ nI i ↔ K ≤ i)) (ex : (((p2.toUInt32 >>> ((5 : Int32).toUInt32 &&& Int32.toUInt32 31)).toInt32) &&& 7) - 1 = x2) (en : p2 &&& 7 = nI 0) (ew : ((p2.toUInt32 >>> ((3 : Int32).toUInt32 &&& Int32.toUInt32 31)).toInt32) &&& 3 = nI 0) : wpL_lawOf post 43 680 () p0 p1 p2 := by
  refine ⟨by omega, by omega, 3, 18, by omega, by omega, lr_text0 en (by omega) (by omega) ?_⟩
  refine ⟨by omega, by omega, 3, 18, by omega, by omega, lr_text0 en (by omega) (by omega) ?_⟩
  refine ⟨3, 18, by omega, by omega, lr_text0 ew (by omega) (by omega) ?_⟩
  refine nm_r ex ⟨3, 75, by omega, by omega, lr_54 (t := fun _ => 0) hK hx (by omega) (by omega) (fun a m hm h48 hL hf => ?_)⟩
  refine ⟨3, 75, by omega, by omega, lr_64 (t := fun _ => 0) hK hx (by omega) (by omega) (fun a2 m2 hm2 h482 hL2 hf2 => ?_)⟩
  refine br_t rfl (br_t rfl ⟨0, 0, by omega, by omega, 2, 29, by omega, by omega, ?_⟩)
  refine sb_toString hm (by omega) hL hf (by omega) (by omega) (fun c hLc hfc => ⟨0, 0, by omega, by omega, 2, 29, by omega, by omega, ?_⟩)
  refine sb_toString hm2 (by omega) hL2 hf2 (by omega) (by omega) (fun c2 hLc2 hfc2 => ?_)
  exact sv_equals (by omega) (fun j hj => (hLc j hj).2.trans (hLc2 j hj).2.symm) (br_f (by decide) hP)
theorem lr_lawOf {post : Int32 → St0 → Prop} {p0 p1 p2 : Int32} (hP : post 1 ()) : wpL_lawOf post 43 680 () p0 p1 p2 := by
  obtain ⟨n, hn, en⟩ := pk_andE p2 3 (m := 7) (by decide)
  obtain ⟨w, hw, ew⟩ := pk_andE ((p2.toUInt32 >>> ((3 : Int32).toUInt32 &&& Int32.toUInt32 31)).toInt32) 2 (m := 3) (by decide)
  obtain ⟨k, hk, ek⟩ := pk_andE ((p2.toUInt32 >>> ((5 : Int32).toUInt32 &&& Int32.toUInt32 31)).toInt32) 3 (m := 7) (by decide)
  have hx := lr_hx k hk
  have ex := congrArg (fun y => y - 1) ek
  rcases Nat.eq_zero_or_pos n with rfl | n0
  · rcases Nat.eq_zero_or_pos w with rfl | w0
    · exact lr_w4 (K := k - 1) hP (by omega) hx ex en ew
    · exact lr_w3 (K := k - 1) hP (by omega) hx ex en ew w0 (by omega)
  · rcases Nat.eq_zero_or_pos w with rfl | w0
    · exact lr_w2 (K := k - 1) hP (by omega) hx ex en n0 (by omega) ew
    · exact lr_w1 (K := k - 1) hP (by omega) hx ex en n0 (by omega) ew w0 (by omega)
theorem lr_cell {post : Int32 → Prop} {xs : Nat → Int32} {L k : Nat} (hL : L ≤ 3) (hk : k < 3) (hp : ∀ r, post r) : wpL_cellAt post L xs () (nI k) :=
  pk_le L k (fun _ => hp 0) (fun h => ⟨vp_in_nI h (by omega), hp _⟩)
theorem i_vc (xs : Nat → Int32) (L : Nat) (hL : L ≤ 3) : wpL_law (fun r => r = 1) L xs :=
  lr_cell (k := 0) hL (by omega) (fun _ => lr_cell (k := 1) hL (by omega) (fun _ => lr_cell (k := 2) hL (by omega) (fun _ => ⟨43, 680, by omega, by omega, lr_lawOf rfl⟩)))
end
