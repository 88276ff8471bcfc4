section
/-! pk_: rows of the kit's PURE-ROWS, pasted; sp_: rows of this claim -/
theorem pk_us {f : Nat → Int32} {k : Nat} {x : Int32} : upd f k x k = x := if_pos rfl
theorem pk_un {f : Nat → Int32} {k j : Nat} {x : Int32} (h : j ≠ k) : upd f k x j = f j := if_neg h
theorem pk_mul (a b : Nat) : nI a * nI b = nI (a * b) := (Int32.ofNat_mul a b).symm
theorem pk_and (x : Int32) {m : Int32} (k : Nat) (hm : m.toBitVec.toNat = 2 ^ k - 1) : x &&& m = nI (x.toBitVec.toNat % 2 ^ k) := by
  apply Int32.toBitVec_inj.mp
  apply BitVec.eq_of_toNat_eq
  rw [Int32.toBitVec_and, BitVec.toNat_and, hm, Nat.and_two_pow_sub_one_eq_mod]
  show _ = (BitVec.ofNat 32 _).toNat
  rw [BitVec.toNat_ofNat]
  exact (Nat.mod_eq_of_lt (Nat.lt_of_le_of_lt (Nat.mod_le _ _) x.toBitVec.isLt)).symm
theorem pk_andE (x : Int32) {m : Int32} (k : Nat) (hm : m.toBitVec.toNat = 2 ^ k - 1) : ∃ j : Nat, j < 2 ^ k ∧ x &&& m = nI j := ⟨_, Nat.mod_lt _ (Nat.two_pow_pos k), pk_and x k hm⟩
theorem sp_8 (q j : Nat) : 8 * nI q + nI j = nI (8 * q + j) := by
  rw [show (8 : Int32) = nI 8 from rfl, pk_mul, nI_add]
theorem sp_80 (q : Nat) : 8 * nI q = nI (8 * q) := by
  rw [show (8 : Int32) = nI 8 from rfl, pk_mul]
theorem sp_88 (q : Nat) : 8 * nI q + 8 = nI (8 * q + 8) := sp_8 q 8
theorem sp_4 (q j : Nat) : 4 * nI q + nI j = nI (4 * q + j) := by
  rw [show (4 : Int32) = nI 4 from rfl, pk_mul, nI_add]
theorem sp_nm1 {n : Nat} (h : n < 2 ^ 31) : nI n ≠ -1 := by
  intro k
  have h1 := nI_toInt h
  rw [k, show (-1 : Int32).toInt = -1 from by decide] at h1
  omega
/-- an updated cell that holds the value already -/
theorem sp_same {f : Nat → Int32} {k : Nat} {x : Int32} (h : f k = x) : upd f k x = f := by
  funext j
  by_cases hj : j = k
  · rw [hj, pk_us, h]
  · rw [pk_un hj]
/-- an int within 0 .. M or not -/
theorem sp_rg (x : Int32) {M : Int32} {N : Nat} (hM : M.toInt = N) : (x < 0 ∨ M < x) ∨ ∃ j : Nat, j ≤ N ∧ x = nI j := by
  by_cases h : x < 0
  · exact Or.inl (Or.inl h)
  · by_cases h2 : x ≤ M
    · exact Or.inr (nI_of2 hM h h2)
    · exact Or.inl (Or.inr (Int32.not_le.mp h2))
/-- -1 or a number below 8 -/
theorem sp_mid {x : Int32} (h1 : ¬ x < -1) (h2 : x ≤ 7) : x = -1 ∨ ∃ j : Nat, j < 8 ∧ x = nI j := by
  by_cases h : x < 0
  · refine Or.inl (Int32.toInt_inj.mp ?_)
    rw [Int32.lt_iff_toInt_lt] at h h1
    rw [show (-1 : Int32).toInt = -1 from by decide] at h1 ⊢
    rw [show (0 : Int32).toInt = 0 from by decide] at h
    omega
  · obtain ⟨j, hj, e⟩ := nI_of2 (M := 7) (n := 7) (by decide) h h2
    exact Or.inr ⟨j, by omega, e⟩
theorem sp_bad {x M : Int32} {A B : Prop} (h : x < 0 ∨ M < x) (a : A) : (x < 0 → A) ∧ (¬ x < 0 → ((x ≤ M → B) ∧ (¬ x ≤ M → A))) :=
  br_c (fun _ => a) (fun h0 => br_f (fun h1 => h.elim h0 (fun h2 => Int32.not_le.mpr h2 h1)) a)
theorem sp_bad2 {x M : Int32} {A B : Prop} (h : x < 0 ∨ M < x) (a : A) : (x < 0 → A) ∧ (¬ x < 0 → ((M < x → A) ∧ (¬ M < x → B))) :=
  br_c (fun _ => a) (fun h0 => br_t (h.elim (fun h1 => absurd h1 h0) id) a)
theorem sp_n0 {post : Int32 → Prop} {x : Int32} (h : x < 0 ∨ 7 < x) (a : post 0) : wpX_isNumber post x :=
  sp_bad2 h a
theorem sp_n1 {post : Int32 → Prop} {j : Nat} (h : j ≤ 7) (a : post 1) : wpX_isNumber post (nI j) :=
  br_f (nI_pos (by omega)) (br_f (nI_nlt (a := 7) h (by decide)) a)
theorem sp_s0 {post : Int32 → Prop} {x : Int32} (h : x < 0 ∨ 1 < x) (a : post 0) : wpX_isSpace post x :=
  br_f (fun k => by rw [k] at h; revert h; decide) (br_f (fun k => by rw [k] at h; revert h; decide) a)
theorem sp_s1 {post : Int32 → Prop} {j : Nat} (h : j ≤ 1) (a : post 1) : wpX_isSpace post (nI j) := by
  have h2 : j = 0 ∨ j = 1 := by omega
  rcases h2 with rfl | rfl
  · exact br_t rfl a
  · exact br_f (by decide) (br_t rfl a)
theorem sp_o1 {post : Int32 → Prop} {x M : Int32} (h : x < 0 ∨ M < x) (a : post 1) : wpY_outside post x M :=
  sp_bad h a
theorem sp_o0 {post : Int32 → Prop} {j N : Nat} (h : j ≤ N) (hN : N < 2 ^ 31) (a : post 0) : wpY_outside post (nI j) (nI N) :=
  br_f (nI_pos (by omega)) (br_t (nI_le h hN) a)
/-- the bits: a right of the joined entry is a right of both -/
theorem sp_and1 {g h x : Int32} (k : g &&& x = 0) : (g &&& h) &&& x = 0 := by
  rw [Int32.and_comm g h, Int32.and_assoc, k, Int32.and_zero]
theorem sp_and2 {g h x : Int32} (k : h &&& x = 0) : (g &&& h) &&& x = 0 := by
  rw [Int32.and_assoc, k, Int32.and_zero]
theorem sp_and3 {g x : Int32} (k : g &&& x = 0) : (g &&& (-3)) &&& x = 0 := sp_and1 k
theorem sp_and4 (g : Int32) : (g &&& (-3)) &&& 2 = 0 := by
  rw [Int32.and_assoc, show (-3 : Int32) &&& 2 = 0 from by decide, Int32.and_zero]
end
section
/-- from x along the links nX through the list's numbers, to -1 -/
def sp_ck (nX : Nat → Int32) : Int32 → List Nat → Prop
  | x, [] => x = -1
  | x, e :: t => x = nI e ∧ e < 16 ∧ sp_ck nX (nX e) t
/-- L m: the filled entries joined over middle page m, in the order of the links -/
def sp_CH (sF sM hD nX : Nat → Int32) (L : Nat → List Nat) : Prop :=
  (∀ e, e < 16 → 0 ≤ sF e → ∃ m : Nat, m < 8 ∧ sM e = nI m) ∧
  ∀ m, m < 8 → sp_ck nX (hD m) (L m) ∧ (L m).Nodup ∧ ∀ e, e ∈ L m ↔ (e < 16 ∧ 0 ≤ sF e ∧ sM e = nI m)
/-- what a filled shadow entry holds -/
def sp_CT (gM gR tC cH hF hR hC sF sR sM : Nat → Int32) : Prop :=
  ∀ e, e < 16 → 0 ≤ sF e → ∃ m : Nat, m < 8 ∧ gM e = nI m ∧ sM e = nI m ∧ sF e = hF m ∧ tC e = 1 ∧
    ((sR e = gR e &&& hR m ∧ cH e = 1 ∧ hC m = 1) ∨ sR e = (gR e &&& hR m) &&& (-3))
/-- the ranges -/
def sp_RG (fp : Int32) (gM cH hF hC : Nat → Int32) : Prop :=
  (∃ q : Nat, q < 2 ∧ fp = nI q) ∧
  (∀ e, e < 16 → gM e = -1 ∨ ∃ m : Nat, m < 8 ∧ gM e = nI m) ∧
  (∀ m, m < 8 → hF m = -1 ∨ ∃ f : Nat, f < 8 ∧ hF m = nI f) ∧
  (∀ e, e < 16 → cH e = 0 ∨ cH e = 1) ∧
  (∀ m, m < 8 → hC m = 0 ∨ hC m = 1)
def sp_I (fp : Int32) (gM gR tC cH hF hR hC sF sR sM hD nX : Nat → Int32) : Prop :=
  sp_RG fp gM cH hF hC ∧ sp_CT gM gR tC cH hF hR hC sF sR sM ∧ ∃ L : Nat → List Nat, sp_CH sF sM hD nX L
/-- the relation: Y's fields are X's; X's shadow is in order -/
def i_Rel (k : Nat) (u : SX) (v : SY) : Prop := match u with
  | (fp, fl, gM, gR, tC, cH, hF, hR, hC, cE, sF, sR, sM, hD, nX) => v = (fp, fl, gM, gR, tC, cH, hF, hR, hC, cE) ∧ sp_I fp gM gR tC cH hF hR hC sF sR sM hD nX
theorem i_up {k : Nat} {u : SX} {v : SY} (h : i_Rel k u v) : i_Rel (k + 5) u v := h
theorem sp_ck_upd {nX : Nat → Int32} {q : Nat} {z : Int32} : ∀ (t : List Nat) (x : Int32), q ∉ t → sp_ck nX x t → sp_ck (upd nX q z) x t
  | [], _, _, h => h
  | e :: t, x, hq, h => by
    have h1 : e ≠ q := fun k => hq (by rw [k]; exact List.mem_cons_self)
    have h2 : q ∉ t := fun k => hq (List.mem_cons_of_mem _ k)
    refine ⟨h.1, h.2.1, ?_⟩
    rw [pk_un h1]
    exact sp_ck_upd t _ h2 h.2.2
theorem sp_len {L : List Nat} (h : L.Nodup) (h2 : ∀ x, x ∈ L → x < 16) : L.length ≤ 16 := by
  have h3 : L ⊆ List.range 16 := fun x hx => List.mem_range.mpr (h2 x hx)
  have h4 := List.Nodup.length_le_of_subset h h3
  rw [List.length_range] at h4
  exact h4
theorem sp_m1 : ¬ (0 : Int32) ≤ -1 := by decide
/-- the lists' members when one entry is taken back -/
theorem sp_mb {sF sM hD nX : Nat → Int32} {L : Nat → List Nat} (H : sp_CH sF sM hD nX L) (e : Nat) {m : Nat} (hm : m < 8) : ((L m).erase e).Nodup ∧ ∀ x, x ∈ (L m).erase e ↔ (x < 16 ∧ 0 ≤ upd sF e (-1) x ∧ sM x = nI m) := by
  obtain ⟨_, hn, hi⟩ := H.2 m hm
  refine ⟨hn.erase e, fun x => ?_⟩
  rw [hn.mem_erase_iff, hi x]
  by_cases hx : x = e
  · rw [hx, pk_us]
    exact ⟨fun h => absurd rfl h.1, fun h => absurd h.2.1 sp_m1⟩
  · rw [pk_un hx]
    exact ⟨fun h => h.2, fun h => ⟨hx, h⟩⟩
theorem sp_ma {sF sM hD nX : Nat → Int32} {L : Nat → List Nat} (H : sp_CH sF sM hD nX L) (e : Nat) : ∀ x, x < 16 → 0 ≤ upd sF e (-1) x → ∃ m : Nat, m < 8 ∧ sM x = nI m := by
  intro x hx h
  by_cases hxe : x = e
  · rw [hxe, pk_us] at h
    exact absurd h sp_m1
  · rw [pk_un hxe] at h
    exact H.1 x hx h
theorem sp_inj {m n : Nat} (hm : m < 8) (hn : n < 8) (h : nI m = nI n) : m = n := (nI_eq (by omega) (by omega)).mp h
/-- an entry is put ahead of its list -/
theorem sp_ins {sF sM hD nX : Nat → Int32} {L : Nat → List Nat} (H : sp_CH sF sM hD nX L) {e m : Nat} {z : Int32} (he : e < 16) (hm : m < 8) (hn : ¬ 0 ≤ sF e) (hz : 0 ≤ z) :
    sp_CH (upd sF e z) (upd sM e (nI m)) (upd hD m (nI e)) (upd nX e (hD m)) (fun n => if n = m then e :: L m else L n) := by
  have hno : ∀ n, n < 8 → e ∉ L n := fun n hn8 k => hn (((H.2 n hn8).2.2 e).mp k).2.1
  refine ⟨?_, ?_⟩
  · intro x hx h
    by_cases hxe : x = e
    · exact ⟨m, hm, by rw [hxe, pk_us]⟩
    · rw [pk_un hxe] at h ⊢
      exact H.1 x hx h
  · intro n hn8
    obtain ⟨hc, hd, hi⟩ := H.2 n hn8
    dsimp only
    by_cases hnm : n = m
    · subst hnm
      rw [if_pos rfl, pk_us]
      refine ⟨⟨rfl, he, ?_⟩, List.nodup_cons.mpr ⟨hno n hn8, hd⟩, ?_⟩
      · rw [pk_us]
        exact sp_ck_upd _ _ (hno n hn8) hc
      · intro x
        by_cases hxe : x = e
        · rw [hxe, pk_us, pk_us]
          exact ⟨fun _ => ⟨he, hz, rfl⟩, fun _ => List.mem_cons_self⟩
        · rw [pk_un hxe, pk_un hxe, ← hi x]
          exact ⟨fun h => (List.mem_cons.mp h).elim (fun k => absurd k hxe) id, fun h => List.mem_cons_of_mem _ h⟩
    · rw [if_neg hnm, pk_un hnm]
      refine ⟨sp_ck_upd _ _ (hno n hn8) hc, hd, ?_⟩
      intro x
      by_cases hxe : x = e
      · rw [hxe, pk_us, pk_us]
        exact ⟨fun h => absurd h (hno n hn8), fun h => absurd (sp_inj hm hn8 h.2.2).symm hnm⟩
      · rw [pk_un hxe, pk_un hxe]
        exact hi x
end
section
section
variable {fp fl : Int32} {gM gR tC cH hF hR hC cE sF sR sM hD nX : Nat → Int32}
/-- X's search for the entry ahead of e in its list -/
theorem sp_walk {e : Nat} (he : e < 16) : ∀ (t : List Nat) (b : Nat), (b :: t).Nodup → sp_ck nX (nI b) (b :: t) → b ≠ e → e ∈ t →
    ∃ q : Nat, q ∈ b :: t ∧ q < 16 ∧ sp_ck (upd nX q (nX e)) (nI b) ((b :: t).erase e) ∧
      ∀ (post : SX → Prop) (n s : Nat), t.length < n → s + t.length ≤ 16 → wX_takeBack_87 post (nI e) (nI q) fp fl gM gR tC cH hF hR hC cE sF sR sM hD nX → wX_takeBack_57 post (nI e) fp fl gM gR tC cH hF hR hC cE sF sR sM hD nX n (nI b) (nI s) := by
  intro t
  induction t with
  | nil => intro b _ _ _ h; exact absurd h List.not_mem_nil
  | cons c t ih =>
    intro b hnd hck hbe hmem
    obtain ⟨_, hb, hnb, hc, hct⟩ := hck
    obtain ⟨hb1, hb2⟩ := List.nodup_cons.mp hnd
    have cb : (nI b).toNatClampNeg = b := nI_clamp (by omega)
    have ib : vp_in (nI b) 16 := vp_in_nI hb (by decide)
    have hbe' : (b == e) = false := beq_false_of_ne hbe
    have hnx : nX (nI b).toNatClampNeg = nI c := by rw [cb]; exact hnb
    by_cases hce : c = e
    · subst hce
      refine ⟨b, List.mem_cons_self, hb, ?_, ?_⟩
      · rw [List.erase_cons_tail (by rw [hbe']; decide), List.erase_cons_head]
        refine ⟨rfl, hb, ?_⟩
        rw [pk_us]
        exact sp_ck_upd _ _ (fun k => hb1 (List.mem_cons_of_mem _ k)) hct
      · intro post n s hn hs h
        rw [List.length_cons] at hn hs
        obtain ⟨n, rfl⟩ : ∃ k, n = k + 1 := ⟨n - 1, by omega⟩
        exact br_f (nI_ge (b := 16) (by omega) (by decide)) ⟨ib, br_t hnx h⟩
    · have hm2 : e ∈ t := (List.mem_cons.mp hmem).elim (fun k => absurd k.symm hce) id
      obtain ⟨q, hq, hq16, hqc, hqw⟩ := ih c hb2 ⟨rfl, hc, hct⟩ hce hm2
      refine ⟨q, List.mem_cons_of_mem _ hq, hq16, ?_, ?_⟩
      · rw [List.erase_cons_tail (by rw [hbe']; decide)]
        refine ⟨rfl, hb, ?_⟩
        have hbq : b ≠ q := fun k => hb1 (by rw [k]; exact hq)
        rw [pk_un hbq, hnb]
        exact hqc
      · intro post n s hn hs h
        rw [List.length_cons] at hn hs
        obtain ⟨n, rfl⟩ : ∃ k, n = k + 1 := ⟨n - 1, by omega⟩
        have hne : ¬ nX (nI b).toNatClampNeg = nI e := by
          rw [hnx]
          exact fun k => hce ((nI_eq (by omega) (by omega)).mp k)
        exact br_f (nI_ge (b := 16) (by omega) (by decide)) ⟨ib, br_f hne ⟨ib, nm_r hnx (nm_r (nI_1 s) (hqw post n (s + 1) (by omega) (by omega) h))⟩⟩
/-- takeBack: the entry is out of its list -/
theorem sp_tb {L : Nat → List Nat} (H : sp_CH sF sM hD nX L) {e : Nat} (he : e < 16) :
    ∃ sF' hD' nX' : Nat → Int32, sp_CH sF' sM hD' nX' (fun m => (L m).erase e) ∧ ¬ 0 ≤ sF' e ∧ (∀ j, j ≠ e → sF' j = sF j) ∧
      ∀ post : SX → Prop, post (fp, fl, gM, gR, tC, cH, hF, hR, hC, cE, sF', sR, sM, hD', nX') → wpX_takeBack post (fp, fl, gM, gR, tC, cH, hF, hR, hC, cE, sF, sR, sM, hD, nX) (nI e) := by
  have ce : (nI e).toNatClampNeg = e := nI_clamp (by omega)
  have ie : vp_in (nI e) 16 := vp_in_nI he (by decide)
  by_cases h0 : 0 ≤ sF e
  · obtain ⟨m, hm, sm⟩ := H.1 e he h0
    have cm : (nI m).toNatClampNeg = m := nI_clamp (by omega)
    have im : vp_in (nI m) 8 := vp_in_nI hm (by decide)
    obtain ⟨hck, hnd, hi⟩ := H.2 m hm
    have hmem : e ∈ L m := (hi e).mpr ⟨he, h0, sm⟩
    have hoth : ∀ n, n < 8 → n ≠ m → e ∉ L n := fun n hn hnm k => hnm (sp_inj hm hn (sm.symm.trans (((H.2 n hn).2.2 e).mp k).2.2)).symm
    by_cases hh : hD m = nI e
    · refine ⟨upd sF e (-1), upd hD m (nX e), nX, ⟨sp_ma H e, ?_⟩, by rw [pk_us]; exact sp_m1, fun j hj => pk_un hj, ?_⟩
      · intro n hn
        refine ⟨?_, sp_mb H e hn⟩
        dsimp only
        by_cases hnm : n = m
        · subst hnm
          rw [pk_us]
          generalize hL : L n = l at hck hmem
          cases l with
          | nil => exact absurd hmem List.not_mem_nil
          | cons b t =>
            have hbe : b = e := (nI_eq (by have := hck.2.1; omega) (by omega)).mp (hck.1.symm.trans hh)
            subst hbe
            rw [List.erase_cons_head]
            exact hck.2.2
        · rw [pk_un hnm, List.erase_of_not_mem (hoth n hn hnm)]
          exact (H.2 n hn).1
      · intro post h
        unfold wpX_takeBack
        dsimp only
        simp only [ce]
        exact ⟨ie, br_t h0 ⟨ie, nm_e ⟨ie, nm_r sm ⟨im, br_t (by rw [cm]; exact hh) ⟨ie, ⟨im, nm_r (by rw [cm]) h⟩⟩⟩⟩⟩⟩
    · generalize hL : L m = l at hck hnd hmem
      cases l with
      | nil => exact absurd hmem List.not_mem_nil
      | cons b t =>
        have hb : hD m = nI b := hck.1
        have hbe : b ≠ e := fun k => hh (by rw [hb, k])
        have hm2 : e ∈ t := (List.mem_cons.mp hmem).elim (fun k => absurd k.symm hbe) id
        obtain ⟨q, hq, hq16, hqc, hqw⟩ := sp_walk (fp := fp) (fl := fl) (gM := gM) (gR := gR) (tC := tC) (cH := cH) (hF := hF) (hR := hR) (hC := hC) (cE := cE) (sF := upd sF e (-1)) (sR := sR) (sM := sM) (hD := hD) he t b hnd ⟨rfl, hck.2⟩ hbe hm2
        have hqm : sM q = nI m := ((hi q).mp (by rw [hL]; exact hq)).2.2
        have hlen : (b :: t).length ≤ 16 := sp_len hnd (fun x hx => ((hi x).mp (by rw [hL]; exact hx)).1)
        rw [List.length_cons] at hlen
        have cq : (nI q).toNatClampNeg = q := nI_clamp (by omega)
        have iq : vp_in (nI q) 16 := vp_in_nI hq16 (by decide)
        refine ⟨upd sF e (-1), hD, upd nX q (nX e), ⟨sp_ma H e, ?_⟩, by rw [pk_us]; exact sp_m1, fun j hj => pk_un hj, ?_⟩
        · intro n hn
          refine ⟨?_, sp_mb H e hn⟩
          dsimp only
          by_cases hnm : n = m
          · subst hnm
            rw [hL, hb]
            exact hqc
          · rw [List.erase_of_not_mem (hoth n hn hnm)]
            refine sp_ck_upd _ _ ?_ (H.2 n hn).1
            exact fun k => hnm (sp_inj hm hn (hqm.symm.trans (((H.2 n hn).2.2 q).mp k).2.2)).symm
        · intro post h
          have h87 : wX_takeBack_87 post (nI e) (nI q) fp fl gM gR tC cH hF hR hC cE (upd sF e (-1)) sR sM hD nX := by
            unfold wX_takeBack_87
            exact ⟨ie, iq, nm_r (by rw [ce, cq]) h⟩
          unfold wpX_takeBack
          dsimp only
          simp only [ce]
          exact ⟨ie, br_t h0 ⟨ie, nm_e ⟨ie, nm_r sm ⟨im, br_f (by rw [cm]; exact hh) ⟨im, nm_r (by rw [cm]; exact hb) ⟨17, hqw post 17 0 (by omega) (by omega) h87⟩⟩⟩⟩⟩⟩
  · refine ⟨sF, hD, nX, ⟨H.1, ?_⟩, h0, fun _ _ => rfl, ?_⟩
    · intro n hn
      have h1 := H.2 n hn
      have h2 : e ∉ L n := fun k => h0 ((h1.2.2 e).mp k).2.1
      dsimp only
      rw [List.erase_of_not_mem h2]
      exact h1
    · intro post h
      unfold wpX_takeBack
      dsimp only
      simp only [ce]
      exact ⟨ie, br_f h0 h⟩
/-- fillIn: the entry is filled, and first in its list -/
theorem sp_fi {L : Nat → List Nat} (H : sp_CH sF sM hD nX L) {e m : Nat} (he : e < 16) (hm : m < 8) (h0 : 0 ≤ hF m) :
    ∃ (sF' sR' sM' hD' nX' : Nat → Int32) (L' : Nat → List Nat), sp_CH sF' sM' hD' nX' L' ∧ sF' e = hF m ∧ sM' e = nI m ∧
      ((sR' e = gR e &&& hR m ∧ ¬ cH e = 0 ∧ ¬ hC m = 0) ∨ sR' e = (gR e &&& hR m) &&& (-3)) ∧
      (∀ j, j ≠ e → sF' j = sF j ∧ sR' j = sR j ∧ sM' j = sM j) ∧
      ∀ post : SX → Prop, post (fp, fl, gM, gR, tC, cH, hF, hR, hC, cE, sF', sR', sM', hD', nX') → wpX_fillIn post (fp, fl, gM, gR, tC, cH, hF, hR, hC, cE, sF, sR, sM, hD, nX) (nI e) (nI m) := by
  have ce : (nI e).toNatClampNeg = e := nI_clamp (by omega)
  have ie : vp_in (nI e) 16 := vp_in_nI he (by decide)
  have cm : (nI m).toNatClampNeg = m := nI_clamp (by omega)
  have im : vp_in (nI m) 8 := vp_in_nI hm (by decide)
  obtain ⟨sF1, hD1, nX1, H1, n1, k1, W⟩ := sp_tb (fp := fp) (fl := fl) (gM := gM) (gR := gR) (tC := tC) (cH := cH) (hF := hF) (hR := hR) (hC := hC) (cE := cE) (sR := sR) H he
  have H2 := sp_ins H1 he hm n1 h0
  have K : ∀ (z : Int32) (post : SX → Prop), post (fp, fl, gM, gR, tC, cH, hF, hR, hC, cE, upd sF1 e (hF m), upd sR e z, upd sM e (nI m), upd hD1 m (nI e), upd nX1 e (hD1 m)) →
      wX_fillIn_74 post (nI e) (nI m) z (nI e) fp fl gM gR tC cH hF hR hC cE (upd sF1 e (hF m)) sR sM hD1 nX1 := by
    intro z post h
    unfold wX_fillIn_74
    simp only [ce, cm]
    exact ⟨ie, nm_e ⟨ie, nm_e ⟨im, ⟨ie, nm_e ⟨im, nm_e h⟩⟩⟩⟩⟩
  by_cases c : cH e = 0 ∨ hC m = 0
  · refine ⟨_, upd sR e ((gR e &&& hR m) &&& (-3)), _, _, _, _, H2, pk_us, pk_us, Or.inr pk_us, ?_, ?_⟩
    · intro j hj
      exact ⟨by rw [pk_un hj]; exact k1 j hj, pk_un hj, pk_un hj⟩
    · intro post h
      have K41 : wX_fillIn_41 post (nI e) (nI m) (gR e &&& hR m) fp fl gM gR tC cH hF hR hC cE sF1 sR sM hD1 nX1 := by
        unfold wX_fillIn_41 wX_fillIn_42
        simp only [ce, cm]
        exact ⟨im, ie, nm_e (br_t (by trivial) (K _ _ h))⟩
      unfold wpX_fillIn
      dsimp only
      refine W _ ?_
      dsimp only
      simp only [ce, cm]
      refine ⟨ie, im, nm_e ⟨ie, ?_⟩⟩
      rcases c with c | c
      · exact br_t c K41
      · exact br_c (fun _ => K41) (fun _ => ⟨im, br_t c K41⟩)
  · have c1 : ¬ cH e = 0 := fun k => c (Or.inl k)
    have c2 : ¬ hC m = 0 := fun k => c (Or.inr k)
    refine ⟨_, upd sR e (gR e &&& hR m), _, _, _, _, H2, pk_us, pk_us, Or.inl ⟨pk_us, c1, c2⟩, ?_, ?_⟩
    · intro j hj
      exact ⟨by rw [pk_un hj]; exact k1 j hj, pk_un hj, pk_un hj⟩
    · intro post h
      have K42 : wX_fillIn_42 post (nI e) (nI m) (gR e &&& hR m) 1 fp fl gM gR tC cH hF hR hC cE sF1 sR sM hD1 nX1 := by
        unfold wX_fillIn_42
        simp only [ce, cm]
        exact ⟨im, ie, nm_e (br_f (by decide) (K _ _ h))⟩
      unfold wpX_fillIn
      dsimp only
      refine W _ ?_
      dsimp only
      simp only [ce, cm]
      exact ⟨ie, im, nm_e ⟨ie, br_f c1 ⟨im, br_f c2 K42⟩⟩⟩
end
end
section
section
variable {fp fl : Int32} {gM gR tC cH hF hR hC cE sF sR sM hD nX : Nat → Int32}
/-- the walk's end: marks on, entry filled -/
theorem sp_do {tC' cH' hC' : Nat → Int32} {L : Nat → List Nat} {e m f : Nat} (R : sp_RG fp gM cH' hF hC') (T : sp_CT gM gR tC cH hF hR hC sF sR sM) (H : sp_CH sF sM hD nX L)
    (he : e < 16) (hm : m < 8) (hg : gM e = nI m) (hf8 : f < 8) (hf : hF m = nI f)
    (t1 : tC' e = 1) (t2 : ∀ j, j ≠ e → tC' j = tC j) (c1 : ∀ j, cH j = 1 → cH' j = 1) (d1 : ∀ j, hC j = 1 → hC' j = 1) :
    ∃ sF' sR' sM' hD' nX' : Nat → Int32, sp_I fp gM gR tC' cH' hF hR hC' sF' sR' sM' hD' nX' ∧
      ∀ post : SX → Prop, post (fp, fl, gM, gR, tC', cH', hF, hR, hC', cE, sF', sR', sM', hD', nX') → wpX_fillIn post (fp, fl, gM, gR, tC', cH', hF, hR, hC', cE, sF, sR, sM, hD, nX) (nI e) (nI m) := by
  obtain ⟨sF', sR', sM', hD', nX', L', H', a1, a2, a3, a4, W⟩ := sp_fi (fp := fp) (fl := fl) (gM := gM) (gR := gR) (tC := tC') (cH := cH') (hF := hF) (hR := hR) (hC := hC') (cE := cE) (sR := sR) H he hm (by rw [hf]; exact nI_pos' (by omega))
  refine ⟨sF', sR', sM', hD', nX', ⟨R, ?_, L', H'⟩, W⟩
  intro x hx h
  by_cases hxe : x = e
  · subst hxe
    refine ⟨m, hm, hg, a2, a1, t1, ?_⟩
    rcases a3 with ⟨b1, b2, b3⟩ | b
    · exact Or.inl ⟨b1, (R.2.2.2.1 x hx).elim (fun k => absurd k b2) id, (R.2.2.2.2 m hm).elim (fun k => absurd k b3) id⟩
    · exact Or.inr b
  · obtain ⟨e1, e2, e3⟩ := a4 x hxe
    rw [e1] at h ⊢
    rw [e2, e3, t2 x hxe]
    obtain ⟨n, hn, g1, g2, g3, g4, g5⟩ := T x hx h
    refine ⟨n, hn, g1, g2, g3, g4, ?_⟩
    rcases g5 with ⟨b1, b2, b3⟩ | b
    · exact Or.inl ⟨b1, c1 x b2, d1 n b3⟩
    · exact Or.inr b
theorem sp_rX {post : Int32 → SX → Prop} {e : Nat} {x y : Int32} (hp : 8 * fp + y = nI e) (he : e < 16) (hno : ¬ (0 ≤ sF e ∧ ¬ sR e &&& x = 0)) (h : wX_reach_37 post x (nI e) fp fl gM gR tC cH hF hR hC cE sF sR sM hD nX) : wpX_reach post (fp, fl, gM, gR, tC, cH, hF, hR, hC, cE, sF, sR, sM, hD, nX) y x := by
  have ce : (nI e).toNatClampNeg = e := nI_clamp (by omega)
  have ie : vp_in (nI e) 16 := vp_in_nI he (by decide)
  unfold wpX_reach
  dsimp only
  refine nm_r hp ?_
  rw [ce]
  by_cases h0 : sF e < 0
  · exact ⟨ie, br_t h0 h⟩
  · by_cases h1 : sR e &&& x = 0
    · exact ⟨ie, br_f h0 ⟨ie, br_t h1 h⟩⟩
    · exact absurd ⟨Int32.not_lt.mp h0, h1⟩ hno
/-- both sides' reach: one outcome -/
theorem sp_reach (I : sp_I fp gM gR tC cH hF hR hC sF sR sM hD nX) {j : Nat} (hj : j ≤ 7) (x : Int32) :
    ∃ (r : Int32) (tC' cH' hC' sF' sR' sM' hD' nX' : Nat → Int32), sp_I fp gM gR tC' cH' hF hR hC' sF' sR' sM' hD' nX' ∧ (r = -2 ∨ r = -3 ∨ ∃ f : Nat, f < 8 ∧ r = nI f) ∧
      (∀ post : Int32 → SX → Prop, post r (fp, fl, gM, gR, tC', cH', hF, hR, hC', cE, sF', sR', sM', hD', nX') → wpX_reach post (fp, fl, gM, gR, tC, cH, hF, hR, hC, cE, sF, sR, sM, hD, nX) (nI j) x) ∧
      (∀ post : Int32 → SY → Prop, post r (fp, fl, gM, gR, tC', cH', hF, hR, hC', cE) → wpY_reach post (fp, fl, gM, gR, tC, cH, hF, hR, hC, cE) (nI j) x) := by
  have I0 := I
  obtain ⟨R, T, L, H⟩ := I
  obtain ⟨⟨q, hq, hp⟩, hgm, hhf, hch, hhc⟩ := R
  obtain ⟨e, hpe, he⟩ : ∃ e : Nat, 8 * fp + nI j = nI e ∧ e < 16 := ⟨8 * q + j, by rw [hp, sp_8], by omega⟩
  have ce : (nI e).toNatClampNeg = e := nI_clamp (by omega)
  have ie : vp_in (nI e) 16 := vp_in_nI he (by decide)
  have cN : ∀ n : Nat, n < 8 → (nI n).toNatClampNeg = n := fun n hn => nI_clamp (by omega)
  have iN : ∀ n : Nat, n < 8 → vp_in (nI n) 8 := fun n hn => vp_in_nI hn (by decide)
  have pN : ∀ n : Nat, n < 8 → ¬ nI n < 0 := fun n hn => nI_pos (by omega)
  have m1 : (-1 : Int32) < 0 := by decide
  by_cases hit : 0 ≤ sF e ∧ ¬ sR e &&& x = 0
  · obtain ⟨h0, h1⟩ := hit
    obtain ⟨m, hm, g1, s1, f1, t1, d⟩ := T e he h0
    have cm := cN m hm
    have im := iN m hm
    obtain ⟨f, hf8, hf⟩ : ∃ f : Nat, f < 8 ∧ hF m = nI f := (hhf m hm).elim (fun k => absurd h0 (by rw [f1, k]; exact sp_m1)) id
    have gx : ¬ gR e &&& x = 0 := by
      intro k
      rcases d with ⟨d, _, _⟩ | d
      · exact h1 (by rw [d]; exact sp_and1 k)
      · exact h1 (by rw [d]; exact sp_and3 (sp_and1 k))
    have hx : ¬ hR m &&& x = 0 := by
      intro k
      rcases d with ⟨d, _, _⟩ | d
      · exact h1 (by rw [d]; exact sp_and2 k)
      · exact h1 (by rw [d]; exact sp_and3 (sp_and2 k))
    have h2 : x = 2 → cH e = 1 ∧ hC m = 1 := by
      intro k
      rcases d with ⟨_, d1, d2⟩ | d
      · exact ⟨d1, d2⟩
      · exact absurd (by rw [d, k]; exact sp_and4 _) h1
    refine ⟨nI f, tC, cH, hC, sF, sR, sM, hD, nX, I0, Or.inr (Or.inr ⟨f, hf8, rfl⟩), ?_, ?_⟩
    · intro post h
      unfold wpX_reach
      dsimp only
      refine nm_r hpe ?_
      rw [ce]
      refine ⟨ie, br_f (Int32.not_lt.mpr h0) ⟨ie, br_f h1 ⟨ie, ?_⟩⟩⟩
      rw [f1, hf]
      exact h
    · intro post h
      unfold wpY_reach
      dsimp only
      refine nm_r hpe ?_
      rw [ce]
      refine ⟨ie, nm_r g1 ?_⟩
      rw [cm, hf]
      refine br_f (pN m hm) ⟨ie, br_f gx ⟨im, br_f (pN f hf8) ⟨im, br_f hx ⟨ie, nm_r (sp_same t1) (br_c ?_ (fun _ => ⟨im, h⟩))⟩⟩⟩⟩
      intro k
      exact ⟨ie, nm_r (sp_same (h2 k).1) ⟨im, nm_r (sp_same (h2 k).2) ⟨im, h⟩⟩⟩
  · have X37 : ∀ post : Int32 → SX → Prop, wX_reach_37 post x (nI e) fp fl gM gR tC cH hF hR hC cE sF sR sM hD nX → wpX_reach post (fp, fl, gM, gR, tC, cH, hF, hR, hC, cE, sF, sR, sM, hD, nX) (nI j) x := fun post h => sp_rX hpe he hit h
    rcases hgm e he with g | ⟨m, hm, g⟩
    · refine ⟨-2, tC, cH, hC, sF, sR, sM, hD, nX, I0, Or.inl rfl, ?_, ?_⟩
      · intro post h
        refine X37 post ?_
        unfold wX_reach_37
        rw [ce]
        exact ⟨ie, nm_r g (br_t m1 h)⟩
      · intro post h
        unfold wpY_reach
        dsimp only
        refine nm_r hpe ?_
        rw [ce]
        exact ⟨ie, nm_r g (br_t m1 h)⟩
    · have cm := cN m hm
      have im := iN m hm
      by_cases gx : gR e &&& x = 0
      · refine ⟨-2, tC, cH, hC, sF, sR, sM, hD, nX, I0, Or.inl rfl, ?_, ?_⟩
        · intro post h
          refine X37 post ?_
          unfold wX_reach_37
          rw [ce]
          exact ⟨ie, nm_r g (br_f (pN m hm) ⟨ie, br_t gx h⟩)⟩
        · intro post h
          unfold wpY_reach
          dsimp only
          refine nm_r hpe ?_
          rw [ce]
          exact ⟨ie, nm_r g (br_f (pN m hm) ⟨ie, br_t gx h⟩)⟩
      · rcases hhf m hm with f | ⟨f, hf8, hf⟩
        · refine ⟨-3, tC, cH, hC, sF, sR, sM, hD, nX, I0, Or.inr (Or.inl rfl), ?_, ?_⟩
          · intro post h
            refine X37 post ?_
            unfold wX_reach_37
            rw [ce]
            refine ⟨ie, nm_r g ?_⟩
            rw [cm, f]
            exact br_f (pN m hm) ⟨ie, br_f gx ⟨im, br_t m1 h⟩⟩
          · intro post h
            unfold wpY_reach
            dsimp only
            refine nm_r hpe ?_
            rw [ce]
            refine ⟨ie, nm_r g ?_⟩
            rw [cm, f]
            exact br_f (pN m hm) ⟨ie, br_f gx ⟨im, br_t m1 h⟩⟩
        · by_cases hx : hR m &&& x = 0
          · refine ⟨-3, tC, cH, hC, sF, sR, sM, hD, nX, I0, Or.inr (Or.inl rfl), ?_, ?_⟩
            · intro post h
              refine X37 post ?_
              unfold wX_reach_37
              rw [ce]
              refine ⟨ie, nm_r g ?_⟩
              rw [cm, hf]
              exact br_f (pN m hm) ⟨ie, br_f gx ⟨im, br_f (pN f hf8) ⟨im, br_t hx h⟩⟩⟩
            · intro post h
              unfold wpY_reach
              dsimp only
              refine nm_r hpe ?_
              rw [ce]
              refine ⟨ie, nm_r g ?_⟩
              rw [cm, hf]
              exact br_f (pN m hm) ⟨ie, br_f gx ⟨im, br_f (pN f hf8) ⟨im, br_t hx h⟩⟩⟩
          · have X116 : ∀ (tC' cH' hC' sF' sR' sM' hD' nX' : Nat → Int32) (post : Int32 → SX → Prop),
                (∀ post : SX → Prop, post (fp, fl, gM, gR, tC', cH', hF, hR, hC', cE, sF', sR', sM', hD', nX') → wpX_fillIn post (fp, fl, gM, gR, tC', cH', hF, hR, hC', cE, sF, sR, sM, hD, nX) (nI e) (nI m)) →
                post (nI f) (fp, fl, gM, gR, tC', cH', hF, hR, hC', cE, sF', sR', sM', hD', nX') → wX_reach_116 post (nI e) (nI m) fp fl gM gR tC' cH' hF hR hC' cE sF sR sM hD nX := by
              intro tC' cH' hC' sF' sR' sM' hD' nX' post W h
              unfold wX_reach_116
              refine W _ ?_
              dsimp only
              rw [cm, hf]
              exact ⟨im, h⟩
            have tt : ∀ k, k ≠ e → upd tC e 1 k = tC k := fun k hk => pk_un hk
            by_cases x2 : x = 2
            · have R' : sp_RG fp gM (upd cH e 1) hF (upd hC m 1) := by
                refine ⟨⟨q, hq, hp⟩, hgm, hhf, ?_, ?_⟩
                · intro k hk
                  by_cases hke : k = e
                  · exact Or.inr (by rw [hke, pk_us])
                  · rw [pk_un hke]; exact hch k hk
                · intro k hk
                  by_cases hke : k = m
                  · exact Or.inr (by rw [hke, pk_us])
                  · rw [pk_un hke]; exact hhc k hk
              have u1 : ∀ (a : Nat → Int32) (i k : Nat), a k = 1 → upd a i 1 k = 1 := by
                intro a i k hk
                by_cases hki : k = i
                · rw [hki, pk_us]
                · rw [pk_un hki, hk]
              obtain ⟨sF', sR', sM', hD', nX', I', W⟩ := sp_do (fl := fl) (cE := cE) (tC' := upd tC e 1) R' T H he hm g hf8 hf pk_us tt (u1 cH e) (u1 hC m)
              refine ⟨nI f, upd tC e 1, upd cH e 1, upd hC m 1, sF', sR', sM', hD', nX', I', Or.inr (Or.inr ⟨f, hf8, rfl⟩), ?_, ?_⟩
              · intro post h
                refine X37 post ?_
                unfold wX_reach_37
                rw [ce]
                refine ⟨ie, nm_r g ?_⟩
                rw [cm, hf]
                exact br_f (pN m hm) ⟨ie, br_f gx ⟨im, br_f (pN f hf8) ⟨im, br_f hx ⟨ie, nm_e (br_t x2 ⟨ie, nm_e ⟨im, nm_e (X116 _ _ _ _ _ _ _ _ post W h)⟩⟩)⟩⟩⟩⟩
              · intro post h
                unfold wpY_reach
                dsimp only
                refine nm_r hpe ?_
                rw [ce]
                refine ⟨ie, nm_r g ?_⟩
                rw [cm, hf]
                exact br_f (pN m hm) ⟨ie, br_f gx ⟨im, br_f (pN f hf8) ⟨im, br_f hx ⟨ie, nm_e (br_t x2 ⟨ie, nm_e ⟨im, nm_e ⟨im, h⟩⟩⟩)⟩⟩⟩⟩
            · obtain ⟨sF', sR', sM', hD', nX', I', W⟩ := sp_do (fl := fl) (cE := cE) (tC' := upd tC e 1) ⟨⟨q, hq, hp⟩, hgm, hhf, hch, hhc⟩ T H he hm g hf8 hf pk_us tt (fun _ k => k) (fun _ k => k)
              refine ⟨nI f, upd tC e 1, cH, hC, sF', sR', sM', hD', nX', I', Or.inr (Or.inr ⟨f, hf8, rfl⟩), ?_, ?_⟩
              · intro post h
                refine X37 post ?_
                unfold wX_reach_37
                rw [ce]
                refine ⟨ie, nm_r g ?_⟩
                rw [cm, hf]
                exact br_f (pN m hm) ⟨ie, br_f gx ⟨im, br_f (pN f hf8) ⟨im, br_f hx ⟨ie, nm_e (br_f x2 (X116 _ _ _ _ _ _ _ _ post W h))⟩⟩⟩⟩
              · intro post h
                unfold wpY_reach
                dsimp only
                refine nm_r hpe ?_
                rw [ce]
                refine ⟨ie, nm_r g ?_⟩
                rw [cm, hf]
                exact br_f (pN m hm) ⟨ie, br_f gx ⟨im, br_f (pN f hf8) ⟨im, br_f hx ⟨ie, nm_e (br_f x2 ⟨im, h⟩)⟩⟩⟩⟩
end
end
section
section
variable {fp fl : Int32} {gM gR cH hF hR hC cE sR sM : Nat → Int32}
/-- setHost's loop: the list of the middle page is emptied -/
theorem sp_sh {tC : Nat → Int32} {m : Nat} (hm : m < 8) : ∀ (t : List Nat) (sF hD nX : Nat → Int32) (L : Nat → List Nat), sp_CH sF sM hD nX L → L m = t →
    ∃ (sF' hD' nX' : Nat → Int32) (L' : Nat → List Nat), sp_CH sF' sM hD' nX' L' ∧ L' m = [] ∧ (∀ j, sF' j = sF j ∨ ¬ 0 ≤ sF' j) ∧
      ∀ (post : Int32 → SX → Prop) (x2 x3 : Int32) (n s : Nat), t.length < n → s + t.length ≤ 16 → wX_setHost_55 post (nI m) x2 x3 fp fl gM gR tC cH hF hR hC cE sF' sR sM hD' nX' → wX_setHost_23 post (nI m) x2 x3 n (nI s) fp fl gM gR tC cH hF hR hC cE sF sR sM hD nX := by
  have cm : (nI m).toNatClampNeg = m := nI_clamp (by omega)
  have im : vp_in (nI m) 8 := vp_in_nI hm (by decide)
  intro t
  induction t with
  | nil =>
    intro sF hD nX L H hL
    have hc := (H.2 m hm).1
    rw [hL] at hc
    refine ⟨sF, hD, nX, L, H, hL, fun _ => Or.inl rfl, ?_⟩
    intro post x2 x3 n s hn hs h
    obtain ⟨n, rfl⟩ : ∃ k, n = k + 1 := ⟨n - 1, by rw [List.length_nil] at hn; omega⟩
    have hneg : hD (nI m).toNatClampNeg < 0 := by
      rw [cm, show hD m = -1 from hc]
      decide
    exact br_c (fun _ => h) (fun _ => ⟨im, br_t hneg h⟩)
  | cons e t ih =>
    intro sF hD nX L H hL
    have hc := (H.2 m hm).1
    rw [hL] at hc
    obtain ⟨h1, he, _⟩ := hc
    obtain ⟨sF1, hD1, nX1, H1, n1, k1, W⟩ := sp_tb (fp := fp) (fl := fl) (gM := gM) (gR := gR) (tC := tC) (cH := cH) (hF := hF) (hR := hR) (hC := hC) (cE := cE) (sR := sR) H he
    obtain ⟨sF', hD', nX', L', H', e', k', W'⟩ := ih sF1 hD1 nX1 _ H1 (by show (L m).erase e = t; rw [hL, List.erase_cons_head])
    refine ⟨sF', hD', nX', L', H', e', ?_, ?_⟩
    · intro j
      rcases k' j with k | k
      · by_cases hj : j = e
        · exact Or.inr (by rw [k, hj]; exact n1)
        · exact Or.inl (by rw [k, k1 j hj])
      · exact Or.inr k
    · intro post x2 x3 n s hn hs h
      rw [List.length_cons] at hn hs
      obtain ⟨n, rfl⟩ : ∃ k, n = k + 1 := ⟨n - 1, by omega⟩
      have hd1 : hD (nI m).toNatClampNeg = nI e := by rw [cm]; exact h1
      unfold wX_setHost_23
      rw [hd1]
      refine br_f (nI_ge (b := 16) (by omega) (by decide)) ⟨im, br_f (nI_pos (by omega)) ⟨im, ?_⟩⟩
      refine W _ ?_
      dsimp only
      refine nm_r (nI_1 s) ?_
      exact W' post x2 x3 n (s + 1) (by omega) (by omega) h
/-- age's loops: one outcome -/
theorem sp_ag {q : Nat} (hq : q < 2) : ∀ (d i : Nat) (c : Int32) (tC sF hD nX : Nat → Int32) (L : Nat → List Nat), i + d = 8 → sp_CH sF sM hD nX L →
    ∃ (r : Int32) (tC' sF' hD' nX' : Nat → Int32) (L' : Nat → List Nat), sp_CH sF' sM hD' nX' L' ∧ (∀ j, (sF' j = sF j ∧ tC' j = tC j) ∨ ¬ 0 ≤ sF' j) ∧
      (∀ (post : Int32 → SX → Prop), post r (fp, fl, gM, gR, tC', cH, hF, hR, hC, cE, sF', sR, sM, hD', nX') → wX_age_16 post (nI q) (d + 1) c (nI (8 * q + i)) fp fl gM gR tC cH hF hR hC cE sF sR sM hD nX) ∧
      (∀ (post : Int32 → SY → Prop), post r (fp, fl, gM, gR, tC', cH, hF, hR, hC, cE) → wY_age_14 post (nI q) fp fl (d + 1) c (nI i) gM gR tC cH hF hR hC cE) := by
  intro d
  induction d with
  | zero =>
    intro i c tC sF hD nX L hi H
    refine ⟨c, tC, sF, hD, nX, L, H, fun _ => Or.inl ⟨rfl, rfl⟩, ?_, ?_⟩
    · intro post h
      unfold wX_age_16
      rw [sp_88]
      exact br_t (nI_le (by omega) (by omega)) h
    · intro post h
      exact br_t (nI_le (a := 8) (by omega) (by omega)) h
  | succ d ih =>
    intro i c tC sF hD nX L hi H
    have he : 8 * q + i < 16 := by omega
    have ce : (nI (8 * q + i)).toNatClampNeg = 8 * q + i := nI_clamp (by omega)
    have ie : vp_in (nI (8 * q + i)) 16 := vp_in_nI he (by decide)
    obtain ⟨sF1, hD1, nX1, H1, n1, k1, W⟩ := sp_tb (fp := fp) (fl := fl) (gM := gM) (gR := gR) (tC := upd tC (8 * q + i) 0) (cH := cH) (hF := hF) (hR := hR) (hC := hC) (cE := cE) (sR := sR) H he
    have G : ∀ c' : Int32, ∃ (r : Int32) (tC' sF' hD' nX' : Nat → Int32) (L' : Nat → List Nat), sp_CH sF' sM hD' nX' L' ∧ (∀ j, (sF' j = sF j ∧ tC' j = tC j) ∨ ¬ 0 ≤ sF' j) ∧
      (∀ (post : Int32 → SX → Prop) (z0 : Int32), c + z0 = c' → post r (fp, fl, gM, gR, tC', cH, hF, hR, hC, cE, sF', sR, sM, hD', nX') → wX_age_42 post (wX_age_16 post (nI q) (d + 1)) (nI q) (nI (8 * q + i)) z0 c fp fl gM gR tC cH hF hR hC cE sF sR sM hD nX) ∧
      (∀ (post : Int32 → SY → Prop), post r (fp, fl, gM, gR, tC', cH, hF, hR, hC, cE) → wY_age_37 post (wY_age_14 post (nI q) fp fl (d + 1)) (nI q) c' (nI i) fp fl gM gR tC cH hF hR hC cE) := by
      intro c'
      obtain ⟨r, tC', sF', hD', nX', L', H', k', WX, WY⟩ := ih (i + 1) c' (upd tC (8 * q + i) 0) sF1 hD1 nX1 _ (by omega) H1
      refine ⟨r, tC', sF', hD', nX', L', H', ?_, ?_, ?_⟩
      · intro j
        rcases k' j with ⟨a, b⟩ | k
        · by_cases hj : j = 8 * q + i
          · exact Or.inr (by rw [a, hj]; exact n1)
          · exact Or.inl ⟨by rw [a, k1 j hj], by rw [b, pk_un hj]⟩
        · exact Or.inr k
      · intro post z0 hz h
        unfold wX_age_42
        refine nm_r hz ⟨ie, nm_r (e' := upd tC (8 * q + i) 0) (by rw [ce]; rfl) ?_⟩
        refine W _ ?_
        dsimp only
        exact nm_r (nI_1 (8 * q + i)) (WX post h)
      · intro post h
        unfold wY_age_37
        rw [sp_8]
        exact ⟨ie, nm_r (e' := upd tC (8 * q + i) 0) (by rw [ce]; rfl) (nm_r (nI_1 i) (WY post h))⟩
    have hX : ¬ nI (8 * q + 8) ≤ nI (8 * q + i) := nI_ge (by omega) (by omega)
    have hY : ¬ (8 : Int32) ≤ nI i := nI_ge (b := 8) (by omega) (by omega)
    by_cases h0 : tC (8 * q + i) = 0
    · obtain ⟨r, tC', sF', hD', nX', L', H', k', WX, WY⟩ := G c
      refine ⟨r, tC', sF', hD', nX', L', H', k', ?_, ?_⟩
      · intro post h
        unfold wX_age_16
        rw [sp_88, ce]
        exact br_f hX ⟨ie, br_t h0 (WX post 0 (Int32.add_zero c) h)⟩
      · intro post h
        unfold wY_age_14
        rw [sp_8, ce]
        exact br_f hY ⟨ie, br_t h0 (WY post h)⟩
    · obtain ⟨r, tC', sF', hD', nX', L', H', k', WX, WY⟩ := G (c + 1)
      refine ⟨r, tC', sF', hD', nX', L', H', k', ?_, ?_⟩
      · intro post h
        unfold wX_age_16
        rw [sp_88, ce]
        exact br_f hX ⟨ie, br_f h0 (WX post 1 rfl h)⟩
      · intro post h
        unfold wY_age_14
        rw [sp_8, ce]
        exact br_f hY ⟨ie, br_f h0 (nm_e (WY post h))⟩
end
/-- the constructors' loops: -1 at d places from i on -/
def sp_fl (a : Nat → Int32) (i : Nat) : Nat → Nat → Int32
  | 0 => a
  | d + 1 => sp_fl (upd a i (-1)) (i + 1) d
theorem sp_fl_keep : ∀ (d i j : Nat) (a : Nat → Int32), j < i → sp_fl a i d j = a j
  | 0, _, _, _, _ => rfl
  | d + 1, i, j, a, h => by
    show sp_fl (upd a i (-1)) (i + 1) d j = a j
    rw [sp_fl_keep d (i + 1) j _ (by omega), pk_un (by omega)]
theorem sp_fl_at : ∀ (d i j : Nat) (a : Nat → Int32), i ≤ j → j < i + d → sp_fl a i d j = -1
  | 0, i, j, _, h, h2 => by omega
  | d + 1, i, j, a, h, h2 => by
    show sp_fl (upd a i (-1)) (i + 1) d j = -1
    by_cases hj : j = i
    · rw [sp_fl_keep d (i + 1) j _ (by omega), hj, pk_us]
    · exact sp_fl_at d (i + 1) j _ (by omega) (by omega)
section
variable {fp fl : Int32} {gR tC cH hR hC cE sR sM nX : Nat → Int32}
theorem sp_iX8 {post : SX → Prop} {gM sF : Nat → Int32} : ∀ (d i : Nat) (hF hD : Nat → Int32), i + d = 8 → post (fp, fl, gM, gR, tC, cH, sp_fl hF i d, hR, hC, cE, sF, sR, sM, sp_fl hD i d, nX) → wX_init_138 post fp fl (d + 1) (nI i) gM gR tC cH hF hR hC cE sF sR sM hD nX := by
  intro d
  induction d with
  | zero =>
    intro i hF hD hi h
    exact br_t (nI_le (a := 8) (by omega) (by omega)) h
  | succ d ih =>
    intro i hF hD hi h
    have ci : (nI i).toNatClampNeg = i := nI_clamp (by omega)
    have ii : vp_in (nI i) 8 := vp_in_nI (by omega) (by decide)
    unfold wX_init_138
    rw [ci]
    exact br_f (nI_ge (b := 8) (by omega) (by decide)) ⟨ii, nm_e ⟨ii, nm_e (nm_r (nI_1 i) (ih (i + 1) _ _ (by omega) h))⟩⟩
theorem sp_iX16 {post : SX → Prop} {hF hD : Nat → Int32} : ∀ (d i : Nat) (gM sF : Nat → Int32), i + d = 16 → post (fp, fl, sp_fl gM i d, gR, tC, cH, sp_fl hF 0 8, hR, hC, cE, sp_fl sF i d, sR, sM, sp_fl hD 0 8, nX) → wX_init_110 post fp fl (d + 1) (nI i) gM gR tC cH hF hR hC cE sF sR sM hD nX := by
  intro d
  induction d with
  | zero =>
    intro i gM sF hi h
    exact br_t (nI_le (a := 16) (by omega) (by omega)) ⟨9, sp_iX8 8 0 hF hD rfl h⟩
  | succ d ih =>
    intro i gM sF hi h
    have ci : (nI i).toNatClampNeg = i := nI_clamp (by omega)
    have ii : vp_in (nI i) 16 := vp_in_nI (by omega) (by decide)
    unfold wX_init_110
    rw [ci]
    exact br_f (nI_ge (b := 16) (by omega) (by decide)) ⟨ii, nm_e ⟨ii, nm_e (nm_r (nI_1 i) (ih (i + 1) _ _ (by omega) h))⟩⟩
theorem sp_iY8 {post : SY → Prop} {gM : Nat → Int32} : ∀ (d i : Nat) (hF : Nat → Int32), i + d = 8 → post (fp, fl, gM, gR, tC, cH, sp_fl hF i d, hR, hC, cE) → wY_init_91 post fp fl (d + 1) (nI i) gM gR tC cH hF hR hC cE := by
  intro d
  induction d with
  | zero =>
    intro i hF hi h
    exact br_t (nI_le (a := 8) (by omega) (by omega)) h
  | succ d ih =>
    intro i hF hi h
    have ci : (nI i).toNatClampNeg = i := nI_clamp (by omega)
    have ii : vp_in (nI i) 8 := vp_in_nI (by omega) (by decide)
    unfold wY_init_91
    rw [ci]
    exact br_f (nI_ge (b := 8) (by omega) (by decide)) ⟨ii, nm_e (nm_r (nI_1 i) (ih (i + 1) _ (by omega) h))⟩
theorem sp_iY16 {post : SY → Prop} {hF : Nat → Int32} : ∀ (d i : Nat) (gM : Nat → Int32), i + d = 16 → post (fp, fl, sp_fl gM i d, gR, tC, cH, sp_fl hF 0 8, hR, hC, cE) → wY_init_70 post fp fl (d + 1) (nI i) gM gR tC cH hF hR hC cE := by
  intro d
  induction d with
  | zero =>
    intro i gM hi h
    exact br_t (nI_le (a := 16) (by omega) (by omega)) ⟨9, sp_iY8 8 0 hF rfl h⟩
  | succ d ih =>
    intro i gM hi h
    have ci : (nI i).toNatClampNeg = i := nI_clamp (by omega)
    have ii : vp_in (nI i) 16 := vp_in_nI (by omega) (by decide)
    unfold wY_init_70
    rw [ci]
    exact br_f (nI_ge (b := 16) (by omega) (by decide)) ⟨ii, nm_e (nm_r (nI_1 i) (ih (i + 1) _ (by omega) h))⟩
end
end
section
theorem i_vc0 : wpX_init (fun u => wpY_init (fun v => i_Rel 0 u v)) := by
  refine ⟨17, sp_iX16 16 0 _ _ rfl ?_⟩
  refine ⟨17, sp_iY16 16 0 _ rfl ?_⟩
  have h16 : ∀ e, e < 16 → sp_fl (fun _ => 0) 0 16 e = -1 := fun e he => sp_fl_at 16 0 e _ (by omega) (by omega)
  have h8 : ∀ e, e < 8 → sp_fl (fun _ => 0) 0 8 e = -1 := fun e he => sp_fl_at 8 0 e _ (by omega) (by omega)
  have hno : ∀ e, e < 16 → ¬ 0 ≤ sp_fl (fun _ => 0) 0 16 e := fun e he => by rw [h16 e he]; exact sp_m1
  refine ⟨rfl, ⟨⟨0, by decide, rfl⟩, fun e he => Or.inl (h16 e he), fun m hm => Or.inl (h8 m hm), fun _ _ => Or.inl rfl, fun _ _ => Or.inl rfl⟩, fun e he h => absurd h (hno e he), fun _ => [], fun e he h => absurd h (hno e he), ?_⟩
  intro m hm
  exact ⟨h8 m hm, List.nodup_nil, fun e => ⟨fun h => absurd h List.not_mem_nil, fun h => absurd h.2.1 (hno e h.1)⟩⟩
theorem i_vc_setGuest {k : Nat} {u : SX} {v : SY} (I : i_Rel k u v) (hk : k + 5 ≤ 2560) (v1 : Int32) (v2 : Int32) (v3 : Int32) (v4 : Int32) : wpX_setGuest (fun r u' => wpY_setGuest (fun r' v' => r' = r ∧ i_Rel (k + 5) u' v') v v1 v2 v3 v4) u v1 v2 v3 v4 := by
  obtain ⟨fp, fl, gM, gR, tC, cH, hF, hR, hC, cE, sF, sR, sM, hD, nX⟩ := u
  obtain ⟨rfl, I⟩ := I
  unfold wpX_setGuest wpY_setGuest
  dsimp only
  rcases sp_rg v1 (M := 1) (N := 1) (by decide) with h | ⟨q, hq, rfl⟩
  · exact sp_s0 h (br_t rfl (sp_o1 h (br_f (by decide) ⟨rfl, rfl, I⟩)))
  refine sp_s1 hq (br_f (by decide) ?_)
  rcases sp_rg v2 (M := 7) (N := 7) (by decide) with h | ⟨j, hj, rfl⟩
  · exact sp_n0 h (br_t rfl (sp_o0 (N := 1) hq (by decide) (br_t rfl (sp_o1 h (br_f (by decide) ⟨rfl, rfl, I⟩)))))
  refine sp_n1 hj (br_f (by decide) ?_)
  by_cases h1 : v3 < -1
  · exact br_t h1 (sp_o0 (N := 1) hq (by decide) (br_t rfl (sp_o0 (N := 7) hj (by decide) (br_t rfl (br_t h1 ⟨rfl, rfl, I⟩)))))
  by_cases h2 : v3 ≤ 7
  · refine br_f h1 (br_t h2 (nm_r (sp_8 q j) ?_))
    have he : 8 * q + j < 16 := by omega
    have ce : (nI (8 * q + j)).toNatClampNeg = 8 * q + j := nI_clamp (by omega)
    have ie : vp_in (nI (8 * q + j)) 16 := vp_in_nI he (by decide)
    generalize hE : 8 * q + j = e at he ce ie
    obtain ⟨R, T, L, H⟩ := I
    obtain ⟨sF1, hD1, nX1, H1, n1, k1, W⟩ := sp_tb (fp := fp) (fl := fl) (gM := gM) (gR := gR) (tC := tC) (cH := cH) (hF := hF) (hR := hR) (hC := hC) (cE := cE) (sR := sR) H he
    refine W _ ?_
    dsimp only
    rw [ce]
    refine ⟨ie, nm_e ⟨ie, nm_e ⟨ie, nm_e ⟨ie, nm_e ?_⟩⟩⟩⟩
    refine sp_o0 (N := 1) hq (by decide) (br_t rfl (sp_o0 (N := 7) hj (by decide) (br_t rfl (br_f h1 (br_t h2 (nm_r ((sp_8 q j).trans (congrArg nI hE)) ?_))))))
    rw [ce]
    refine ⟨ie, nm_e ⟨ie, nm_e ⟨ie, nm_e ⟨ie, nm_e ⟨rfl, rfl, ?_, ?_, _, H1⟩⟩⟩⟩⟩
    · refine ⟨R.1, ?_, R.2.2.1, ?_, R.2.2.2.2⟩
      · intro x hx
        by_cases hxe : x = e
        · rw [hxe, pk_us]; exact sp_mid h1 h2
        · rw [pk_un hxe]; exact R.2.1 x hx
      · intro x hx
        by_cases hxe : x = e
        · rw [hxe, pk_us]; exact Or.inl rfl
        · rw [pk_un hxe]; exact R.2.2.2.1 x hx
    · intro x hx h
      by_cases hxe : x = e
      · rw [hxe] at h; exact absurd h n1
      · rw [k1 x hxe] at h ⊢
        rw [pk_un hxe, pk_un hxe, pk_un hxe, pk_un hxe]
        exact T x hx h
  · exact br_f h1 (br_f h2 (sp_o0 (N := 1) hq (by decide) (br_t rfl (sp_o0 (N := 7) hj (by decide) (br_t rfl (br_f h1 (br_f h2 ⟨rfl, rfl, I⟩)))))))
theorem i_vc_setHost {k : Nat} {u : SX} {v : SY} (I : i_Rel k u v) (hk : k + 5 ≤ 2560) (v1 : Int32) (v2 : Int32) (v3 : Int32) : wpX_setHost (fun r u' => wpY_setHost (fun r' v' => r' = r ∧ i_Rel (k + 5) u' v') v v1 v2 v3) u v1 v2 v3 := by
  obtain ⟨fp, fl, gM, gR, tC, cH, hF, hR, hC, cE, sF, sR, sM, hD, nX⟩ := u
  obtain ⟨rfl, I⟩ := I
  unfold wpX_setHost wpY_setHost
  dsimp only
  rcases sp_rg v1 (M := 7) (N := 7) (by decide) with h | ⟨m, hj, rfl⟩
  · exact sp_n0 h (br_t rfl (sp_o1 h (br_f (by decide) ⟨rfl, rfl, I⟩)))
  refine sp_n1 hj (br_f (by decide) ?_)
  by_cases h1 : v2 < -1
  · exact br_t h1 (sp_o0 (N := 7) hj (by decide) (br_t rfl (br_t h1 ⟨rfl, rfl, I⟩)))
  by_cases h2 : v2 ≤ 7
  · refine br_f h1 (br_t h2 ?_)
    have hm : m < 8 := by omega
    have cm : (nI m).toNatClampNeg = m := nI_clamp (by omega)
    have im : vp_in (nI m) 8 := vp_in_nI hm (by decide)
    obtain ⟨R, T, L, H⟩ := I
    obtain ⟨sF', hD', nX', L', H', e', k', W⟩ := sp_sh (fp := fp) (fl := fl) (gM := gM) (gR := gR) (tC := tC) (cH := cH) (hF := hF) (hR := hR) (hC := hC) (cE := cE) (sR := sR) hm (L m) sF hD nX L H rfl
    have hl : (L m).length ≤ 16 := sp_len (H.2 m hm).2.1 (fun x hx => (((H.2 m hm).2.2 x).mp hx).1)
    refine ⟨17, W _ v2 v3 17 0 (by omega) (by omega) ?_⟩
    unfold wX_setHost_55
    rw [cm]
    refine ⟨im, nm_e ⟨im, nm_e ⟨im, nm_e ?_⟩⟩⟩
    refine sp_o0 (N := 7) hj (by decide) (br_t rfl (br_f h1 (br_t h2 ?_)))
    refine ⟨im, nm_e ⟨im, nm_e ⟨im, nm_e ⟨rfl, rfl, ?_, ?_, _, H'⟩⟩⟩⟩
    · refine ⟨R.1, R.2.1, ?_, R.2.2.2.1, ?_⟩
      · intro x hx
        by_cases hxe : x = m
        · rw [hxe, pk_us]; exact sp_mid h1 h2
        · rw [pk_un hxe]; exact R.2.2.1 x hx
      · intro x hx
        by_cases hxe : x = m
        · rw [hxe, pk_us]; exact Or.inl rfl
        · rw [pk_un hxe]; exact R.2.2.2.2 x hx
    · intro x hx h
      rcases k' x with e | e
      · have h3 := h
        rw [e] at h3 ⊢
        obtain ⟨n, hn, g1, g2, g3, g4, g5⟩ := T x hx h3
        have hnm : n ≠ m := by
          intro c
          rw [c] at g2
          have h5 := ((H'.2 m hm).2.2 x).mpr ⟨hx, h, g2⟩
          rw [e'] at h5
          exact absurd h5 List.not_mem_nil
        refine ⟨n, hn, g1, g2, ?_, g4, ?_⟩
        · rw [pk_un hnm]; exact g3
        · rw [pk_un hnm, pk_un hnm]; exact g5
      · exact absurd h e
  · exact br_f h1 (br_f h2 (sp_o0 (N := 7) hj (by decide) (br_t rfl (br_f h1 (br_f h2 ⟨rfl, rfl, I⟩)))))
theorem i_vc_change {k : Nat} {u : SX} {v : SY} (I : i_Rel k u v) (hk : k + 5 ≤ 2560) (v1 : Int32) : wpX_change (fun u' => wpY_change (fun v' => i_Rel (k + 5) u' v') v v1) u v1 := by
  obtain ⟨fp, fl, gM, gR, tC, cH, hF, hR, hC, cE, sF, sR, sM, hD, nX⟩ := u
  obtain ⟨rfl, R, T, L, H⟩ := I
  unfold wpX_change wpY_change
  dsimp only
  refine nm_e (nm_e ⟨rfl, ⟨?_, R.2⟩, T, L, H⟩)
  exact pk_andE v1 1 (by decide)
theorem i_vc_load {k : Nat} {u : SX} {v : SY} (I : i_Rel k u v) (hk : k + 5 ≤ 2560) (v1 : Int32) (v2 : Int32) : wpX_load (fun r u' => wpY_load (fun r' v' => r' = r ∧ i_Rel (k + 5) u' v') v v1 v2) u v1 v2 := by
  obtain ⟨fp, fl, gM, gR, tC, cH, hF, hR, hC, cE, sF, sR, sM, hD, nX⟩ := u
  obtain ⟨rfl, I⟩ := I
  unfold wpX_load wpY_load
  dsimp only
  rcases sp_rg v1 (M := 7) (N := 7) (by decide) with h | ⟨j, hj, rfl⟩
  · exact sp_n0 h (br_t rfl (sp_o1 h (br_f (by decide) ⟨rfl, rfl, I⟩)))
  refine sp_n1 hj (br_f (by decide) ?_)
  rcases sp_rg v2 (M := 3) (N := 3) (by decide) with h | ⟨c, hc, rfl⟩
  · exact sp_bad h (sp_o0 (N := 7) hj (by decide) (br_t rfl (sp_o1 h (br_f (by decide) ⟨rfl, rfl, I⟩))))
  refine br_f (nI_pos (by omega)) (br_t (nI_le (b := 3) hc (by decide)) ?_)
  obtain ⟨r, tC', cH', hC', sF', sR', sM', hD', nX', I', ho, WX, WY⟩ := sp_reach (fl := fl) (cE := cE) I hj 1
  refine WX _ ?_
  dsimp only
  rcases ho with rfl | rfl | ⟨f, hf, rfl⟩
  · exact br_f (by decide) (sp_o0 (N := 7) hj (by decide) (br_t rfl (sp_o0 (N := 3) hc (by decide) (br_t rfl (WY _ (br_f (by decide) ⟨rfl, rfl, I'⟩))))))
  · exact br_f (by decide) (sp_o0 (N := 7) hj (by decide) (br_t rfl (sp_o0 (N := 3) hc (by decide) (br_t rfl (WY _ (br_f (by decide) ⟨rfl, rfl, I'⟩))))))
  · have h0 : (0 : Int32) ≤ nI f := nI_pos' (by omega)
    have iv : vp_in (4 * nI f + nI c) 32 := by rw [sp_4]; exact vp_in_nI (by omega) (by decide)
    exact br_t h0 ⟨iv, nm_e (sp_o0 (N := 7) hj (by decide) (br_t rfl (sp_o0 (N := 3) hc (by decide) (br_t rfl (WY _ (br_t h0 ⟨iv, nm_e ⟨rfl, rfl, I'⟩⟩))))))⟩
theorem i_vc_store {k : Nat} {u : SX} {v : SY} (I : i_Rel k u v) (hk : k + 5 ≤ 2560) (v1 : Int32) (v2 : Int32) (v3 : Int32) : wpX_store (fun r u' => wpY_store (fun r' v' => r' = r ∧ i_Rel (k + 5) u' v') v v1 v2 v3) u v1 v2 v3 := by
  obtain ⟨fp, fl, gM, gR, tC, cH, hF, hR, hC, cE, sF, sR, sM, hD, nX⟩ := u
  obtain ⟨rfl, I⟩ := I
  unfold wpX_store wpY_store
  dsimp only
  rcases sp_rg v1 (M := 7) (N := 7) (by decide) with h | ⟨j, hj, rfl⟩
  · exact sp_n0 h (br_t rfl (sp_o1 h (br_f (by decide) ⟨rfl, rfl, I⟩)))
  refine sp_n1 hj (br_f (by decide) ?_)
  rcases sp_rg v2 (M := 3) (N := 3) (by decide) with h | ⟨c, hc, rfl⟩
  · exact sp_bad h (sp_o0 (N := 7) hj (by decide) (br_t rfl (sp_o1 h (br_f (by decide) ⟨rfl, rfl, I⟩))))
  refine br_f (nI_pos (by omega)) (br_t (nI_le (b := 3) hc (by decide)) ?_)
  obtain ⟨r, tC', cH', hC', sF', sR', sM', hD', nX', I', ho, WX, WY⟩ := sp_reach (fl := fl) (cE := cE) I hj 2
  refine WX _ ?_
  dsimp only
  rcases ho with rfl | rfl | ⟨f, hf, rfl⟩
  · exact br_f (by decide) (sp_o0 (N := 7) hj (by decide) (br_t rfl (sp_o0 (N := 3) hc (by decide) (br_t rfl (WY _ (br_f (by decide) ⟨rfl, rfl, I'⟩))))))
  · exact br_f (by decide) (sp_o0 (N := 7) hj (by decide) (br_t rfl (sp_o0 (N := 3) hc (by decide) (br_t rfl (WY _ (br_f (by decide) ⟨rfl, rfl, I'⟩))))))
  · have h0 : (0 : Int32) ≤ nI f := nI_pos' (by omega)
    have iv : vp_in (4 * nI f + nI c) 32 := by rw [sp_4]; exact vp_in_nI (by omega) (by decide)
    exact br_t h0 ⟨iv, nm_e (sp_o0 (N := 7) hj (by decide) (br_t rfl (sp_o0 (N := 3) hc (by decide) (br_t rfl (WY _ (br_t h0 ⟨iv, nm_e ⟨rfl, rfl, I'⟩⟩))))))⟩
theorem i_vc_fetch {k : Nat} {u : SX} {v : SY} (I : i_Rel k u v) (hk : k + 5 ≤ 2560) (v1 : Int32) : wpX_fetch (fun r u' => wpY_fetch (fun r' v' => r' = r ∧ i_Rel (k + 5) u' v') v v1) u v1 := by
  obtain ⟨fp, fl, gM, gR, tC, cH, hF, hR, hC, cE, sF, sR, sM, hD, nX⟩ := u
  obtain ⟨rfl, I⟩ := I
  unfold wpX_fetch wpY_fetch
  dsimp only
  rcases sp_rg v1 (M := 7) (N := 7) (by decide) with h | ⟨j, hj, rfl⟩
  · exact sp_n0 h (br_t rfl (sp_o1 h (br_f (by decide) ⟨rfl, rfl, I⟩)))
  refine sp_n1 hj (br_f (by decide) ?_)
  obtain ⟨r, tC', cH', hC', sF', sR', sM', hD', nX', I', ho, WX, WY⟩ := sp_reach (fl := fl) (cE := cE) I hj 4
  refine WX _ ?_
  dsimp only
  exact sp_o0 (N := 7) hj (by decide) (br_t rfl (WY _ ⟨rfl, rfl, I'⟩))
theorem i_vc_last {k : Nat} {u : SX} {v : SY} (I : i_Rel k u v) (hk : k + 5 ≤ 2560) : wpX_last (fun r => wpY_last (fun r' => r' = r ∧ i_Rel (k + 5) u v) v) u := by
  obtain ⟨fp, fl, gM, gR, tC, cH, hF, hR, hC, cE, sF, sR, sM, hD, nX⟩ := u
  obtain ⟨rfl, I⟩ := I
  exact ⟨rfl, rfl, I⟩
theorem i_vc_marks {k : Nat} {u : SX} {v : SY} (I : i_Rel k u v) (hk : k + 5 ≤ 2560) (v1 : Int32) (v2 : Int32) : wpX_marks (fun r => wpY_marks (fun r' => r' = r ∧ i_Rel (k + 5) u v) v v1 v2) u v1 v2 := by
  obtain ⟨fp, fl, gM, gR, tC, cH, hF, hR, hC, cE, sF, sR, sM, hD, nX⟩ := u
  obtain ⟨rfl, I⟩ := I
  unfold wpX_marks wpY_marks
  dsimp only
  rcases sp_rg v1 (M := 1) (N := 1) (by decide) with h | ⟨q, hq, rfl⟩
  · exact sp_s0 h (br_t rfl (sp_o1 h (br_f (by decide) ⟨rfl, rfl, I⟩)))
  refine sp_s1 hq (br_f (by decide) ?_)
  rcases sp_rg v2 (M := 7) (N := 7) (by decide) with h | ⟨j, hj, rfl⟩
  · exact sp_n0 h (br_t rfl (sp_o0 (N := 1) hq (by decide) (br_t rfl (sp_o1 h (br_f (by decide) ⟨rfl, rfl, I⟩)))))
  refine sp_n1 hj (br_f (by decide) (nm_r (sp_8 q j) ?_))
  have he : 8 * q + j < 16 := by omega
  have ie : vp_in (nI (8 * q + j)) 16 := vp_in_nI he (by decide)
  unfold wX_marks_48 wY_marks_51
  rw [sp_8]
  generalize 8 * q + j = e at he ie
  by_cases h0 : 0 ≤ gM (nI e).toNatClampNeg
  · by_cases h1 : tC (nI e).toNatClampNeg = 0
    · by_cases h2 : cH (nI e).toNatClampNeg = 0
      · exact ⟨ie, br_t h0 ⟨ie, br_t h1 ⟨ie, br_t h2 (sp_o0 (N := 1) hq (by decide) (br_t rfl (sp_o0 (N := 7) hj (by decide) (br_t rfl (nm_r rfl ⟨ie, br_t h0 ⟨ie, br_t h1 ⟨ie, br_t h2 ⟨rfl, rfl, I⟩⟩⟩⟩)))))⟩⟩⟩
      · exact ⟨ie, br_t h0 ⟨ie, br_t h1 ⟨ie, br_f h2 (sp_o0 (N := 1) hq (by decide) (br_t rfl (sp_o0 (N := 7) hj (by decide) (br_t rfl (nm_r rfl ⟨ie, br_t h0 ⟨ie, br_t h1 ⟨ie, br_f h2 ⟨rfl, rfl, I⟩⟩⟩⟩)))))⟩⟩⟩
    · by_cases h2 : cH (nI e).toNatClampNeg = 0
      · exact ⟨ie, br_t h0 ⟨ie, br_f h1 ⟨ie, br_t h2 (sp_o0 (N := 1) hq (by decide) (br_t rfl (sp_o0 (N := 7) hj (by decide) (br_t rfl (nm_r rfl ⟨ie, br_t h0 ⟨ie, br_f h1 ⟨ie, br_t h2 ⟨rfl, rfl, I⟩⟩⟩⟩)))))⟩⟩⟩
      · exact ⟨ie, br_t h0 ⟨ie, br_f h1 ⟨ie, br_f h2 (sp_o0 (N := 1) hq (by decide) (br_t rfl (sp_o0 (N := 7) hj (by decide) (br_t rfl (nm_r rfl ⟨ie, br_t h0 ⟨ie, br_f h1 ⟨ie, br_f h2 ⟨rfl, rfl, I⟩⟩⟩⟩)))))⟩⟩⟩
  · exact ⟨ie, br_f h0 (sp_o0 (N := 1) hq (by decide) (br_t rfl (sp_o0 (N := 7) hj (by decide) (br_t rfl (nm_r rfl ⟨ie, br_f h0 ⟨rfl, rfl, I⟩⟩)))))⟩
theorem i_vc_hostMark {k : Nat} {u : SX} {v : SY} (I : i_Rel k u v) (hk : k + 5 ≤ 2560) (v1 : Int32) : wpX_hostMark (fun r => wpY_hostMark (fun r' => r' = r ∧ i_Rel (k + 5) u v) v v1) u v1 := by
  obtain ⟨fp, fl, gM, gR, tC, cH, hF, hR, hC, cE, sF, sR, sM, hD, nX⟩ := u
  obtain ⟨rfl, I⟩ := I
  unfold wpX_hostMark wpY_hostMark
  dsimp only
  rcases sp_rg v1 (M := 7) (N := 7) (by decide) with h | ⟨m, hj, rfl⟩
  · exact sp_n0 h (br_t rfl (sp_o1 h (br_f (by decide) ⟨rfl, rfl, I⟩)))
  refine sp_n1 hj (br_f (by decide) ?_)
  have im : vp_in (nI m) 8 := vp_in_nI (by omega) (by decide)
  by_cases h0 : hF (nI m).toNatClampNeg < 0
  · exact ⟨im, br_t h0 (sp_o0 (N := 7) hj (by decide) (br_t rfl ⟨im, br_t h0 ⟨rfl, rfl, I⟩⟩))⟩
  · by_cases h1 : hC (nI m).toNatClampNeg = 0
    · exact ⟨im, br_f h0 ⟨im, br_t h1 (sp_o0 (N := 7) hj (by decide) (br_t rfl ⟨im, br_f h0 ⟨im, br_t h1 ⟨rfl, rfl, I⟩⟩⟩))⟩⟩
    · exact ⟨im, br_f h0 ⟨im, br_f h1 (sp_o0 (N := 7) hj (by decide) (br_t rfl ⟨im, br_f h0 ⟨im, br_f h1 ⟨rfl, rfl, I⟩⟩⟩))⟩⟩
theorem i_vc_age {k : Nat} {u : SX} {v : SY} (I : i_Rel k u v) (hk : k + 5 ≤ 2560) (v1 : Int32) : wpX_age (fun r u' => wpY_age (fun r' v' => r' = r ∧ i_Rel (k + 5) u' v') v v1) u v1 := by
  obtain ⟨fp, fl, gM, gR, tC, cH, hF, hR, hC, cE, sF, sR, sM, hD, nX⟩ := u
  obtain ⟨rfl, I⟩ := I
  unfold wpX_age wpY_age
  dsimp only
  rcases sp_rg v1 (M := 1) (N := 1) (by decide) with h | ⟨q, hq, rfl⟩
  · exact sp_s0 h (br_t rfl (sp_o1 h (br_f (by decide) ⟨rfl, rfl, I⟩)))
  refine sp_s1 hq (br_f (by decide) (nm_r (sp_80 q) ?_))
  obtain ⟨R, T, L, H⟩ := I
  obtain ⟨r, tC', sF', hD', nX', L', H', k', WX, WY⟩ := sp_ag (fp := fp) (fl := fl) (gM := gM) (gR := gR) (cH := cH) (hF := hF) (hR := hR) (hC := hC) (cE := cE) (sR := sR) (q := q) (by omega) 8 0 0 tC sF hD nX L rfl H
  refine ⟨9, WX _ ?_⟩
  refine sp_o0 (N := 1) hq (by decide) (br_t rfl ⟨9, WY _ ⟨rfl, rfl, R, ?_, L', H'⟩⟩)
  intro x hx h
  rcases k' x with ⟨e1, e2⟩ | e
  · rw [e1] at h ⊢
    rw [e2]
    exact T x hx h
  · exact absurd h e
theorem i_vc_frameCell {k : Nat} {u : SX} {v : SY} (I : i_Rel k u v) (hk : k + 5 ≤ 2560) (v1 : Int32) (v2 : Int32) : wpX_frameCell (fun r => wpY_frameCell (fun r' => r' = r ∧ i_Rel (k + 5) u v) v v1 v2) u v1 v2 := by
  obtain ⟨fp, fl, gM, gR, tC, cH, hF, hR, hC, cE, sF, sR, sM, hD, nX⟩ := u
  obtain ⟨rfl, I⟩ := I
  unfold wpX_frameCell wpY_frameCell
  dsimp only
  rcases sp_rg v1 (M := 7) (N := 7) (by decide) with h | ⟨f, hj, rfl⟩
  · exact sp_n0 h (br_t rfl (sp_o1 h (br_f (by decide) ⟨rfl, rfl, I⟩)))
  refine sp_n1 hj (br_f (by decide) ?_)
  rcases sp_rg v2 (M := 3) (N := 3) (by decide) with h | ⟨c, hc, rfl⟩
  · exact sp_bad2 h (sp_o0 (N := 7) hj (by decide) (br_t rfl (sp_o1 h (br_f (by decide) ⟨rfl, rfl, I⟩))))
  have iv : vp_in (4 * nI f + nI c) 32 := by rw [sp_4]; exact vp_in_nI (by omega) (by decide)
  exact br_f (nI_pos (by omega)) (br_f (nI_nlt (a := 3) hc (by decide)) ⟨iv, sp_o0 (N := 7) hj (by decide) (br_t rfl (sp_o0 (N := 3) hc (by decide) (br_t rfl ⟨iv, rfl, rfl, I⟩)))⟩)
end
